/-! TEXTS: a line; a court told -/
set_option maxRecDepth 100000
section SDR
variable {d : Nat} {h : jx_H} {cu : Option Nat} {F : Nat → Int32} {o p q z : cq_C} {T : List Value} {x : Int32 × Int32} {ru im : Nat → Option Nat} {tp : Nat → Int32} {R : Nat → Nat → Int32} {s : Nat → Int32} {a : Nat → Nat → Int32} {w : Nat → Int64}
variable {t M n k u j dn tm pm : Nat} {u' e' g' n' ow : Int32} {sb : Nat → Int32}
theorem T_line (hT : T.length = 6) (ht : 151 ≤ t) (eM : F 9 = nI M) (hM : M ≤ 400) (hn : n ≤ M) (hk : k < 5) (hc : canb k u tm pm) (htm : tm ≤ 6) (hpm : pm ≤ 6) (hdn : u ≠ 0 → 1 ≤ dn ∧ dn ≤ 12) (how : u ≠ 0 → 1 ≤ ow ∧ ow ≤ 99) :
    (∀ kk pl, lnh tp M k dn ow tm pm a n = .inl (kk, pl) → (kk ≤ 4 ∧ pl ≤ M) ∧ ∃ n2 s2 a2, jx_cr (d + 5) 211 [.ref t, .int (nI k)] (sw (tx h t (nI n) e' g' (nI j)) cu F o p (lq_s sb dn ow tm pm u, a, w) z T x ru im tp R) = some (.inr (), (sw (tx h t (n2) e' g' (nI j)) cu F o p (s2, a2, w) z T (nI kk, nI pl) ru im tp R))) ∧
    (∀ d2 o2 t2 p2 a2 m, lnh tp M k dn ow tm pm a n = .inr ((d2, o2, t2, p2, a2), m) → (n < m ∧ m ≤ M) ∧ (1 ≤ d2 ∧ d2 ≤ 12) ∧ (1 ≤ o2 ∧ o2 ≤ 99) ∧ t2 ≤ 6 ∧ p2 ≤ 6 ∧ jx_cr (d + 5) 211 [.ref t, .int (nI k)] (sw (tx h t (nI n) e' g' (nI j)) cu F o p (lq_s sb dn ow tm pm u, a, w) z T x ru im tp R) = some (.inl none, (sw (tx h t (nI m) e' g' (nI j)) cu F o p (lq_s sb d2 o2 t2 p2 (u + 1), a2, w) z T x ru im tp R))) := by
  have t3 : 3 ≤ t := by omega
  unfold canb at hc
  rcases (by omega : k = 0 ∨ k = 1 ∨ k = 2 ∨ k = 3 ∨ k = 4) with q | q | q | q | q
  · subst q
    have u0 : u = 0 := by omega
    subst u0
    have C := T_courtHere (d := d + 1) (h := h) (x := x) (cu := cu) (F := F) (o := o) (p := p) (z := z) (T := T) (ru := ru) (im := im) (tp := tp) (R := R) (t := t) (sb := sb) (dn := dn) (ow := ow) (tm := tm) (pm := pm) (u := j) (a := a) (w := w) (n := n) (e' := e') (g' := g') hT ht eM hM hn
    have z0 : (nI 0).toInt = 0 := by decide
    refine ⟨fun kk pl hk => ?_, fun d2 o2 t2 p2 a2 m hk => ?_⟩
    · obtain ⟨b1, n2, s2, a2, e2⟩ := C.1 kk pl hk
      refine ⟨b1, n2, s2, a2, ?_⟩
      simp only [cr_211, eb_211_0, eb_211_32, jx_ns_r, jx_ns_n, jx_ns_q, jx_ns_i, jx_gl_0, jx_gl_s, if_true, if_false, ite_true, ite_false, eq_self, Bool.false_eq_true, List.length_cons, List.length_nil, Nat.zero_le, Nat.reduceAdd, Nat.reduceSub, Nat.reduceLeDiff, Nat.reduceLT, Nat.reduceEqDiff, Int.reduceToNat, reduceIte, xk_iload, jx_iv_i, ak_I, xk_table, ak_T, jx_ov_s, List.getElem?_toArray, List.getElem?_cons_zero, List.getElem?_cons_succ, Int.reduceLT, Int.reduceSub, Int.reduceNeg, or_self, or_true, true_or, xe_aload, jx_rv_r, jx_rv_n, jx_rv_q, xe_inv0, jx_cc_i, jx_cc_v, Nat.reduceMod, Nat.reduceDiv, jx_cl9_i, xe_return, xk_getf, jx_gf_i, ak_V, xe_iconst, xi_0, xx_0, xi_20, xx_20, xe_inv2, xk_iast, ja_is, ak_S, ak_P, xe_dup, jx_2_i, jx_2_l, jx_2_r, jx_2_n, jx_2_q, xi_1, xx_1, xe_iadd, xk_putf, jx_pf_i, jx_pf_z, jx_pf_l, jx_pf_r, jx_pf_n, jx_pf_q, xe_isub, xe_istore, jx_s1, List.set_cons_zero, List.set_cons_succ, jx_2_u, jx_2_s, jx_k_i, jx_k_l, jx_k_r, jx_k_n, jx_k_u, jx_k_s, jx_k_q, tx_r ht, e2, z0, jx_cc_x xh_211]
    · obtain ⟨b1, b2, b3, rfl, rfl, e2⟩ := C.2 d2 o2 t2 p2 a2 m hk
      refine ⟨b1, b2, b3, htm, hpm, ?_⟩
      simp only [cr_211, eb_211_0, eb_211_32, jx_ns_r, jx_ns_n, jx_ns_q, jx_ns_i, jx_gl_0, jx_gl_s, if_true, if_false, ite_true, ite_false, eq_self, Bool.false_eq_true, List.length_cons, List.length_nil, Nat.zero_le, Nat.reduceAdd, Nat.reduceSub, Nat.reduceLeDiff, Nat.reduceLT, Nat.reduceEqDiff, Int.reduceToNat, reduceIte, xk_iload, jx_iv_i, ak_I, xk_table, ak_T, jx_ov_s, List.getElem?_toArray, List.getElem?_cons_zero, List.getElem?_cons_succ, Int.reduceLT, Int.reduceSub, Int.reduceNeg, or_self, or_true, true_or, xe_aload, jx_rv_r, jx_rv_n, jx_rv_q, xe_inv0, jx_cc_i, jx_cc_v, Nat.reduceMod, Nat.reduceDiv, jx_cl9_i, xe_return, xk_getf, jx_gf_i, ak_V, xe_iconst, xi_0, xx_0, xi_20, xx_20, xe_inv2, xk_iast, ja_is, ak_S, ak_P, xe_dup, jx_2_i, jx_2_l, jx_2_r, jx_2_n, jx_2_q, xi_1, xx_1, xe_iadd, xk_putf, jx_pf_i, jx_pf_z, jx_pf_l, jx_pf_r, jx_pf_n, jx_pf_q, xe_isub, xe_istore, jx_s1, List.set_cons_zero, List.set_cons_succ, jx_2_u, jx_2_s, jx_k_i, jx_k_l, jx_k_r, jx_k_n, jx_k_u, jx_k_s, jx_k_q, tx_r ht, e2, z0]
  · subst q
    have u0 : ¬ u = 0 := by omega
    have t6 : tm < 6 := by omega
    have nu := fun d => T_number (d := d) (h := h) (x := x) (cu := cu) (F := F) (o := o) (p := p) (z := z) (T := T) (ru := ru) (im := im) (tp := tp) (R := R) (q := (lq_s sb dn ow tm pm u, a, w)) (n := n) (e' := e') (g' := g') (u' := nI j) (l := 0) (v := 20) hT ht eM hM hn
    have it := sp_ix t6 (show 6 < 2 ^ 31 by omega)
    have z1 : (nI 1).toInt = 1 := by decide
    rw [lnh, if_neg (by omega), if_pos rfl]
    cases hA : nmr tp M n 0 20 with
    | inl er =>
      refine ⟨fun k pl hk => ?_, fun d2 o2 t2 p2 a2 m hk => (by cases hk)⟩
      cases hk
      obtain ⟨n2, e2⟩ := (nu (d + 2)).1 k pl hA
      refine ⟨nmr_f hn hA, n2, lq_s sb dn ow tm pm u, a, ?_⟩
      simp only [cr_211, eb_211_0, eb_211_37, jx_ns_r, jx_ns_n, jx_ns_q, jx_ns_i, jx_gl_0, jx_gl_s, if_true, if_false, ite_true, ite_false, eq_self, Bool.false_eq_true, List.length_cons, List.length_nil, Nat.zero_le, Nat.reduceAdd, Nat.reduceSub, Nat.reduceLeDiff, Nat.reduceLT, Nat.reduceEqDiff, Int.reduceToNat, reduceIte, xk_iload, jx_iv_i, ak_I, xk_table, ak_T, jx_ov_s, List.getElem?_toArray, List.getElem?_cons_zero, List.getElem?_cons_succ, Int.reduceLT, Int.reduceSub, Int.reduceNeg, or_self, or_true, true_or, xe_aload, jx_rv_r, jx_rv_n, jx_rv_q, xe_inv0, jx_cc_i, jx_cc_v, Nat.reduceMod, Nat.reduceDiv, jx_cl9_i, xe_return, xk_getf, jx_gf_i, ak_V, xe_iconst, xi_0, xx_0, xi_20, xx_20, xe_inv2, xk_iast, ja_is, ak_S, ak_P, xe_dup, jx_2_i, jx_2_l, jx_2_r, jx_2_n, jx_2_q, xi_1, xx_1, xe_iadd, xk_putf, jx_pf_i, jx_pf_z, jx_pf_l, jx_pf_r, jx_pf_n, jx_pf_q, xe_isub, xe_istore, jx_s1, List.set_cons_zero, List.set_cons_succ, jx_2_u, jx_2_s, jx_k_i, jx_k_l, jx_k_r, jx_k_n, jx_k_u, jx_k_s, jx_k_q, z1, tx_r ht, sw_r, sw_f, tx_f, tx_s, sw_rq, sw_wqo, sw_wqr, cq_f, cq_s, va_up_s, lq_r, e2, jx_cc_x xh_211]
    | inr X =>
      obtain ⟨v1, m1⟩ := X
      have f1 := (nu 0).2 v1 m1 hA
      have e1 := fun d => ((nu d).2 v1 m1 hA).2.2
      refine ⟨fun k pl hk => (by cases hk), fun d2 o2 t2 p2 a2 m hk => ?_⟩
      cases hk
      refine ⟨⟨f1.2.1, f1.1⟩, hdn u0, how u0, t6, hpm, ?_⟩
      rw [← lq_u1 (by omega)]
      have z1' : (nI tm + 1) = nI (tm + 1) := nI_1 tm
      simp only [cr_211, eb_211_0, eb_211_37, jx_ns_r, jx_ns_n, jx_ns_q, jx_ns_i, jx_gl_0, jx_gl_s, if_true, if_false, ite_true, ite_false, eq_self, Bool.false_eq_true, List.length_cons, List.length_nil, Nat.zero_le, Nat.reduceAdd, Nat.reduceSub, Nat.reduceLeDiff, Nat.reduceLT, Nat.reduceEqDiff, Int.reduceToNat, reduceIte, xk_iload, jx_iv_i, ak_I, xk_table, ak_T, jx_ov_s, List.getElem?_toArray, List.getElem?_cons_zero, List.getElem?_cons_succ, Int.reduceLT, Int.reduceSub, Int.reduceNeg, or_self, or_true, true_or, xe_aload, jx_rv_r, jx_rv_n, jx_rv_q, xe_inv0, jx_cc_i, jx_cc_v, Nat.reduceMod, Nat.reduceDiv, jx_cl9_i, xe_return, xk_getf, jx_gf_i, ak_V, xe_iconst, xi_0, xx_0, xi_20, xx_20, xe_inv2, xk_iast, ja_is, ak_S, ak_P, xe_dup, jx_2_i, jx_2_l, jx_2_r, jx_2_n, jx_2_q, xi_1, xx_1, xe_iadd, xk_putf, jx_pf_i, jx_pf_z, jx_pf_l, jx_pf_r, jx_pf_n, jx_pf_q, xe_isub, xe_istore, jx_s1, List.set_cons_zero, List.set_cons_succ, jx_2_u, jx_2_s, jx_k_i, jx_k_l, jx_k_r, jx_k_n, jx_k_u, jx_k_s, jx_k_q, z1, tx_r ht, sw_r, sw_f, tx_f, tx_s, sw_rq, sw_wqo, sw_wqr, cq_f, cq_s, va_up_s, lq_r, e1, it, z1', lq_wt]
  · subst q
    have u0 : ¬ u = 0 := by omega
    have dd := hdn u0
    have nu := fun d => T_number (d := d) (h := h) (x := x) (cu := cu) (F := F) (o := o) (p := p) (z := z) (T := T) (ru := ru) (im := im) (tp := tp) (R := R) (q := (lq_s sb dn ow tm pm u, a, w)) (n := n) (e' := e') (g' := g') (u' := nI j) (l := 0) (v := nI dn - 1) hT ht eM hM hn
    have z2 : (nI 2).toInt = 2 := by decide
    rw [lnh, if_neg (by omega), if_neg (by omega), if_pos rfl]
    cases hA : nmr tp M n 0 (nI dn - 1) with
    | inl er =>
      refine ⟨fun k pl hk => ?_, fun d2 o2 t2 p2 a2 m hk => (by cases hk)⟩
      cases hk
      obtain ⟨n2, e2⟩ := (nu (d + 2)).1 k pl hA
      refine ⟨nmr_f hn hA, n2, lq_s sb dn ow tm pm u, a, ?_⟩
      simp only [cr_211, eb_211_0, eb_211_73, jx_ns_r, jx_ns_n, jx_ns_q, jx_ns_i, jx_gl_0, jx_gl_s, if_true, if_false, ite_true, ite_false, eq_self, Bool.false_eq_true, List.length_cons, List.length_nil, Nat.zero_le, Nat.reduceAdd, Nat.reduceSub, Nat.reduceLeDiff, Nat.reduceLT, Nat.reduceEqDiff, Int.reduceToNat, reduceIte, xk_iload, jx_iv_i, ak_I, xk_table, ak_T, jx_ov_s, List.getElem?_toArray, List.getElem?_cons_zero, List.getElem?_cons_succ, Int.reduceLT, Int.reduceSub, Int.reduceNeg, or_self, or_true, true_or, xe_aload, jx_rv_r, jx_rv_n, jx_rv_q, xe_inv0, jx_cc_i, jx_cc_v, Nat.reduceMod, Nat.reduceDiv, jx_cl9_i, xe_return, xk_getf, jx_gf_i, ak_V, xe_iconst, xi_0, xx_0, xi_20, xx_20, xe_inv2, xk_iast, ja_is, ak_S, ak_P, xe_dup, jx_2_i, jx_2_l, jx_2_r, jx_2_n, jx_2_q, xi_1, xx_1, xe_iadd, xk_putf, jx_pf_i, jx_pf_z, jx_pf_l, jx_pf_r, jx_pf_n, jx_pf_q, xe_isub, xe_istore, jx_s1, List.set_cons_zero, List.set_cons_succ, jx_2_u, jx_2_s, jx_k_i, jx_k_l, jx_k_r, jx_k_n, jx_k_u, jx_k_s, jx_k_q, z2, tx_r ht, sw_r, sw_f, tx_f, tx_s, sw_rq, sw_wqo, sw_wqr, cq_f, cq_s, va_up_s, lq_r, e2, jx_cc_x xh_211]
    | inr X =>
      obtain ⟨v1, m1⟩ := X
      have f1 := (nu 0).2 v1 m1 hA
      have e1 := fun d => ((nu d).2 v1 m1 hA).2.2
      have b1 := nmr_b hA
      have i1 := ix_b b1.1 b1.2 (by omega)
      have x1 : jx_ix v1 12 = some v1.toNatClampNeg := by
        have := sp_ix (show v1.toNatClampNeg < 12 by omega) (by decide)
        rwa [← i1.2] at this
      have nv := fun d => T_thingNumber (d := d) (h := h) (x := x) (cu := cu) (F := F) (o := o) (p := p) (z := z) (T := T) (ru := ru) (im := im) (tp := tp) (R := R) (t := t) (sb := sb) (dn := dn) (ow := ow) (tm := tm) (pm := pm) (u := u) (a := a) (w := w) (n := m1) (e' := e') (g' := g') (u' := nI j) hT ht eM hM f1.1
      cases hB : nmr tp M m1 0 (nI tm - 1) with
      | inl er =>
        simp only [hB]
        refine ⟨fun k pl hk => ?_, fun d2 o2 t2 p2 a2 m hk => (by cases hk)⟩
        cases hk
        obtain ⟨n2, e2⟩ := (nv (d + 1)).1 k pl hB
        refine ⟨nmr_f f1.1 hB, n2, lq_s sb dn ow tm pm u, a, ?_⟩
        simp only [cr_211, eb_211_0, eb_211_73, jx_ns_r, jx_ns_n, jx_ns_q, jx_ns_i, jx_gl_0, jx_gl_s, if_true, if_false, ite_true, ite_false, eq_self, Bool.false_eq_true, List.length_cons, List.length_nil, Nat.zero_le, Nat.reduceAdd, Nat.reduceSub, Nat.reduceLeDiff, Nat.reduceLT, Nat.reduceEqDiff, Int.reduceToNat, reduceIte, xk_iload, jx_iv_i, ak_I, xk_table, ak_T, jx_ov_s, List.getElem?_toArray, List.getElem?_cons_zero, List.getElem?_cons_succ, Int.reduceLT, Int.reduceSub, Int.reduceNeg, or_self, or_true, true_or, xe_aload, jx_rv_r, jx_rv_n, jx_rv_q, xe_inv0, jx_cc_i, jx_cc_v, Nat.reduceMod, Nat.reduceDiv, jx_cl9_i, xe_return, xk_getf, jx_gf_i, ak_V, xe_iconst, xi_0, xx_0, xi_20, xx_20, xe_inv2, xk_iast, ja_is, ak_S, ak_P, xe_dup, jx_2_i, jx_2_l, jx_2_r, jx_2_n, jx_2_q, xi_1, xx_1, xe_iadd, xk_putf, jx_pf_i, jx_pf_z, jx_pf_l, jx_pf_r, jx_pf_n, jx_pf_q, xe_isub, xe_istore, jx_s1, List.set_cons_zero, List.set_cons_succ, jx_2_u, jx_2_s, jx_k_i, jx_k_l, jx_k_r, jx_k_n, jx_k_u, jx_k_s, jx_k_q, z2, tx_r ht, sw_r, sw_f, tx_f, tx_s, sw_rq, sw_wqo, sw_wqr, cq_f, cq_s, va_up_s, lq_r, e1, e2, jx_cc_x xh_211]
      | inr Y =>
        obtain ⟨v2, m2⟩ := Y
        simp only [hB]
        have f2 := (nv 0).2 v2 m2 hB
        have e2 := fun d => ((nv d).2 v2 m2 hB).2.2
        refine ⟨fun k pl hk => (by cases hk), fun d2 o2 t2 p2 a2 m hk => ?_⟩
        cases hk
        refine ⟨⟨by omega, f2.1⟩, dd, how u0, htm, hpm, ?_⟩
        rw [← lq_u1 (by omega)]
        simp only [cr_211, eb_211_0, eb_211_73, jx_ns_r, jx_ns_n, jx_ns_q, jx_ns_i, jx_gl_0, jx_gl_s, if_true, if_false, ite_true, ite_false, eq_self, Bool.false_eq_true, List.length_cons, List.length_nil, Nat.zero_le, Nat.reduceAdd, Nat.reduceSub, Nat.reduceLeDiff, Nat.reduceLT, Nat.reduceEqDiff, Int.reduceToNat, reduceIte, xk_iload, jx_iv_i, ak_I, xk_table, ak_T, jx_ov_s, List.getElem?_toArray, List.getElem?_cons_zero, List.getElem?_cons_succ, Int.reduceLT, Int.reduceSub, Int.reduceNeg, or_self, or_true, true_or, xe_aload, jx_rv_r, jx_rv_n, jx_rv_q, xe_inv0, jx_cc_i, jx_cc_v, Nat.reduceMod, Nat.reduceDiv, jx_cl9_i, xe_return, xk_getf, jx_gf_i, ak_V, xe_iconst, xi_0, xx_0, xi_20, xx_20, xe_inv2, xk_iast, ja_is, ak_S, ak_P, xe_dup, jx_2_i, jx_2_l, jx_2_r, jx_2_n, jx_2_q, xi_1, xx_1, xe_iadd, xk_putf, jx_pf_i, jx_pf_z, jx_pf_l, jx_pf_r, jx_pf_n, jx_pf_q, xe_isub, xe_istore, jx_s1, List.set_cons_zero, List.set_cons_succ, jx_2_u, jx_2_s, jx_k_i, jx_k_l, jx_k_r, jx_k_n, jx_k_u, jx_k_s, jx_k_q, z2, tx_r ht, sw_r, sw_f, tx_f, tx_s, sw_rq, sw_wqo, sw_wqr, cq_f, cq_s, va_up_s, lq_r, e1, e2, x1]
  · subst q
    have u0 : ¬ u = 0 := by omega
    have C := T_personHere (d := d + 1) (h := h) (x := x) (cu := cu) (F := F) (o := o) (p := p) (z := z) (T := T) (ru := ru) (im := im) (tp := tp) (R := R) (t := t) (sb := sb) (dn := dn) (ow := ow) (tm := tm) (pm := pm) (u := u) (u' := nI j) (a := a) (w := w) (n := n) (e' := e') (g' := g') hT ht eM hM hn (by omega)
    have z0 : (nI 3).toInt = 3 := by decide
    refine ⟨fun kk pl hk => ?_, fun d2 o2 t2 p2 a2 m hk => ?_⟩
    · obtain ⟨b1, n2, s2, a2, e2⟩ := C.1 kk pl hk
      refine ⟨b1, n2, s2, a2, ?_⟩
      simp only [cr_211, eb_211_0, eb_211_102, jx_ns_r, jx_ns_n, jx_ns_q, jx_ns_i, jx_gl_0, jx_gl_s, if_true, if_false, ite_true, ite_false, eq_self, Bool.false_eq_true, List.length_cons, List.length_nil, Nat.zero_le, Nat.reduceAdd, Nat.reduceSub, Nat.reduceLeDiff, Nat.reduceLT, Nat.reduceEqDiff, Int.reduceToNat, reduceIte, xk_iload, jx_iv_i, ak_I, xk_table, ak_T, jx_ov_s, List.getElem?_toArray, List.getElem?_cons_zero, List.getElem?_cons_succ, Int.reduceLT, Int.reduceSub, Int.reduceNeg, or_self, or_true, true_or, xe_aload, jx_rv_r, jx_rv_n, jx_rv_q, xe_inv0, jx_cc_i, jx_cc_v, Nat.reduceMod, Nat.reduceDiv, jx_cl9_i, xe_return, xk_getf, jx_gf_i, ak_V, xe_iconst, xi_0, xx_0, xi_20, xx_20, xe_inv2, xk_iast, ja_is, ak_S, ak_P, xe_dup, jx_2_i, jx_2_l, jx_2_r, jx_2_n, jx_2_q, xi_1, xx_1, xe_iadd, xk_putf, jx_pf_i, jx_pf_z, jx_pf_l, jx_pf_r, jx_pf_n, jx_pf_q, xe_isub, xe_istore, jx_s1, List.set_cons_zero, List.set_cons_succ, jx_2_u, jx_2_s, jx_k_i, jx_k_l, jx_k_r, jx_k_n, jx_k_u, jx_k_s, jx_k_q, tx_r ht, e2, z0, jx_cc_x xh_211]
    · obtain ⟨b1, rfl, rfl, rfl, rfl, e2⟩ := C.2 d2 o2 t2 p2 a2 m hk
      refine ⟨b1, hdn u0, how u0, htm, by omega, ?_⟩
      rw [← lq_u1 (by omega)]
      simp only [cr_211, eb_211_0, eb_211_102, jx_ns_r, jx_ns_n, jx_ns_q, jx_ns_i, jx_gl_0, jx_gl_s, if_true, if_false, ite_true, ite_false, eq_self, Bool.false_eq_true, List.length_cons, List.length_nil, Nat.zero_le, Nat.reduceAdd, Nat.reduceSub, Nat.reduceLeDiff, Nat.reduceLT, Nat.reduceEqDiff, Int.reduceToNat, reduceIte, xk_iload, jx_iv_i, ak_I, xk_table, ak_T, jx_ov_s, List.getElem?_toArray, List.getElem?_cons_zero, List.getElem?_cons_succ, Int.reduceLT, Int.reduceSub, Int.reduceNeg, or_self, or_true, true_or, xe_aload, jx_rv_r, jx_rv_n, jx_rv_q, xe_inv0, jx_cc_i, jx_cc_v, Nat.reduceMod, Nat.reduceDiv, jx_cl9_i, xe_return, xk_getf, jx_gf_i, ak_V, xe_iconst, xi_0, xx_0, xi_20, xx_20, xe_inv2, xk_iast, ja_is, ak_S, ak_P, xe_dup, jx_2_i, jx_2_l, jx_2_r, jx_2_n, jx_2_q, xi_1, xx_1, xe_iadd, xk_putf, jx_pf_i, jx_pf_z, jx_pf_l, jx_pf_r, jx_pf_n, jx_pf_q, xe_isub, xe_istore, jx_s1, List.set_cons_zero, List.set_cons_succ, jx_2_u, jx_2_s, jx_k_i, jx_k_l, jx_k_r, jx_k_n, jx_k_u, jx_k_s, jx_k_q, tx_r ht, e2, z0]
  · subst q
    have u0 : ¬ u = 0 := by omega
    have C := T_quarrelHere (d := d) (h := h) (x := x) (cu := cu) (F := F) (o := o) (p := p) (z := z) (T := T) (ru := ru) (im := im) (tp := tp) (R := R) (t := t) (sb := sb) (dn := dn) (ow := ow) (tm := tm) (pm := pm) (u := u) (u' := nI j) (a := a) (w := w) (n := n) (e' := e') (g' := g') hT ht eM hM hn htm
    have z0 : (nI 4).toInt = 4 := by decide
    refine ⟨fun kk pl hk => ?_, fun d2 o2 t2 p2 a2 m hk => ?_⟩
    · obtain ⟨b1, n2, s2, a2, e2⟩ := C.1 kk pl hk
      refine ⟨b1, n2, s2, a2, ?_⟩
      simp only [cr_211, eb_211_0, eb_211_107, jx_ns_r, jx_ns_n, jx_ns_q, jx_ns_i, jx_gl_0, jx_gl_s, if_true, if_false, ite_true, ite_false, eq_self, Bool.false_eq_true, List.length_cons, List.length_nil, Nat.zero_le, Nat.reduceAdd, Nat.reduceSub, Nat.reduceLeDiff, Nat.reduceLT, Nat.reduceEqDiff, Int.reduceToNat, reduceIte, xk_iload, jx_iv_i, ak_I, xk_table, ak_T, jx_ov_s, List.getElem?_toArray, List.getElem?_cons_zero, List.getElem?_cons_succ, Int.reduceLT, Int.reduceSub, Int.reduceNeg, or_self, or_true, true_or, xe_aload, jx_rv_r, jx_rv_n, jx_rv_q, xe_inv0, jx_cc_i, jx_cc_v, Nat.reduceMod, Nat.reduceDiv, jx_cl9_i, xe_return, xk_getf, jx_gf_i, ak_V, xe_iconst, xi_0, xx_0, xi_20, xx_20, xe_inv2, xk_iast, ja_is, ak_S, ak_P, xe_dup, jx_2_i, jx_2_l, jx_2_r, jx_2_n, jx_2_q, xi_1, xx_1, xe_iadd, xk_putf, jx_pf_i, jx_pf_z, jx_pf_l, jx_pf_r, jx_pf_n, jx_pf_q, xe_isub, xe_istore, jx_s1, List.set_cons_zero, List.set_cons_succ, jx_2_u, jx_2_s, jx_k_i, jx_k_l, jx_k_r, jx_k_n, jx_k_u, jx_k_s, jx_k_q, tx_r ht, e2, z0, jx_cc_x xh_211]
    · obtain ⟨b1, rfl, rfl, rfl, rfl, e2⟩ := C.2 d2 o2 t2 p2 a2 m hk
      refine ⟨b1, hdn u0, how u0, htm, hpm, ?_⟩
      rw [← lq_u1 (by omega)]
      simp only [cr_211, eb_211_0, eb_211_107, jx_ns_r, jx_ns_n, jx_ns_q, jx_ns_i, jx_gl_0, jx_gl_s, if_true, if_false, ite_true, ite_false, eq_self, Bool.false_eq_true, List.length_cons, List.length_nil, Nat.zero_le, Nat.reduceAdd, Nat.reduceSub, Nat.reduceLeDiff, Nat.reduceLT, Nat.reduceEqDiff, Int.reduceToNat, reduceIte, xk_iload, jx_iv_i, ak_I, xk_table, ak_T, jx_ov_s, List.getElem?_toArray, List.getElem?_cons_zero, List.getElem?_cons_succ, Int.reduceLT, Int.reduceSub, Int.reduceNeg, or_self, or_true, true_or, xe_aload, jx_rv_r, jx_rv_n, jx_rv_q, xe_inv0, jx_cc_i, jx_cc_v, Nat.reduceMod, Nat.reduceDiv, jx_cl9_i, xe_return, xk_getf, jx_gf_i, ak_V, xe_iconst, xi_0, xx_0, xi_20, xx_20, xe_inv2, xk_iast, ja_is, ak_S, ak_P, xe_dup, jx_2_i, jx_2_l, jx_2_r, jx_2_n, jx_2_q, xi_1, xx_1, xe_iadd, xk_putf, jx_pf_i, jx_pf_z, jx_pf_l, jx_pf_r, jx_pf_n, jx_pf_q, xe_isub, xe_istore, jx_s1, List.set_cons_zero, List.set_cons_succ, jx_2_u, jx_2_s, jx_k_i, jx_k_l, jx_k_r, jx_k_n, jx_k_u, jx_k_s, jx_k_q, tx_r ht, e2, z0]
end SDR
