/-! TEXTS: the lines of a court -/
set_option maxRecDepth 100000
theorem ix_b {v : Int32} {n : Nat} (h0 : 0 ≤ v) (h1 : v ≤ nI n - 1) (hn : n ≤ 100) : v.toNatClampNeg < n ∧ v = nI v.toNatClampNeg := by
  have a0 : (0 : Int) ≤ v.toInt := Int32.le_iff_toInt_le.mp h0
  have e1 : v.toInt ≤ (nI n - 1).toInt := Int32.le_iff_toInt_le.mp h1
  have e2 : (nI n - 1).toInt = (n : Int) - 1 := by
    have : ∀ n : Fin 101, (nI n.val - 1).toInt = (n.val : Int) - 1 := by decide +kernel
    exact this ⟨n, by omega⟩
  rw [e2] at e1
  have e3 : v.toNatClampNeg = v.toInt.toNat := rfl
  refine ⟨by omega, ?_⟩
  rw [← Int32.toInt_inj, nI_toInt (by omega), e3]
  omega
theorem ix_c {v : Int32} {m n : Nat} (h0 : nI m ≤ v) (h1 : v ≤ nI n) (hm : m ≤ n) (hn : n ≤ 100) : m ≤ v.toNatClampNeg ∧ v.toNatClampNeg ≤ n ∧ v = nI v.toNatClampNeg := by
  have a0 : (nI m).toInt ≤ v.toInt := Int32.le_iff_toInt_le.mp h0
  have e1 : v.toInt ≤ (nI n).toInt := Int32.le_iff_toInt_le.mp h1
  rw [nI_toInt (by omega)] at e1 a0
  have e3 : v.toNatClampNeg = v.toInt.toNat := rfl
  refine ⟨by omega, by omega, ?_⟩
  rw [← Int32.toInt_inj, nI_toInt (by omega), e3]
  omega
theorem nmr_b {tp : Nat → Int32} {M n m : Nat} {l v w : Int32} (e : nmr tp M n l v = .inr (w, m)) : l ≤ w ∧ w ≤ v := by
  rw [nmr] at e
  split at e
  · cases e
  · split at e
    · rename_i q
      cases e; exact q.2
    · cases e
abbrev Lr := (Nat × Nat) ⊕ ((Nat × Int32 × Nat × Nat × (Nat → Nat → Int32)) × Nat)
/-- a line of the kind k, read behind its word -/
noncomputable def lnh (tp : Nat → Int32) (M k dn : Nat) (ow : Int32) (tm pm : Nat) (a : Nat → Nat → Int32) (n : Nat) : Lr :=
  if k = 0 then (match nmr tp M n 1 12 with
    | .inl e => .inl e
    | .inr (v1, m1) => match nmr tp M m1 1 99 with
      | .inl e => .inl e
      | .inr (v2, m2) => .inr ((v1.toNatClampNeg, v2, tm, pm, va_up a 1 (cq_fl 12 (fun _ => -1) (a 1))), m2))
  else if k = 1 then (match nmr tp M n 0 20 with
    | .inl e => .inl e
    | .inr (v, m) => .inr ((dn, ow, tm + 1, pm, va_up a 0 (upd (a 0) tm v)), m))
  else if k = 2 then (match nmr tp M n 0 (nI dn - 1) with
    | .inl e => .inl e
    | .inr (v1, m1) => match nmr tp M m1 0 (nI tm - 1) with
      | .inl e => .inl e
      | .inr (v2, m2) => .inr ((dn, ow, tm, pm, va_up a 1 (upd (a 1) v1.toNatClampNeg v2)), m2))
  else if k = 3 then (match nmr tp M n 0 99 with
    | .inl e => .inl e
    | .inr (v1, m1) => match nmr tp M m1 0 9 with
      | .inl e => .inl e
      | .inr (v2, m2) => .inr ((dn, ow, tm, pm + 1, va_up (va_up a 3 (upd (a 3) pm v1)) 4 (upd (a 4) pm v2)), m2))
  else (match nmr tp M n 0 (nI tm - 1) with
    | .inl e => .inl e
    | .inr (v1, m1) => match nmr tp M m1 0 (nI tm - 1) with
      | .inl e => .inl e
      | .inr (v2, m2) => if v1 = v2 then .inl (1, skp tp M m1) else .inr ((dn, ow, tm, pm, va_up a 2 (upd (upd (a 2) v1.toNatClampNeg (a 2 v1.toNatClampNeg ||| 1 <<< (v2 &&& 31))) v2.toNatClampNeg (upd (a 2) v1.toNatClampNeg (a 2 v1.toNatClampNeg ||| 1 <<< (v2 &&& 31)) v2.toNatClampNeg ||| 1 <<< (v1 &&& 31)))), m2))
section SDQ
variable {d : Nat} {h : jx_H} {cu : Option Nat} {F : Nat → Int32} {o p q z : cq_C} {T : List Value} {x : Int32 × Int32} {ru im : Nat → Option Nat} {tp : Nat → Int32} {R : Nat → Nat → Int32} {s : Nat → Int32} {a : Nat → Nat → Int32} {w : Nat → Int64}
variable {t M n k u dn tm pm : Nat} {u' e' g' n' ow : Int32} {sb : Nat → Int32}
theorem T_courtHere (hT : T.length = 6) (ht : 151 ≤ t) (eM : F 9 = nI M) (hM : M ≤ 400) (hn : n ≤ M) :
    (∀ k pl, lnh tp M 0 dn ow tm pm a n = .inl (k, pl) → (k ≤ 4 ∧ pl ≤ M) ∧ ∃ n2 s2 a2, jx_cr (d + 3) 208 [.ref t] (sw (tx h t (nI n) e' g' (nI u)) cu F o p (lq_s sb dn ow tm pm 0, a, w) z T x ru im tp R) = some (.inr (), (sw (tx h t (n2) e' g' (nI u)) cu F o p (s2, a2, w) z T (nI k, nI pl) ru im tp R))) ∧
    (∀ d2 o2 t2 p2 a2 m, lnh tp M 0 dn ow tm pm a n = .inr ((d2, o2, t2, p2, a2), m) → (n < m ∧ m ≤ M) ∧ (1 ≤ d2 ∧ d2 ≤ 12) ∧ (1 ≤ o2 ∧ o2 ≤ 99) ∧ t2 = tm ∧ p2 = pm ∧ jx_cr (d + 3) 208 [.ref t] (sw (tx h t (nI n) e' g' (nI u)) cu F o p (lq_s sb dn ow tm pm 0, a, w) z T x ru im tp R) = some (.inl none, (sw (tx h t (nI m) e' g' (nI u)) cu F o p (lq_s sb d2 o2 t2 p2 1, a2, w) z T x ru im tp R))) := by
  have t3 : 3 ≤ t := by omega
  have nu := fun d n s (hn : n ≤ M) => T_number (d := d) (h := h) (x := x) (cu := cu) (F := F) (o := o) (p := p) (z := z) (T := T) (ru := ru) (im := im) (tp := tp) (R := R) (q := (s, a, w)) (n := n) (e' := e') (g' := g') (u' := nI u) (l := 1) (v := 12) hT ht eM hM hn
  have nv := fun d n s (hn : n ≤ M) => T_number (d := d) (h := h) (x := x) (cu := cu) (F := F) (o := o) (p := p) (z := z) (T := T) (ru := ru) (im := im) (tp := tp) (R := R) (q := (s, a, w)) (n := n) (e' := e') (g' := g') (u' := nI u) (l := 1) (v := 99) hT ht eM hM hn
  rw [lnh, if_pos rfl]
  cases hA : nmr tp M n 1 12 with
  | inl er =>
    refine ⟨fun k pl hk => ?_, fun d2 o2 t2 p2 a2 m hk => (by cases hk)⟩
    cases hk
    obtain ⟨n2, e2⟩ := (nu d n (lq_s sb dn ow tm pm 0) hn).1 k pl hA
    refine ⟨nmr_f hn hA, n2, lq_s sb dn ow tm pm 0, a, ?_⟩
    simp only [cr_208, eb_208_0, jx_ns_r, jx_ns_n, jx_ns_q, jx_ns_i, jx_gl_0, jx_gl_s, if_true, if_false, ite_true, ite_false, eq_self, Bool.false_eq_true, List.length_cons, List.length_nil, Nat.zero_le, Nat.reduceAdd, Nat.reduceSub, Nat.reduceLeDiff, Nat.reduceLT, Nat.reduceEqDiff, Int.reduceToNat, reduceIte, xe_aload, jx_rv_r, jx_rv_n, jx_rv_q, xk_getf, jx_gf_i, jx_ov_s, ak_V, xe_iconst, xi_1, xx_1, xi_12, xx_12, xe_inv2, jx_cc_i, jx_cc_v, Nat.reduceMod, Nat.reduceDiv, jx_cl9_i, xk_putf, ak_P, jx_pf_i, jx_pf_z, jx_pf_l, jx_pf_r, jx_pf_n, jx_pf_q, xi_99, xi_0, xx_0, xe_istore, xe_goto_w, xk_iload, jx_iv_i, ak_I, xe_icmp_ge, xi_m1, xk_iast, ja_is, ak_S, xk_iinc, ak_C, xe_goto, xe_return, jx_s1, List.set_cons_zero, List.set_cons_succ, jx_2_i, jx_2_l, jx_2_r, jx_2_n, jx_2_u, jx_2_s, jx_2_q, jx_k_i, jx_k_l, jx_k_r, jx_k_n, jx_k_u, jx_k_s, jx_k_q, tx_r ht, sw_r, sw_f, tx_f, tx_s, sw_rq, sw_wqo, sw_wqr, cq_f, cq_s, va_up_s, e2, jx_cc_x xh_208]
  | inr X =>
    obtain ⟨v1, m1⟩ := X
    have b1 := nmr_b hA
    have f1 := (nu 0 n (lq_s sb dn ow tm pm 0) hn).2 v1 m1 hA
    have e1 := fun d => ((nu d n (lq_s sb dn ow tm pm 0) hn).2 v1 m1 hA).2.2
    have c1 := ix_c (m := 1) (n := 12) b1.1 b1.2 (by omega) (by omega)
    rw [c1.2.2] at e1
    cases hB : nmr tp M m1 1 99 with
    | inl er =>
      simp only [hB]
      refine ⟨fun k pl hk => ?_, fun d2 o2 t2 p2 a2 m hk => (by cases hk)⟩
      cases hk
      obtain ⟨n2, e2⟩ := (nv d m1 (lq_s sb v1.toNatClampNeg ow tm pm 0) f1.1).1 k pl hB
      refine ⟨nmr_f f1.1 hB, n2, lq_s sb v1.toNatClampNeg ow tm pm 0, a, ?_⟩
      simp only [cr_208, eb_208_0, jx_ns_r, jx_ns_n, jx_ns_q, jx_ns_i, jx_gl_0, jx_gl_s, if_true, if_false, ite_true, ite_false, eq_self, Bool.false_eq_true, List.length_cons, List.length_nil, Nat.zero_le, Nat.reduceAdd, Nat.reduceSub, Nat.reduceLeDiff, Nat.reduceLT, Nat.reduceEqDiff, Int.reduceToNat, reduceIte, xe_aload, jx_rv_r, jx_rv_n, jx_rv_q, xk_getf, jx_gf_i, jx_ov_s, ak_V, xe_iconst, xi_1, xx_1, xi_12, xx_12, xe_inv2, jx_cc_i, jx_cc_v, Nat.reduceMod, Nat.reduceDiv, jx_cl9_i, xk_putf, ak_P, jx_pf_i, jx_pf_z, jx_pf_l, jx_pf_r, jx_pf_n, jx_pf_q, xi_99, xi_0, xx_0, xe_istore, xe_goto_w, xk_iload, jx_iv_i, ak_I, xe_icmp_ge, xi_m1, xk_iast, ja_is, ak_S, xk_iinc, ak_C, xe_goto, xe_return, jx_s1, List.set_cons_zero, List.set_cons_succ, jx_2_i, jx_2_l, jx_2_r, jx_2_n, jx_2_u, jx_2_s, jx_2_q, jx_k_i, jx_k_l, jx_k_r, jx_k_n, jx_k_u, jx_k_s, jx_k_q, tx_r ht, sw_r, sw_f, tx_f, tx_s, sw_rq, sw_wqo, sw_wqr, cq_f, cq_s, va_up_s, e1, lq_wd, e2, jx_cc_x xh_208]
    | inr Y =>
      obtain ⟨v2, m2⟩ := Y
      simp only [hB]
      refine ⟨fun k pl hk => (by cases hk), fun d2 o2 t2 p2 a2 m hk => ?_⟩
      cases hk
      have b2 := nmr_b hB
      have f2 := (nv 0 m1 (lq_s sb v1.toNatClampNeg ow tm pm 0) f1.1).2 v2 m2 hB
      have e2 := fun d => ((nv d m1 (lq_s sb v1.toNatClampNeg ow tm pm 0) f1.1).2 v2 m2 hB).2.2
      refine ⟨⟨by omega, f2.1⟩, ⟨c1.1, c1.2.1⟩, b2, rfl, rfl, ?_⟩
      have l := jx_lp (d := d + 2) (y := 208) (L := 38) (n := 12) (γ := Unit) (ls := fun k _ => [.ref t, .int (nI k)]) (H := fun k _ => (sw (tx h t (nI m2) e' g' (nI u)) cu F o p (lq_s sb v1.toNatClampNeg v2 tm pm 1, (va_up a 1 (cq_fl k (fun _ => -1) (a 1))), w) z T x ru im tp R))
        (I := fun _ _ => True)
        (G := fun r => r = some (.inl none, (sw (tx h t (nI m2) e' g' (nI u)) cu F o p (lq_s sb v1.toNatClampNeg v2 tm pm 1, (va_up a 1 (cq_fl 12 (fun _ => -1) (a 1))), w) z T x ru im tp R))) ?_ ?_ 12 0 () (by omega) trivial
      · have z : va_up a 1 (cq_fl 0 (fun _ => -1) (a 1)) = a := by
          funext j k
          simp only [va_up, cq_fl]
          by_cases r : j = 1
          · subst r; rfl
          · rw [if_neg r]
        rw [z, nI_0] at l
        simp only [cr_208, eb_208_0, jx_ns_r, jx_ns_n, jx_ns_q, jx_ns_i, jx_gl_0, jx_gl_s, if_true, if_false, ite_true, ite_false, eq_self, Bool.false_eq_true, List.length_cons, List.length_nil, Nat.zero_le, Nat.reduceAdd, Nat.reduceSub, Nat.reduceLeDiff, Nat.reduceLT, Nat.reduceEqDiff, Int.reduceToNat, reduceIte, xe_aload, jx_rv_r, jx_rv_n, jx_rv_q, xk_getf, jx_gf_i, jx_ov_s, ak_V, xe_iconst, xi_1, xx_1, xi_12, xx_12, xe_inv2, jx_cc_i, jx_cc_v, Nat.reduceMod, Nat.reduceDiv, jx_cl9_i, xk_putf, ak_P, jx_pf_i, jx_pf_z, jx_pf_l, jx_pf_r, jx_pf_n, jx_pf_q, xi_99, xi_0, xx_0, xe_istore, xe_goto_w, xk_iload, jx_iv_i, ak_I, xe_icmp_ge, xi_m1, xk_iast, ja_is, ak_S, xk_iinc, ak_C, xe_goto, xe_return, jx_s1, List.set_cons_zero, List.set_cons_succ, jx_2_i, jx_2_l, jx_2_r, jx_2_n, jx_2_u, jx_2_s, jx_2_q, jx_k_i, jx_k_l, jx_k_r, jx_k_n, jx_k_u, jx_k_s, jx_k_q, tx_r ht, sw_r, sw_f, tx_f, tx_s, sw_rq, sw_wqo, sw_wqr, cq_f, cq_s, va_up_s, e1, lq_wd, e2, lq_wo, lq_wi]
        exact l
      · intro k _ hk _
        have h3 : ¬ (12 : Int32) ≤ nI k := nI_ge (a := k) (b := 12) hk (by omega)
        have i1 := sp_ix hk (by decide)
        have e3 : va_up (va_up a 1 (cq_fl k (fun _ => -1) (a 1))) 1 (upd (cq_fl k (fun _ => -1) (a 1)) k (-1)) = va_up a 1 (cq_fl (k + 1) (fun _ => -1) (a 1)) := by
          rw [va_up_up]; congr 1; exact cq_fl_s
        refine .inr ⟨(), trivial, ?_⟩
        rw [eb_208_38]
        simp only [jx_ns_r, jx_ns_n, jx_ns_q, jx_ns_i, jx_gl_0, jx_gl_s, if_true, if_false, ite_true, ite_false, eq_self, Bool.false_eq_true, List.length_cons, List.length_nil, Nat.zero_le, Nat.reduceAdd, Nat.reduceSub, Nat.reduceLeDiff, Nat.reduceLT, Nat.reduceEqDiff, Int.reduceToNat, reduceIte, xe_aload, jx_rv_r, jx_rv_n, jx_rv_q, xk_getf, jx_gf_i, jx_ov_s, ak_V, xe_iconst, xi_1, xx_1, xi_12, xx_12, xe_inv2, jx_cc_i, jx_cc_v, Nat.reduceMod, Nat.reduceDiv, jx_cl9_i, xk_putf, ak_P, jx_pf_i, jx_pf_z, jx_pf_l, jx_pf_r, jx_pf_n, jx_pf_q, xi_99, xi_0, xx_0, xe_istore, xe_goto_w, xk_iload, jx_iv_i, ak_I, xe_icmp_ge, xi_m1, xk_iast, ja_is, ak_S, xk_iinc, ak_C, xe_goto, xe_return, jx_s1, List.set_cons_zero, List.set_cons_succ, jx_2_i, jx_2_l, jx_2_r, jx_2_n, jx_2_u, jx_2_s, jx_2_q, jx_k_i, jx_k_l, jx_k_r, jx_k_n, jx_k_u, jx_k_s, jx_k_q, tx_r ht, sw_r, sw_f, tx_f, tx_s, sw_rq, sw_wqo, sw_wqr, cq_f, cq_s, va_up_s, h3, i1, e3, nI_1]
      · intro _ _
        have h3 : (12 : Int32) ≤ nI 12 := by decide
        rw [eb_208_38]
        simp only [eb_208_60, jx_ns_r, jx_ns_n, jx_ns_q, jx_ns_i, jx_gl_0, jx_gl_s, if_true, if_false, ite_true, ite_false, eq_self, Bool.false_eq_true, List.length_cons, List.length_nil, Nat.zero_le, Nat.reduceAdd, Nat.reduceSub, Nat.reduceLeDiff, Nat.reduceLT, Nat.reduceEqDiff, Int.reduceToNat, reduceIte, xe_aload, jx_rv_r, jx_rv_n, jx_rv_q, xk_getf, jx_gf_i, jx_ov_s, ak_V, xe_iconst, xi_1, xx_1, xi_12, xx_12, xe_inv2, jx_cc_i, jx_cc_v, Nat.reduceMod, Nat.reduceDiv, jx_cl9_i, xk_putf, ak_P, jx_pf_i, jx_pf_z, jx_pf_l, jx_pf_r, jx_pf_n, jx_pf_q, xi_99, xi_0, xx_0, xe_istore, xe_goto_w, xk_iload, jx_iv_i, ak_I, xe_icmp_ge, xi_m1, xk_iast, ja_is, ak_S, xk_iinc, ak_C, xe_goto, xe_return, jx_s1, List.set_cons_zero, List.set_cons_succ, jx_2_i, jx_2_l, jx_2_r, jx_2_n, jx_2_u, jx_2_s, jx_2_q, jx_k_i, jx_k_l, jx_k_r, jx_k_n, jx_k_u, jx_k_s, jx_k_q, h3]
theorem T_personHere (hT : T.length = 6) (ht : 151 ≤ t) (eM : F 9 = nI M) (hM : M ≤ 400) (hn : n ≤ M) (hpm : pm < 6) :
    (∀ k pl, lnh tp M 3 dn ow tm pm a n = .inl (k, pl) → (k ≤ 4 ∧ pl ≤ M) ∧ ∃ n2 s2 a2, jx_cr (d + 3) 209 [.ref t] (sw (tx h t (nI n) e' g' (u')) cu F o p (lq_s sb dn ow tm pm u, a, w) z T x ru im tp R) = some (.inr (), (sw (tx h t (n2) e' g' (u')) cu F o p (s2, a2, w) z T (nI k, nI pl) ru im tp R))) ∧
    (∀ d2 o2 t2 p2 a2 m, lnh tp M 3 dn ow tm pm a n = .inr ((d2, o2, t2, p2, a2), m) → (n < m ∧ m ≤ M) ∧ d2 = dn ∧ o2 = ow ∧ t2 = tm ∧ p2 = pm + 1 ∧ jx_cr (d + 3) 209 [.ref t] (sw (tx h t (nI n) e' g' (u')) cu F o p (lq_s sb dn ow tm pm u, a, w) z T x ru im tp R) = some (.inl none, (sw (tx h t (nI m) e' g' (u')) cu F o p (lq_s sb d2 o2 t2 p2 u, a2, w) z T x ru im tp R))) := by
  have t3 : 3 ≤ t := by omega
  have nu := fun d n a (hn : n ≤ M) => T_number (d := d) (h := h) (x := x) (cu := cu) (F := F) (o := o) (p := p) (z := z) (T := T) (ru := ru) (im := im) (tp := tp) (R := R) (q := (lq_s sb dn ow tm pm u, a, w)) (n := n) (e' := e') (g' := g') (u' := u') (l := 0) (v := 99) hT ht eM hM hn
  have nv := fun d n a (hn : n ≤ M) => T_number (d := d) (h := h) (x := x) (cu := cu) (F := F) (o := o) (p := p) (z := z) (T := T) (ru := ru) (im := im) (tp := tp) (R := R) (q := (lq_s sb dn ow tm pm u, a, w)) (n := n) (e' := e') (g' := g') (u' := u') (l := 0) (v := 9) hT ht eM hM hn
  have ip := sp_ix hpm (by decide)
  rw [lnh, if_neg (by omega), if_neg (by omega), if_neg (by omega), if_pos rfl]
  cases hA : nmr tp M n 0 99 with
  | inl er =>
    refine ⟨fun k pl hk => ?_, fun d2 o2 t2 p2 a2 m hk => (by cases hk)⟩
    cases hk
    obtain ⟨n2, e2⟩ := (nu d n a hn).1 k pl hA
    refine ⟨nmr_f hn hA, n2, lq_s sb dn ow tm pm u, a, ?_⟩
    simp only [cr_209, eb_209_0, jx_ns_r, jx_ns_n, jx_ns_q, jx_ns_i, jx_gl_0, jx_gl_s, if_true, if_false, ite_true, ite_false, eq_self, Bool.false_eq_true, List.length_cons, List.length_nil, Nat.zero_le, Nat.reduceAdd, Nat.reduceSub, Nat.reduceLeDiff, Nat.reduceLT, Nat.reduceEqDiff, Int.reduceToNat, reduceIte, xe_aload, jx_rv_r, jx_rv_n, jx_rv_q, xk_getf, jx_gf_i, jx_ov_s, ak_V, xe_istore, xk_iload, jx_iv_i, ak_I, xe_iconst, xi_0, xx_0, xi_99, xe_inv2, jx_cc_i, jx_cc_v, Nat.reduceMod, Nat.reduceDiv, jx_cl9_i, xk_iast, ja_is, ak_S, ak_P, xi_9, xx_9, xe_dup, jx_2_i, jx_2_l, jx_2_r, jx_2_n, jx_2_q, or_self, xi_1, xx_1, xe_iadd, xk_putf, jx_pf_i, jx_pf_z, jx_pf_l, jx_pf_r, jx_pf_n, jx_pf_q, xe_return, jx_s1, List.set_cons_zero, List.set_cons_succ, jx_2_u, jx_2_s, jx_k_i, jx_k_l, jx_k_r, jx_k_n, jx_k_u, jx_k_s, jx_k_q, tx_r ht, sw_r, sw_f, tx_f, tx_s, sw_rq, sw_wqo, sw_wqr, cq_f, cq_s, va_up_s, lq_r, e2, jx_cc_x xh_209]
  | inr X =>
    obtain ⟨v1, m1⟩ := X
    have f1 := (nu 0 n a hn).2 v1 m1 hA
    have e1 := fun d => ((nu d n a hn).2 v1 m1 hA).2.2
    cases hB : nmr tp M m1 0 9 with
    | inl er =>
      simp only [hB]
      refine ⟨fun k pl hk => ?_, fun d2 o2 t2 p2 a2 m hk => (by cases hk)⟩
      cases hk
      obtain ⟨n2, e2⟩ := (nv d m1 (va_up a 3 (upd (a 3) pm v1)) f1.1).1 k pl hB
      refine ⟨nmr_f f1.1 hB, n2, lq_s sb dn ow tm pm u, va_up a 3 (upd (a 3) pm v1), ?_⟩
      simp only [cr_209, eb_209_0, jx_ns_r, jx_ns_n, jx_ns_q, jx_ns_i, jx_gl_0, jx_gl_s, if_true, if_false, ite_true, ite_false, eq_self, Bool.false_eq_true, List.length_cons, List.length_nil, Nat.zero_le, Nat.reduceAdd, Nat.reduceSub, Nat.reduceLeDiff, Nat.reduceLT, Nat.reduceEqDiff, Int.reduceToNat, reduceIte, xe_aload, jx_rv_r, jx_rv_n, jx_rv_q, xk_getf, jx_gf_i, jx_ov_s, ak_V, xe_istore, xk_iload, jx_iv_i, ak_I, xe_iconst, xi_0, xx_0, xi_99, xe_inv2, jx_cc_i, jx_cc_v, Nat.reduceMod, Nat.reduceDiv, jx_cl9_i, xk_iast, ja_is, ak_S, ak_P, xi_9, xx_9, xe_dup, jx_2_i, jx_2_l, jx_2_r, jx_2_n, jx_2_q, or_self, xi_1, xx_1, xe_iadd, xk_putf, jx_pf_i, jx_pf_z, jx_pf_l, jx_pf_r, jx_pf_n, jx_pf_q, xe_return, jx_s1, List.set_cons_zero, List.set_cons_succ, jx_2_u, jx_2_s, jx_k_i, jx_k_l, jx_k_r, jx_k_n, jx_k_u, jx_k_s, jx_k_q, tx_r ht, sw_r, sw_f, tx_f, tx_s, sw_rq, sw_wqo, sw_wqr, cq_f, cq_s, va_up_s, lq_r, e1, ip, e2, jx_cc_x xh_209]
    | inr Y =>
      obtain ⟨v2, m2⟩ := Y
      simp only [hB]
      refine ⟨fun k pl hk => (by cases hk), fun d2 o2 t2 p2 a2 m hk => ?_⟩
      cases hk
      have f2 := (nv 0 m1 (va_up a 3 (upd (a 3) pm v1)) f1.1).2 v2 m2 hB
      have e2 := fun d => ((nv d m1 (va_up a 3 (upd (a 3) pm v1)) f1.1).2 v2 m2 hB).2.2
      refine ⟨⟨by omega, f2.1⟩, rfl, rfl, rfl, rfl, ?_⟩
      have r43 : (va_up a 3 (upd (a 3) pm v1)) 4 = a 4 := rfl
      simp only [cr_209, eb_209_0, jx_ns_r, jx_ns_n, jx_ns_q, jx_ns_i, jx_gl_0, jx_gl_s, if_true, if_false, ite_true, ite_false, eq_self, Bool.false_eq_true, List.length_cons, List.length_nil, Nat.zero_le, Nat.reduceAdd, Nat.reduceSub, Nat.reduceLeDiff, Nat.reduceLT, Nat.reduceEqDiff, Int.reduceToNat, reduceIte, xe_aload, jx_rv_r, jx_rv_n, jx_rv_q, xk_getf, jx_gf_i, jx_ov_s, ak_V, xe_istore, xk_iload, jx_iv_i, ak_I, xe_iconst, xi_0, xx_0, xi_99, xe_inv2, jx_cc_i, jx_cc_v, Nat.reduceMod, Nat.reduceDiv, jx_cl9_i, xk_iast, ja_is, ak_S, ak_P, xi_9, xx_9, xe_dup, jx_2_i, jx_2_l, jx_2_r, jx_2_n, jx_2_q, or_self, xi_1, xx_1, xe_iadd, xk_putf, jx_pf_i, jx_pf_z, jx_pf_l, jx_pf_r, jx_pf_n, jx_pf_q, xe_return, jx_s1, List.set_cons_zero, List.set_cons_succ, jx_2_u, jx_2_s, jx_k_i, jx_k_l, jx_k_r, jx_k_n, jx_k_u, jx_k_s, jx_k_q, tx_r ht, sw_r, sw_f, tx_f, tx_s, sw_rq, sw_wqo, sw_wqr, cq_f, cq_s, va_up_s, lq_r, e1, ip, e2, r43, nI_1, lq_wp]
theorem T_thingNumber (hT : T.length = 6) (ht : 151 ≤ t) (eM : F 9 = nI M) (hM : M ≤ 400) (hn : n ≤ M) :
    (∀ k pl, nmr tp M n 0 (nI tm - 1) = .inl (k, pl) → ∃ n2, jx_cr (d + 3) 207 [.ref t] (sw (tx h t (nI n) e' g' (u')) cu F o p (lq_s sb dn ow tm pm u, a, w) z T x ru im tp R) = some (.inr (), (sw (tx h t (n2) e' g' (u')) cu F o p (lq_s sb dn ow tm pm u, a, w) z T (nI k, nI pl) ru im tp R))) ∧
    (∀ v m, nmr tp M n 0 (nI tm - 1) = .inr (v, m) → m ≤ M ∧ n < m ∧ jx_cr (d + 3) 207 [.ref t] (sw (tx h t (nI n) e' g' (u')) cu F o p (lq_s sb dn ow tm pm u, a, w) z T x ru im tp R) = some (.inl (some (.int v)), (sw (tx h t (nI m) e' g' (u')) cu F o p (lq_s sb dn ow tm pm u, a, w) z T x ru im tp R))) := by
  have t3 : 3 ≤ t := by omega
  have nu := T_number (d := d) (h := h) (x := x) (cu := cu) (F := F) (o := o) (p := p) (z := z) (T := T) (ru := ru) (im := im) (tp := tp) (R := R) (q := (lq_s sb dn ow tm pm u, a, w)) (n := n) (e' := e') (g' := g') (u' := u') (l := 0) (v := nI tm - 1) hT ht eM hM hn
  refine ⟨fun k pl hk => ?_, fun v m hk => ?_⟩
  · obtain ⟨n2, e2⟩ := nu.1 k pl hk
    refine ⟨n2, ?_⟩
    simp only [cr_207, eb_207_0, jx_ns_r, jx_ns_n, jx_ns_q, jx_ns_i, jx_gl_0, jx_gl_s, if_true, if_false, ite_true, ite_false, eq_self, Bool.false_eq_true, List.length_cons, List.length_nil, Nat.zero_le, Nat.reduceAdd, Nat.reduceSub, Nat.reduceLeDiff, Nat.reduceLT, Nat.reduceEqDiff, Int.reduceToNat, reduceIte, xe_aload, jx_rv_r, jx_rv_n, jx_rv_q, xe_iconst, xi_0, xx_0, xk_getf, jx_gf_i, jx_ov_s, ak_V, xi_1, xx_1, xe_isub, xe_inv2, jx_cc_i, jx_cc_v, Nat.reduceMod, Nat.reduceDiv, jx_cl9_i, xe_ireturn, tx_r ht, sw_r, sw_f, tx_f, tx_s, sw_rq, sw_wqo, sw_wqr, cq_f, cq_s, va_up_s, lq_r, e2, jx_cc_x xh_207]
  · obtain ⟨h1, h2, e2⟩ := nu.2 v m hk
    refine ⟨h1, h2, ?_⟩
    simp only [cr_207, eb_207_0, jx_ns_r, jx_ns_n, jx_ns_q, jx_ns_i, jx_gl_0, jx_gl_s, if_true, if_false, ite_true, ite_false, eq_self, Bool.false_eq_true, List.length_cons, List.length_nil, Nat.zero_le, Nat.reduceAdd, Nat.reduceSub, Nat.reduceLeDiff, Nat.reduceLT, Nat.reduceEqDiff, Int.reduceToNat, reduceIte, xe_aload, jx_rv_r, jx_rv_n, jx_rv_q, xe_iconst, xi_0, xx_0, xk_getf, jx_gf_i, jx_ov_s, ak_V, xi_1, xx_1, xe_isub, xe_inv2, jx_cc_i, jx_cc_v, Nat.reduceMod, Nat.reduceDiv, jx_cl9_i, xe_ireturn, tx_r ht, sw_r, sw_f, tx_f, tx_s, sw_rq, sw_wqo, sw_wqr, cq_f, cq_s, va_up_s, lq_r, e2]
theorem T_quarrelHere (hT : T.length = 6) (ht : 151 ≤ t) (eM : F 9 = nI M) (hM : M ≤ 400) (hn : n ≤ M) (htm : tm ≤ 6) :
    (∀ k pl, lnh tp M 4 dn ow tm pm a n = .inl (k, pl) → (k ≤ 4 ∧ pl ≤ M) ∧ ∃ n2 s2 a2, jx_cr (d + 4) 210 [.ref t] (sw (tx h t (nI n) e' g' (u')) cu F o p (lq_s sb dn ow tm pm u, a, w) z T x ru im tp R) = some (.inr (), (sw (tx h t (n2) e' g' (u')) cu F o p (s2, a2, w) z T (nI k, nI pl) ru im tp R))) ∧
    (∀ d2 o2 t2 p2 a2 m, lnh tp M 4 dn ow tm pm a n = .inr ((d2, o2, t2, p2, a2), m) → (n < m ∧ m ≤ M) ∧ d2 = dn ∧ o2 = ow ∧ t2 = tm ∧ p2 = pm ∧ jx_cr (d + 4) 210 [.ref t] (sw (tx h t (nI n) e' g' (u')) cu F o p (lq_s sb dn ow tm pm u, a, w) z T x ru im tp R) = some (.inl none, (sw (tx h t (nI m) e' g' (u')) cu F o p (lq_s sb d2 o2 t2 p2 u, a2, w) z T x ru im tp R))) := by
  have t3 : 3 ≤ t := by omega
  have nu := fun d n (hn : n ≤ M) => T_thingNumber (d := d) (h := h) (x := x) (cu := cu) (F := F) (o := o) (p := p) (z := z) (T := T) (ru := ru) (im := im) (tp := tp) (R := R) (t := t) (sb := sb) (dn := dn) (ow := ow) (tm := tm) (pm := pm) (u := u) (a := a) (w := w) (n := n) (e' := e') (g' := g') (u' := u') hT ht eM hM hn
  rw [lnh, if_neg (by omega), if_neg (by omega), if_neg (by omega), if_neg (by omega)]
  cases hA : nmr tp M n 0 (nI tm - 1) with
  | inl er =>
    refine ⟨fun k pl hk => ?_, fun d2 o2 t2 p2 a2 m hk => (by cases hk)⟩
    cases hk
    obtain ⟨n2, e2⟩ := (nu d n hn).1 k pl hA
    refine ⟨nmr_f hn hA, n2, lq_s sb dn ow tm pm u, a, ?_⟩
    simp only [cr_210, eb_210_0, jx_ns_r, jx_ns_n, jx_ns_q, jx_ns_i, jx_gl_0, jx_gl_s, if_true, if_false, ite_true, ite_false, eq_self, Bool.false_eq_true, List.length_cons, List.length_nil, Nat.zero_le, Nat.reduceAdd, Nat.reduceSub, Nat.reduceLeDiff, Nat.reduceLT, Nat.reduceEqDiff, Int.reduceToNat, reduceIte, xe_aload, jx_rv_r, jx_rv_n, jx_rv_q, xe_inv0, jx_cc_i, jx_cc_v, Nat.reduceMod, Nat.reduceDiv, jx_cl9_i, xe_istore, xe_pop, jx_2_i, jx_2_l, jx_2_r, jx_2_n, jx_2_q, or_self, xk_getf, jx_gf_i, jx_ov_s, ak_V, xk_iload, jx_iv_i, ak_I, xe_icmp_eq, xe_iconst, xi_1, xx_1, xe_goto, xi_0, xx_0, xe_goto_w, xe_inv3, xe_dup2, xk_iald, ja_ia, ak_A, true_or, or_true, xe_ishl, xe_ior, xk_iast, ja_is, ak_S, ak_P, xe_return, jx_s1, List.set_cons_zero, List.set_cons_succ, jx_2_u, jx_2_s, jx_k_i, jx_k_l, jx_k_r, jx_k_n, jx_k_u, jx_k_s, jx_k_q, tx_r ht, e2, jx_cc_x xh_210]
  | inr X =>
    obtain ⟨v1, m1⟩ := X
    have f1 := (nu 0 n hn).2 v1 m1 hA
    have e1 := fun d => ((nu d n hn).2 v1 m1 hA).2.2
    have b1 := nmr_b hA
    have i1 := ix_b b1.1 b1.2 (by omega)
    have le := skp_le (tp := tp) f1.1
    have ge := skp_ge tp M m1
    have ii := skp_i (tp := tp) f1.1
    have s1 := fun (d : Nat) => T_see (d := d) (n := m1) (h := h) (x := x) (cu := cu) (F := F) (o := o) (p := p) (z := z) (T := T) (ru := ru) (im := im) (tp := tp) (R := R) (q := (lq_s sb dn ow tm pm u, a, w)) (u' := u') (e' := e') (g' := g') ht eM hM f1.1
    have es : nmr tp M m1 0 (nI tm - 1) = nmr tp M (skp tp M m1) 0 (nI tm - 1) := by rw [nmr, nmr, ii]
    cases hB : nmr tp M m1 0 (nI tm - 1) with
    | inl er =>
      simp only [hB]
      refine ⟨fun k pl hk => ?_, fun d2 o2 t2 p2 a2 m hk => (by cases hk)⟩
      cases hk
      obtain ⟨n2, e2⟩ := (nu d (skp tp M m1) le).1 k pl (es ▸ hB)
      refine ⟨nmr_f f1.1 hB, n2, lq_s sb dn ow tm pm u, a, ?_⟩
      simp only [cr_210, eb_210_0, jx_ns_r, jx_ns_n, jx_ns_q, jx_ns_i, jx_gl_0, jx_gl_s, if_true, if_false, ite_true, ite_false, eq_self, Bool.false_eq_true, List.length_cons, List.length_nil, Nat.zero_le, Nat.reduceAdd, Nat.reduceSub, Nat.reduceLeDiff, Nat.reduceLT, Nat.reduceEqDiff, Int.reduceToNat, reduceIte, xe_aload, jx_rv_r, jx_rv_n, jx_rv_q, xe_inv0, jx_cc_i, jx_cc_v, Nat.reduceMod, Nat.reduceDiv, jx_cl9_i, xe_istore, xe_pop, jx_2_i, jx_2_l, jx_2_r, jx_2_n, jx_2_q, or_self, xk_getf, jx_gf_i, jx_ov_s, ak_V, xk_iload, jx_iv_i, ak_I, xe_icmp_eq, xe_iconst, xi_1, xx_1, xe_goto, xi_0, xx_0, xe_goto_w, xe_inv3, xe_dup2, xk_iald, ja_ia, ak_A, true_or, or_true, xe_ishl, xe_ior, xk_iast, ja_is, ak_S, ak_P, xe_return, jx_s1, List.set_cons_zero, List.set_cons_succ, jx_2_u, jx_2_s, jx_k_i, jx_k_l, jx_k_r, jx_k_n, jx_k_u, jx_k_s, jx_k_q, tx_r ht, sw_r, sw_f, tx_f, tx_s, sw_rq, sw_wqo, sw_wqr, cq_f, cq_s, va_up_s, e1, s1, e2, jx_cc_x xh_210]
    | inr Y =>
      obtain ⟨v2, m2⟩ := Y
      simp only [hB]
      have b2 := nmr_b hB
      have i2 := ix_b b2.1 b2.2 (by omega)
      have f2 := (nu 0 (skp tp M m1) le).2 v2 m2 (es ▸ hB)
      have e2 := fun d => ((nu d (skp tp M m1) le).2 v2 m2 (es ▸ hB)).2.2
      by_cases q : v1 = v2
      · rw [if_pos q]
        refine ⟨fun k pl hk => ?_, fun d2 o2 t2 p2 a2 m hk => (by cases hk)⟩
        cases hk
        have k1 : nI 1 = 1 := rfl
        have d0 := fun (d : Nat) => T_demand0 (d := d) (h := h) (x := x) (cu := cu) (F := F) (o := o) (p := p) (z := z) (T := T) (ru := ru) (im := im) (tp := tp) (R := R) (q := (lq_s sb dn ow tm pm u, a, w)) (t := t) (u' := u') (v := 1) (l := nI (skp tp M m1)) (n' := nI m2) (e' := e') (g' := g') hT ht
        refine ⟨⟨by omega, le⟩, nI m2, lq_s sb dn ow tm pm u, a, ?_⟩
        simp only [cr_210, eb_210_0, eb_210_30, eb_210_31, jx_ns_r, jx_ns_n, jx_ns_q, jx_ns_i, jx_gl_0, jx_gl_s, if_true, if_false, ite_true, ite_false, eq_self, Bool.false_eq_true, List.length_cons, List.length_nil, Nat.zero_le, Nat.reduceAdd, Nat.reduceSub, Nat.reduceLeDiff, Nat.reduceLT, Nat.reduceEqDiff, Int.reduceToNat, reduceIte, xe_aload, jx_rv_r, jx_rv_n, jx_rv_q, xe_inv0, jx_cc_i, jx_cc_v, Nat.reduceMod, Nat.reduceDiv, jx_cl9_i, xe_istore, xe_pop, jx_2_i, jx_2_l, jx_2_r, jx_2_n, jx_2_q, or_self, xk_getf, jx_gf_i, jx_ov_s, ak_V, xk_iload, jx_iv_i, ak_I, xe_icmp_eq, xe_iconst, xi_1, xx_1, xe_goto, xi_0, xx_0, xe_goto_w, xe_inv3, xe_dup2, xk_iald, ja_ia, ak_A, true_or, or_true, xe_ishl, xe_ior, xk_iast, ja_is, ak_S, ak_P, xe_return, jx_s1, List.set_cons_zero, List.set_cons_succ, jx_2_u, jx_2_s, jx_k_i, jx_k_l, jx_k_r, jx_k_n, jx_k_u, jx_k_s, jx_k_q, tx_r ht, sw_r, sw_f, tx_f, tx_s, sw_rq, sw_wqo, sw_wqr, cq_f, cq_s, va_up_s, e1, s1, e2, q, d0, k1, jx_cc_x xh_210]
      · rw [if_neg q]
        refine ⟨fun k pl hk => (by cases hk), fun d2 o2 t2 p2 a2 m hk => ?_⟩
        cases hk
        have x1 : jx_ix v1 6 = some v1.toNatClampNeg := by
          have := sp_ix (show v1.toNatClampNeg < 6 by omega) (by decide)
          rwa [← i1.2] at this
        have x2 : jx_ix v2 6 = some v2.toNatClampNeg := by
          have := sp_ix (show v2.toNatClampNeg < 6 by omega) (by decide)
          rwa [← i2.2] at this
        refine ⟨⟨by omega, f2.1⟩, rfl, rfl, rfl, rfl, ?_⟩
        simp only [cr_210, eb_210_0, eb_210_31, jx_ns_r, jx_ns_n, jx_ns_q, jx_ns_i, jx_gl_0, jx_gl_s, if_true, if_false, ite_true, ite_false, eq_self, Bool.false_eq_true, List.length_cons, List.length_nil, Nat.zero_le, Nat.reduceAdd, Nat.reduceSub, Nat.reduceLeDiff, Nat.reduceLT, Nat.reduceEqDiff, Int.reduceToNat, reduceIte, xe_aload, jx_rv_r, jx_rv_n, jx_rv_q, xe_inv0, jx_cc_i, jx_cc_v, Nat.reduceMod, Nat.reduceDiv, jx_cl9_i, xe_istore, xe_pop, jx_2_i, jx_2_l, jx_2_r, jx_2_n, jx_2_q, or_self, xk_getf, jx_gf_i, jx_ov_s, ak_V, xk_iload, jx_iv_i, ak_I, xe_icmp_eq, xe_iconst, xi_1, xx_1, xe_goto, xi_0, xx_0, xe_goto_w, xe_inv3, xe_dup2, xk_iald, ja_ia, ak_A, true_or, or_true, xe_ishl, xe_ior, xk_iast, ja_is, ak_S, ak_P, xe_return, jx_s1, List.set_cons_zero, List.set_cons_succ, jx_2_u, jx_2_s, jx_k_i, jx_k_l, jx_k_r, jx_k_n, jx_k_u, jx_k_s, jx_k_q, tx_r ht, sw_r, sw_f, tx_f, tx_s, sw_rq, sw_wqo, sw_wqr, cq_f, cq_s, va_up_s, e1, s1, e2, q, T_demand1 (l := 1) (by decide), x1, x2, va_up_up]
end SDQ
