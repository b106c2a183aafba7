/-! TEXTS: a court told -/
set_option maxRecDepth 100000
/-- the lines of a court, u of them read already -/
noncomputable def cts (tp : Nat → Int32) (M : Nat) : Nat → Nat → Nat → Int32 → Nat → Nat → (Nat → Nat → Int32) → Nat → (Nat × Nat) ⊕ (Nat × Int32 × Nat × Nat × (Nat → Nat → Int32))
  | 0, _, _, _, _, _, _, _ => .inl (0, 0)
  | f + 1, u, dn, ow, tm, pm, a, n => match fd (fun k => wmb tp M (skp tp M n) (1 + k)) 5 0 with
    | none => .inl (0, skp tp M n)
    | some k => @ite _ (canb k u tm pm) (Classical.propDecidable _) (match lnh tp M k dn ow tm pm a (skp tp M n + st_n (1 + k)) with
      | .inl er => .inl er
      | .inr ((d2, o2, t2, p2, a2), m) => if sg tp M (skp tp M m) = 59 then cts tp M f (u + 1) d2 o2 t2 p2 a2 (skp tp M m + 1) else if sg tp M (skp tp M m) = -1 then .inr (d2, o2, t2, p2, a2) else .inl (0, skp tp M m)) (.inl (4, skp tp M n))
section SDS
variable {d : Nat} {h : jx_H} {cu : Option Nat} {F : Nat → Int32} {o p q z : cq_C} {T : List Value} {x : Int32 × Int32} {ru im : Nat → Option Nat} {tp : Nat → Int32} {R : Nat → Nat → Int32} {s : Nat → Int32} {a : Nat → Nat → Int32} {w : Nat → Int64}
variable {t M n k u j dn tm pm : Nat} {u' e' g' n' ow : Int32} {sb : Nat → Int32}
theorem lq_u (hu : 0 < u) : lq_s sb dn ow tm pm u = lq_s sb dn ow tm pm 1 := by
  funext k
  simp only [lq_s]
  rw [if_neg (show ¬ u = 0 by omega), if_neg (show ¬ 1 = 0 by omega)]
theorem sq_begins : jx_cr (d + 1) 171 [.ref 75] (sw h cu F o p (s, a, w) z T x ru im tp R) = some (.inl none, sw h cu F o p (cq_bgs s, cq_bgn a, w) z T x ru im tp R) := by
  have := cq_begins (d := d) (b := 75) (h := sw h cu F o p (s, a, w) z T x ru im tp R) (s := s) (a := a) (w := w)
  rwa [sw_q, sw_q] at this
theorem T_courtl (hs : ss_ok h) (hT : T.length = 6) (ht : 151 ≤ t) (eM : F 9 = nI M) (hM : M ≤ 400) : ∀ f d n u dn ow tm pm a l1 l2, (l1 = jx_un ∨ ∃ v, l1 = .int v) → (l2 = jx_un ∨ ∃ v, l2 = .int v) → M - n < f → n ≤ M → u ≤ 40 → tm ≤ 6 → pm ≤ 6 → (u ≠ 0 → 1 ≤ dn ∧ dn ≤ 12) → (u ≠ 0 → 1 ≤ ow ∧ ow ≤ 99) →
    (∀ kk pl, cts tp M f u dn ow tm pm a n = .inl (kk, pl) → (kk ≤ 4 ∧ pl ≤ M) ∧ ∃ n2 u2 s2 a2, jx_eb (d + 6) 212 15 [.ref t, l1, l2] [] (sw (tx h t (nI n) e' g' (nI u)) cu F o p (lq_s sb dn ow tm pm u, a, w) z T x ru im tp R) = some (.inr (), (sw (tx h t (n2) e' g' (u2)) cu F o p (s2, a2, w) z T (nI kk, nI pl) ru im tp R))) ∧
    (∀ d2 o2 t2 p2 a2, cts tp M f u dn ow tm pm a n = .inr (d2, o2, t2, p2, a2) → (1 ≤ d2 ∧ d2 ≤ 12) ∧ (1 ≤ o2 ∧ o2 ≤ 99) ∧ t2 ≤ 6 ∧ p2 ≤ 6 ∧ ∃ n2 u2, jx_eb (d + 6) 212 15 [.ref t, l1, l2] [] (sw (tx h t (nI n) e' g' (nI u)) cu F o p (lq_s sb dn ow tm pm u, a, w) z T x ru im tp R) = some (.inl (some (.ref 75)), (sw (tx h t (n2) e' g' (u2)) cu F o p ((cq_bgs (lq_s sb d2 o2 t2 p2 1)), (cq_bgn a2), w) z T x ru im tp R))) := by
  intro f
  induction f with
  | zero => intro d n u dn ow tm pm a l1 l2 h1 h2 hf; omega
  | succ f ih =>
    intro d n u dn ow tm pm a l1 l2 hl1 hl2 hf hn hu htm hpm hdn how
    have t3 : 3 ≤ t := by omega
    have s1 := fun d => T_see (d := d) (n := n) (h := h) (x := x) (cu := cu) (F := F) (o := o) (p := p) (z := z) (T := T) (ru := ru) (im := im) (tp := tp) (R := R) (q := (lq_s sb dn ow tm pm u, a, w)) (u' := nI u) (e' := e') (g' := g') ht eM hM hn
    have le := skp_le (tp := tp) hn
    have ge := skp_ge tp M n
    have ii := skp_i (tp := tp) hn
    rw [cts]
    generalize skp tp M n = m at le ge ii s1 ⊢
    have so := fun (d : Nat) => T_oneOf (d := d) (h := h) (x := x) (cu := cu) (F := F) (o := o) (p := p) (z := z) (T := T) (ru := ru) (im := im) (tp := tp) (R := R) (q := (lq_s sb dn ow tm pm u, a, w)) (u' := nI u) (n := m) (e' := e') (g' := g') (nw := 5) (a := 103) (f := fun k => 1 + k) (ar := sw_lw) hs (fun k hk => by omega) (by omega) (by omega) (fun n' => sw_r.2.2.2.1) (fun k hk => by show some (5 + k) = some (4 + (1 + k)); congr 1; omega) ht eM hM le
    rw [ii] at so
    have d0 := fun (d : Nat) (k : Int32) => T_demand0 (d := d) (h := h) (x := x) (cu := cu) (F := F) (o := o) (p := p) (z := z) (T := T) (ru := ru) (im := im) (tp := tp) (R := R) (q := (lq_s sb dn ow tm pm u, a, w)) (u' := nI u) (t := t) (v := k) (l := nI m) (n' := nI m) (e' := e') (g' := g') hT ht
    cases hF : fd (fun k => wmb tp M m (1 + k)) 5 0 with
    | none =>
      rw [hF] at so
      refine ⟨fun kk pl hk => ?_, fun d2 o2 t2 p2 a2 hk => (by cases hk)⟩
      cases hk
      have d00 : ∀ d, jx_cr (d + 1) 194 [.ref t, .int 0, .int 0, .int (nI m)] (sw (tx h t (nI m) e' g' (nI u)) cu F o p (lq_s sb dn ow tm pm u, a, w) z T x ru im tp R) = some (.inr (), (sw (tx h t (nI m) e' g' (nI u)) cu F o p (lq_s sb dn ow tm pm u, a, w) z T (nI 0, nI m) ru im tp R)) := fun d => d0 d 0
      refine ⟨⟨by omega, le⟩, nI m, nI u, lq_s sb dn ow tm pm u, a, ?_⟩
      rcases hl1 with rfl | ⟨v, rfl⟩ <;> rcases hl2 with rfl | ⟨v, rfl⟩ <;> simp only [eb_212_15, eb_212_47, eb_212_48, jx_ns_r, jx_ns_n, jx_ns_q, jx_ns_i, jx_gl_0, jx_gl_s, if_true, if_false, ite_true, ite_false, eq_self, Bool.false_eq_true, List.length_cons, List.length_nil, Nat.zero_le, Nat.reduceAdd, Nat.reduceSub, Nat.reduceLeDiff, Nat.reduceLT, Nat.reduceEqDiff, Int.reduceToNat, reduceIte, xe_aload, jx_rv_r, jx_rv_n, jx_rv_q, xk_getf, jx_gf_i, jx_ov_s, ak_V, xe_inv1, jx_cc_i, jx_cc_v, Nat.reduceMod, Nat.reduceDiv, jx_cl9_i, xe_pop, jx_2_i, jx_2_l, jx_2_r, jx_2_n, jx_2_q, or_self, xe_goto_w, xe_inv0, xe_istore, xk_iload, jx_iv_i, ak_I, xe_iconst, xi_m1, xe_icmp_eq, xi_1, xx_1, xe_goto, xi_0, xx_0, xe_inv3, xi_4, xx_4, xe_dup, xe_iadd, xk_putf, ak_P, jx_pf_i, jx_pf_z, jx_pf_l, jx_pf_r, jx_pf_n, jx_pf_q, xk_qald, ja_qa, ak_A, ak_Q, true_or, or_true, and_self, and_true, true_and, xi_59, xe_ifne, xe_areturn_n, xe_areturn_r, jx_s1, List.set_cons_zero, List.set_cons_succ, jx_2_u, jx_2_s, jx_k_i, jx_k_l, jx_k_r, jx_k_n, jx_k_u, jx_k_s, jx_k_q, tx_r ht, sw_r, sw_f, tx_f, tx_s, s1, so, d00, jx_cc_x xh_212]
    | some kw =>
      rw [hF] at so
      have fk := fd_some _ _ _ hF
      have kb : kw < 5 := by omega
      have sn := st_nb (show 1 + kw < 22 by omega)
      have wmk : wm tp M m (1 + kw) := wmb_i.mp fk.2.2
      have wl := wm_le le wmk
      have nz : ¬ nI kw = -1 := fun q => by
        have := congrArg Int32.toInt q
        rw [nI_toInt (by omega)] at this
        exact absurd this (by show ¬ (kw : Int) = -1; omega)
      have cb := fun d => T_canBe (d := d) (h := h) (x := x) (cu := cu) (F := F) (o := o) (p := p) (z := z) (T := T) (ru := ru) (im := im) (tp := tp) (R := R) (t := t) (w := w) (a := a) (n' := nI m) (sb := sb) (dn := dn) (ow := ow) (k := kw) (u := u) (tm := tm) (pm := pm) (e' := e') (g' := g') ht kb hu htm hpm
      dsimp only
      by_cases hc : canb kw u tm pm
      · rw [if_pos hc]
        rw [sp_bl_t hc] at cb
        have u40 : u < 40 := hc.1
        have ln := fun d => T_line (d := d) (h := h) (x := x) (cu := cu) (F := F) (o := o) (p := p) (z := z) (T := T) (ru := ru) (im := im) (tp := tp) (R := R) (t := t) (sb := sb) (dn := dn) (ow := ow) (tm := tm) (pm := pm) (u := u) (k := kw) (j := u + 1) (a := a) (w := w) (n := m + st_n (1 + kw)) (e' := e') (g' := g') hT ht eM hM wl kb hc htm hpm hdn how
        have wu := fun n' => tx_w (h := h) (x := x) (cu := cu) (F := F) (o := o) (p := p) (z := z) (T := T) (ru := ru) (im := im) (tp := tp) (R := R) (q := (lq_s sb dn ow tm pm u, a, w)) (t := t) (n' := n') (e' := e') (g' := g') (u' := nI u) (n2 := n') (e2 := e') (g2 := g') (u2 := nI (u + 1)) ht
        have hH : ∀ u', ss_ok (sw (tx h t (nI m) e' g' (u')) cu F o p (lq_s sb dn ow tm pm u, a, w) z T x ru im tp R) := fun u' => ss_sw (ss_tx ht hs)
        have sl := fun d u' => String_length (d := d) (hH u') (show 1 + kw < 22 by omega)
        have h19 : ∀ u', ∃ fs, ((sw (tx h t (nI m) e' g' (u')) cu F o p (lq_s sb dn ow tm pm u, a, w) z T x ru im tp R)).1 (4 + (1 + kw)) = .inr (19, .ref (26 + (1 + kw)) :: .int 0 :: fs) := fun u' => ((hH u') (1 + kw) (by omega)).1
        obtain ⟨fs, h19⟩ := h19 (nI (u + 1))
        have sl1 := fun d => sl d (nI (u + 1))
        have i1 := sp_ix kb (show 5 < 2 ^ 31 by omega)
        have elw : sw_lw kw = some (4 + (1 + kw)) := by show some (5 + kw) = some (4 + (1 + kw)); congr 1; omega
        cases hL : lnh tp M kw dn ow tm pm a (m + st_n (1 + kw)) with
        | inl er =>
          refine ⟨fun kk pl hk => ?_, fun d2 o2 t2 p2 a2 hk => (by cases hk)⟩
          cases hk
          obtain ⟨b1, n2, s2, a2, e2⟩ := (ln (d + 1)).1 kk pl hL
          refine ⟨b1, n2, nI (u + 1), s2, a2, ?_⟩
          rcases hl1 with rfl | ⟨v, rfl⟩ <;> rcases hl2 with rfl | ⟨v, rfl⟩ <;> simp only [eb_212_15, eb_212_48, jx_ns_r, jx_ns_n, jx_ns_q, jx_ns_i, jx_gl_0, jx_gl_s, if_true, if_false, ite_true, ite_false, eq_self, Bool.false_eq_true, List.length_cons, List.length_nil, Nat.zero_le, Nat.reduceAdd, Nat.reduceSub, Nat.reduceLeDiff, Nat.reduceLT, Nat.reduceEqDiff, Int.reduceToNat, reduceIte, xe_aload, jx_rv_r, jx_rv_n, jx_rv_q, xk_getf, jx_gf_i, jx_ov_s, ak_V, xe_inv1, jx_cc_i, jx_cc_v, Nat.reduceMod, Nat.reduceDiv, jx_cl9_i, xe_pop, jx_2_i, jx_2_l, jx_2_r, jx_2_n, jx_2_q, or_self, xe_goto_w, xe_inv0, xe_istore, xk_iload, jx_iv_i, ak_I, xe_iconst, xi_m1, xe_icmp_eq, xi_1, xx_1, xe_goto, xi_0, xx_0, xe_inv3, xi_4, xx_4, xe_dup, xe_iadd, xk_putf, ak_P, jx_pf_i, jx_pf_z, jx_pf_l, jx_pf_r, jx_pf_n, jx_pf_q, xk_qald, ja_qa, ak_A, ak_Q, true_or, or_true, and_self, and_true, true_and, xi_59, xe_ifne, xe_areturn_n, xe_areturn_r, jx_s1, List.set_cons_zero, List.set_cons_succ, jx_2_u, jx_2_s, jx_k_i, jx_k_l, jx_k_r, jx_k_n, jx_k_u, jx_k_s, jx_k_q, tx_r ht, tx_w ht, sw_r, sw_f, tx_f, tx_s, s1, so, nz, T_demand1 (l := 1) (by decide), cb, nI_1, i1, elw, va_rf, h19, sl1, nI_add, e2, jx_cc_x xh_212]
        | inr X =>
          obtain ⟨⟨d2, o2, t2, p2, a2⟩, m1⟩ := X
          obtain ⟨⟨c1, c2⟩, c3, c4, c5, c6, e2⟩ := (ln (d + 1)).2 d2 o2 t2 p2 a2 m1 hL
          dsimp only
          have ts := fun (d : Nat) => T_takesSign (d := d) (n := m1) (v := 59) (h := h) (x := x) (cu := cu) (F := F) (o := o) (p := p) (z := z) (T := T) (ru := ru) (im := im) (tp := tp) (R := R) (q := (lq_s sb d2 o2 t2 p2 (u + 1), a2, w)) (u' := nI (u + 1)) (e' := e') (g' := g') ht eM hM c2
          have le1 := skp_le (tp := tp) c2
          have ge1 := skp_ge tp M m1
          have ii1 := skp_i (tp := tp) c2
          by_cases h59 : sg tp M (skp tp M m1) = 59
          · simp only [if_pos h59] at ts ⊢
            have m2M := sg_lt (fun z => by rw [z] at h59; exact absurd h59 (by decide))
            have go := ih d (skp tp M m1 + 1) (u + 1) d2 o2 t2 p2 a2 (.int (nI m)) (.int (nI kw)) (.inr ⟨_, rfl⟩) (.inr ⟨_, rfl⟩) (by omega) m2M (by omega) c5 c6 (fun _ => c3) (fun _ => c4)
            have st : jx_eb (d + 6) 212 15 [.ref t, l1, l2] [] (sw (tx h t (nI n) e' g' (nI u)) cu F o p (lq_s sb dn ow tm pm u, a, w) z T x ru im tp R) = jx_eb (d + 6) 212 15 [.ref t, .int (nI m), .int (nI kw)] [] (sw (tx h t (nI (skp tp M m1 + 1)) e' g' (nI (u + 1))) cu F o p (lq_s sb d2 o2 t2 p2 (u + 1), a2, w) z T x ru im tp R) := by
              rw [eb_212_15]
              rcases hl1 with rfl | ⟨v, rfl⟩ <;> rcases hl2 with rfl | ⟨v, rfl⟩ <;> simp only [eb_212_48, jx_ns_r, jx_ns_n, jx_ns_q, jx_ns_i, jx_gl_0, jx_gl_s, if_true, if_false, ite_true, ite_false, eq_self, Bool.false_eq_true, List.length_cons, List.length_nil, Nat.zero_le, Nat.reduceAdd, Nat.reduceSub, Nat.reduceLeDiff, Nat.reduceLT, Nat.reduceEqDiff, Int.reduceToNat, reduceIte, xe_aload, jx_rv_r, jx_rv_n, jx_rv_q, xk_getf, jx_gf_i, jx_ov_s, ak_V, xe_inv1, jx_cc_i, jx_cc_v, Nat.reduceMod, Nat.reduceDiv, jx_cl9_i, xe_pop, jx_2_i, jx_2_l, jx_2_r, jx_2_n, jx_2_q, or_self, xe_goto_w, xe_inv0, xe_istore, xk_iload, jx_iv_i, ak_I, xe_iconst, xi_m1, xe_icmp_eq, xi_1, xx_1, xe_goto, xi_0, xx_0, xe_inv3, xi_4, xx_4, xe_dup, xe_iadd, xk_putf, ak_P, jx_pf_i, jx_pf_z, jx_pf_l, jx_pf_r, jx_pf_n, jx_pf_q, xk_qald, ja_qa, ak_A, ak_Q, true_or, or_true, and_self, and_true, true_and, xi_59, xe_ifne, xe_areturn_n, xe_areturn_r, jx_s1, List.set_cons_zero, List.set_cons_succ, jx_2_u, jx_2_s, jx_k_i, jx_k_l, jx_k_r, jx_k_n, jx_k_u, jx_k_s, jx_k_q, tx_r ht, tx_w ht, sw_r, sw_f, tx_f, tx_s, s1, so, nz, T_demand1 (l := 1) (by decide), cb, nI_1, i1, elw, va_rf, h19, sl1, nI_add, e2, ts, sp_10]
            rw [st]
            exact go
          · simp only [if_neg h59] at ts ⊢
            by_cases hm1 : sg tp M (skp tp M m1) = -1
            · rw [if_pos hm1]
              have te := fun (d : Nat) => T_ends1 (d := d) (n := skp tp M m1) (h := h) (x := x) (cu := cu) (F := F) (o := o) (p := p) (z := z) (T := T) (ru := ru) (im := im) (tp := tp) (R := R) (q := (lq_s sb d2 o2 t2 p2 (u + 1), a2, w)) (u' := nI (u + 1)) (e' := e') (g' := g') ht eM hM le1 (by rw [ii1]; exact hm1)
              rw [ii1] at te
              have bg := fun (d : Nat) => sq_begins (d := d) (h := tx h t (nI (skp tp M m1)) e' g' (nI (u + 1))) (x := x) (cu := cu) (F := F) (o := o) (p := p) (z := z) (T := T) (ru := ru) (im := im) (tp := tp) (R := R) (s := lq_s sb d2 o2 t2 p2 (u + 1)) (a := a2) (w := w)
              refine ⟨fun kk pl hk => (by cases hk), fun d3 o3 t3' p3 a3 hk => ?_⟩
              cases hk
              refine ⟨c3, c4, c5, c6, nI (skp tp M m1), nI (u + 1), ?_⟩
              rw [lq_u (u := u + 1) (by omega)] at bg te ts e2
              rw [eb_212_15]
              rcases hl1 with rfl | ⟨v, rfl⟩ <;> rcases hl2 with rfl | ⟨v, rfl⟩ <;> simp only [eb_212_48, jx_ns_r, jx_ns_n, jx_ns_q, jx_ns_i, jx_gl_0, jx_gl_s, if_true, if_false, ite_true, ite_false, eq_self, Bool.false_eq_true, List.length_cons, List.length_nil, Nat.zero_le, Nat.reduceAdd, Nat.reduceSub, Nat.reduceLeDiff, Nat.reduceLT, Nat.reduceEqDiff, Int.reduceToNat, reduceIte, xe_aload, jx_rv_r, jx_rv_n, jx_rv_q, xk_getf, jx_gf_i, jx_ov_s, ak_V, xe_inv1, jx_cc_i, jx_cc_v, Nat.reduceMod, Nat.reduceDiv, jx_cl9_i, xe_pop, jx_2_i, jx_2_l, jx_2_r, jx_2_n, jx_2_q, or_self, xe_goto_w, xe_inv0, xe_istore, xk_iload, jx_iv_i, ak_I, xe_iconst, xi_m1, xe_icmp_eq, xi_1, xx_1, xe_goto, xi_0, xx_0, xe_inv3, xi_4, xx_4, xe_dup, xe_iadd, xk_putf, ak_P, jx_pf_i, jx_pf_z, jx_pf_l, jx_pf_r, jx_pf_n, jx_pf_q, xk_qald, ja_qa, ak_A, ak_Q, true_or, or_true, and_self, and_true, true_and, xi_59, xe_ifne, xe_areturn_n, xe_areturn_r, jx_s1, List.set_cons_zero, List.set_cons_succ, jx_2_u, jx_2_s, jx_k_i, jx_k_l, jx_k_r, jx_k_n, jx_k_u, jx_k_s, jx_k_q, tx_r ht, tx_w ht, sw_r, sw_f, tx_f, tx_s, sw_rq, sw_wqo, sw_wqr, cq_f, cq_s, va_up_s, s1, so, nz, T_demand1 (l := 1) (by decide), cb, nI_1, i1, elw, va_rf, h19, sl1, nI_add, e2, ts, te, bg]
            · rw [if_neg hm1]
              have te : ∀ d, jx_cr (d + 2) 205 [.ref t] (sw (tx h t (nI (skp tp M m1)) e' g' (nI (u + 1))) cu F o p (lq_s sb d2 o2 t2 p2 (u + 1), a2, w) z T x ru im tp R) = some (.inr (), (sw (tx h t (nI (skp tp M m1)) e' g' (nI (u + 1))) cu F o p (lq_s sb d2 o2 t2 p2 (u + 1), a2, w) z T (nI 0, nI (skp tp M m1)) ru im tp R)) := fun d => by
                have := T_ends0 (d := d) (n := skp tp M m1) (h := h) (x := x) (cu := cu) (F := F) (o := o) (p := p) (z := z) (T := T) (ru := ru) (im := im) (tp := tp) (R := R) (q := (lq_s sb d2 o2 t2 p2 (u + 1), a2, w)) (t := t) (u' := nI (u + 1)) (e' := e') (g' := g') hT ht eM hM le1 (by rw [ii1]; exact hm1)
                rw [ii1] at this
                exact this
              refine ⟨fun kk pl hk => ?_, fun d3 o3 t3' p3 a3 hk => (by cases hk)⟩
              cases hk
              refine ⟨⟨by omega, le1⟩, nI (skp tp M m1), nI (u + 1), lq_s sb d2 o2 t2 p2 (u + 1), a2, ?_⟩
              rw [eb_212_15]
              rcases hl1 with rfl | ⟨v, rfl⟩ <;> rcases hl2 with rfl | ⟨v, rfl⟩ <;> simp only [eb_212_48, jx_ns_r, jx_ns_n, jx_ns_q, jx_ns_i, jx_gl_0, jx_gl_s, if_true, if_false, ite_true, ite_false, eq_self, Bool.false_eq_true, List.length_cons, List.length_nil, Nat.zero_le, Nat.reduceAdd, Nat.reduceSub, Nat.reduceLeDiff, Nat.reduceLT, Nat.reduceEqDiff, Int.reduceToNat, reduceIte, xe_aload, jx_rv_r, jx_rv_n, jx_rv_q, xk_getf, jx_gf_i, jx_ov_s, ak_V, xe_inv1, jx_cc_i, jx_cc_v, Nat.reduceMod, Nat.reduceDiv, jx_cl9_i, xe_pop, jx_2_i, jx_2_l, jx_2_r, jx_2_n, jx_2_q, or_self, xe_goto_w, xe_inv0, xe_istore, xk_iload, jx_iv_i, ak_I, xe_iconst, xi_m1, xe_icmp_eq, xi_1, xx_1, xe_goto, xi_0, xx_0, xe_inv3, xi_4, xx_4, xe_dup, xe_iadd, xk_putf, ak_P, jx_pf_i, jx_pf_z, jx_pf_l, jx_pf_r, jx_pf_n, jx_pf_q, xk_qald, ja_qa, ak_A, ak_Q, true_or, or_true, and_self, and_true, true_and, xi_59, xe_ifne, xe_areturn_n, xe_areturn_r, jx_s1, List.set_cons_zero, List.set_cons_succ, jx_2_u, jx_2_s, jx_k_i, jx_k_l, jx_k_r, jx_k_n, jx_k_u, jx_k_s, jx_k_q, tx_r ht, tx_w ht, sw_r, sw_f, tx_f, tx_s, s1, so, nz, T_demand1 (l := 1) (by decide), cb, nI_1, i1, elw, va_rf, h19, sl1, nI_add, e2, ts, te, jx_cc_x xh_212]
      · rw [if_neg hc]
        rw [sp_bl_f hc] at cb
        refine ⟨fun kk pl hk => ?_, fun d2 o2 t2 p2 a2 hk => (by cases hk)⟩
        cases hk
        have k4 : nI 4 = 4 := rfl
        refine ⟨⟨by omega, le⟩, nI m, nI u, lq_s sb dn ow tm pm u, a, ?_⟩
        rcases hl1 with rfl | ⟨v, rfl⟩ <;> rcases hl2 with rfl | ⟨v, rfl⟩ <;> simp only [eb_212_15, eb_212_48, jx_ns_r, jx_ns_n, jx_ns_q, jx_ns_i, jx_gl_0, jx_gl_s, if_true, if_false, ite_true, ite_false, eq_self, Bool.false_eq_true, List.length_cons, List.length_nil, Nat.zero_le, Nat.reduceAdd, Nat.reduceSub, Nat.reduceLeDiff, Nat.reduceLT, Nat.reduceEqDiff, Int.reduceToNat, reduceIte, xe_aload, jx_rv_r, jx_rv_n, jx_rv_q, xk_getf, jx_gf_i, jx_ov_s, ak_V, xe_inv1, jx_cc_i, jx_cc_v, Nat.reduceMod, Nat.reduceDiv, jx_cl9_i, xe_pop, jx_2_i, jx_2_l, jx_2_r, jx_2_n, jx_2_q, or_self, xe_goto_w, xe_inv0, xe_istore, xk_iload, jx_iv_i, ak_I, xe_iconst, xi_m1, xe_icmp_eq, xi_1, xx_1, xe_goto, xi_0, xx_0, xe_inv3, xi_4, xx_4, xe_dup, xe_iadd, xk_putf, ak_P, jx_pf_i, jx_pf_z, jx_pf_l, jx_pf_r, jx_pf_n, jx_pf_q, xk_qald, ja_qa, ak_A, ak_Q, true_or, or_true, and_self, and_true, true_and, xi_59, xe_ifne, xe_areturn_n, xe_areturn_r, jx_s1, List.set_cons_zero, List.set_cons_succ, jx_2_u, jx_2_s, jx_k_i, jx_k_l, jx_k_r, jx_k_n, jx_k_u, jx_k_s, jx_k_q, tx_r ht, sw_r, sw_f, tx_f, tx_s, s1, so, nz, T_demand1 (l := 1) (by decide), cb, d0, k4, jx_cc_x xh_212]
end SDS
