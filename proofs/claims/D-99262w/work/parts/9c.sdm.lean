/-! TEXTS: clauses, rules -/
set_option maxRecDepth 100000
/-- a clause read at n -/
noncomputable def clh (tp : Nat → Int32) (M n g : Nat) : (Nat × Nat) ⊕ (Cl × Nat × Nat) := match sm tp M n g with
  | .inl er => .inl er
  | .inr (L, m, g1) => if wmb tp M (skp tp M m) 18 = true then (match tst tp M (fct tp M 11) (skp tp M m + 2) g1 with
    | .inl er => .inl er
    | .inr (B, m2, g2) => .inr ((L, some B), m2, g2)) else .inr ((L, none), skp tp M m, g1)
section SDM
variable {d : Nat} {h : jx_H} {cu : Option Nat} {F : Nat → Int32} {o p q z : cq_C} {T : List Value} {x : Int32 × Int32} {ru im : Nat → Option Nat} {tp : Nat → Int32} {R : Nat → Nat → Int32} {s : Nat → Int32} {a : Nat → Nat → Int32} {w : Nat → Int64}
variable {t M : Nat} {u' : Int32}
theorem T_clauseHere (hT : T.length = 6) (ht : 151 ≤ t) (eM : F 9 = nI M) (hM : M ≤ 400) (d : Nat) (h : jx_H) (n g : Nat) (x : Int32 × Int32) (hth : t < h.2.1) (hs : ss_ok h) (hn : n ≤ M) (hg : g ≤ 60) :
    (∀ k pl, clh tp M n g = .inl (k, pl) → (k ≤ 4 ∧ pl ≤ M) ∧ ∃ h1 n2 e2 g2, ex h h1 (M - n + 1) ∧ jx_cr (d + 47) 213 [.ref t] (sw (tx h t (nI n) (nI 0) (nI g) u') cu F o p q z T x ru im tp R) = some (.inr (), (sw (tx h1 t (n2) (e2) (g2) u') cu F o p q z T (nI k, nI pl) ru im tp R))) ∧
    (∀ C m g2, clh tp M n g = .inr (C, m, g2) → (n < m ∧ m ≤ M ∧ g ≤ g2 ∧ g2 ≤ 60) ∧ ∃ h1, ex h h1 (m - n + 1) ∧ clv h1 h.2.1 h1.2.1 h.2.1 C ∧ jx_cr (d + 47) 213 [.ref t] (sw (tx h t (nI n) (nI 0) (nI g) u') cu F o p q z T x ru im tp R) = some (.inl (some (.ref h.2.1)), (sw (tx h1 t (nI m) (nI 0) (nI g2) u') cu F o p q z T x ru im tp R))) := by
  have t3 : 3 ≤ t := by omega
  have HI := T_fact (cu := cu) (F := F) (o := o) (p := p) (q := q) (z := z) (T := T) (ru := ru) (im := im) (tp := tp) (R := R) (u' := u') (t := t) hT ht eM hM 10 (Nat.le_refl _)
  have HT := T_tested (e := 10 - 10) (D := 33) (cu := cu) (F := F) (o := o) (p := p) (q := q) (z := z) (T := T) (ru := ru) (im := im) (tp := tp) (R := R) (u' := u') (t := t) hT ht eM hM (T_parted (e := 10 - 10) (D := 33) (cu := cu) (F := F) (o := o) (p := p) (q := q) (z := z) (T := T) (ru := ru) (im := im) (tp := tp) (R := R) (u' := u') (t := t) hT ht eM hM HI)
  simp only [Nat.sub_self] at HT
  have e0 : ex h (jx_new h (.inr (6, jx_nf 6)) (jx_nf 6).length) 1 := ex_new ex_refl rfl (by rw [nf_1.2.2.2.2.2.2.2]; show 2 ≤ 16; omega) (Nat.le_refl _)
  have vv := T_sum (e := 0) (cu := cu) (F := F) (o := o) (p := p) (q := q) (z := z) (T := T) (ru := ru) (im := im) (tp := tp) (R := R) (u' := u') (t := t) hT ht eM hM (d + 36) (jx_new h (.inr (6, jx_nf 6)) (jx_nf 6).length) n g x (by rw [jx_new_sz]; show t < h.2.1 + 1; omega) (ex_ss e0 (by omega) hs) hn hg
  have nw := txw_new (h := h) (x := x) (cu := cu) (F := F) (o := o) (p := p) (q := q) (z := z) (T := T) (ru := ru) (im := im) (tp := tp) (R := R) (u' := u') (t := t) (n' := nI n) (e' := nI 0) (g' := nI g) (y := .inr (6, jx_nf 6)) (c := (jx_nf 6).length) (by omega) (by omega)
  have hr3 : 3 ≤ h.2.1 := by omega
  have ci := fun (d : Nat) (H : jx_H) => Clause_init (d := d) (H := H) hr3
  rw [clh]
  cases hV : sm tp M n g with
  | inl er =>
    refine ⟨fun k pl hk => ?_, fun L2 m2 g2 hk => (by cases hk)⟩
    cases hk
    obtain ⟨b1, h1, n2, e2, g2, b2, b3⟩ := vv.1 k pl hV
    refine ⟨b1, h1, n2, e2, g2, ex_tr e0 b2 (by omega), ?_⟩
    simp only [cr_213, eb_213_0, jx_ns_r, jx_ns_n, jx_ns_q, jx_ns_i, jx_gl_0, jx_gl_s, if_true, if_false, ite_true, ite_false, eq_self, Bool.false_eq_true, List.length_cons, List.length_nil, Nat.zero_le, Nat.reduceAdd, Nat.reduceSub, Nat.reduceLeDiff, Nat.reduceLT, Nat.reduceEqDiff, Int.reduceToNat, reduceIte, xe_new, xe_dup, jx_2_i, jx_2_l, jx_2_r, jx_2_n, jx_2_q, or_self, xe_spc0, jx_cc_i, jx_cc_v, Nat.reduceMod, Nat.reduceDiv, xe_astore, jx_rv_r, jx_rv_n, jx_rv_q, xe_aload, xe_inv0, jx_cl9_i, xk_putf, ak_P, jx_pf_i, jx_pf_z, jx_pf_l, jx_pf_r, jx_pf_n, jx_pf_q, xe_ldc, xe_inv1, xe_ifeq, xe_goto, xe_null, xe_goto_w, xe_areturn_n, xe_areturn_r, jx_s1, List.set_cons_zero, List.set_cons_succ, jx_2_u, jx_2_s, jx_k_i, jx_k_l, jx_k_r, jx_k_n, jx_k_u, jx_k_s, jx_k_q, tx_r ht, ci, nw, hr3, txw_sz, b3, jx_cc_x xh_213]
  | inr X =>
    obtain ⟨L1, m1, g1⟩ := X
    obtain ⟨⟨c1, c2, c3, c4⟩, h1, r1, b2, b3, b4⟩ := vv.2 L1 m1 g1 hV
    have hb : h.2.1 + 1 ≤ h1.2.1 := b2.1.1
    have l1 := b3.1
    have b31 : h.2.1 + 1 ≤ r1 := l1.2.1
    have r13 : 3 ≤ r1 := by omega
    have rd1 := txw_at (h := h1) (x := x) (cu := cu) (F := F) (o := o) (p := p) (q := q) (z := z) (T := T) (ru := ru) (im := im) (tp := tp) (R := R) (u' := u') (t := t) (n' := nI m1) (e' := nI 0) (g' := nI g1) (k := h.2.1) (by omega) (by omega)
    rw [b2.2.2.1 _ (by show h.2.1 < h.2.1 + 1; omega), jx_new_at, if_pos rfl, nf_1.2.2.2.2.2.2.2] at rd1
    have wr1 := fun y => txw_put (h := h1) (x := x) (cu := cu) (F := F) (o := o) (p := p) (q := q) (z := z) (T := T) (ru := ru) (im := im) (tp := tp) (R := R) (u' := u') (t := t) (n' := nI m1) (e' := nI 0) (g' := nI g1) (k := h.2.1) (y := y) (by omega) (by omega)
    have e1 : ex h (jx_put h1 h.2.1 (.inr (6, [.ref r1, .null]))) (m1 - n + 1) := ex_put (ex_tr e0 b2 (by omega)) rfl (Nat.le_refl _)
    have le := skp_le (tp := tp) c2
    have ge := skp_ge tp M m1
    have s1 := fun (d : Nat) => T_takesWord (d := d) (i := 18) (n := m1) (h := jx_put h1 h.2.1 (.inr (6, [.ref r1, .null]))) (x := x) (cu := cu) (F := F) (o := o) (p := p) (q := q) (z := z) (T := T) (ru := ru) (im := im) (tp := tp) (R := R) (u' := u') (t := t) (e' := nI 0) (g' := nI g1) (ex_ss e1 (by omega) hs) (by omega) ht eM hM c2
    have rd2 : ∀ n' , (sw (tx (jx_put h1 h.2.1 (.inr (6, [.ref r1, .null]))) t (n') (nI 0) (nI g1) u') cu F o p q z T x ru im tp R).1 h.2.1 = .inr (6, [.ref r1, .null]) := fun n' => by rw [txw_at (by omega) (by omega), jx_put_at, if_pos rfl]
    have wr2 := fun n' y => txw_put (h := jx_put h1 h.2.1 (.inr (6, [.ref r1, .null]))) (x := x) (cu := cu) (F := F) (o := o) (p := p) (q := q) (z := z) (T := T) (ru := ru) (im := im) (tp := tp) (R := R) (u' := u') (t := t) (n' := n') (e' := nI 0) (g' := nI g1) (k := h.2.1) (y := y) (by omega) (by omega)
    dsimp only
    generalize skp tp M m1 = m at le ge s1 ⊢
    have sn : st_n 18 = 2 := rfl
    by_cases hw : wm tp M m 18
    · have wl := wm_le le hw
      rw [sn] at s1
      simp only [if_pos hw, sp_bl_t hw] at s1
      simp only [if_pos (wmb_i.mpr hw)]
      have tt := HT d (jx_put h1 h.2.1 (.inr (6, [.ref r1, .null]))) (m + 2) g1 x (by show t < h1.2.1; omega) (ex_ss e1 (by omega) hs) (by omega) c4
      cases hV2 : tst tp M (fct tp M 11) (m + 2) g1 with
      | inl er =>
        refine ⟨fun k pl hk => ?_, fun L2 m2 g2 hk => (by cases hk)⟩
        cases hk
        obtain ⟨q1, h2, n2, e2, g2, q2, q3⟩ := tt.1 k pl hV2
        refine ⟨q1, h2, n2, e2, g2, ex_tr e1 q2 (by omega), ?_⟩
        simp only [cr_213, eb_213_0, jx_ns_r, jx_ns_n, jx_ns_q, jx_ns_i, jx_gl_0, jx_gl_s, if_true, if_false, ite_true, ite_false, eq_self, Bool.false_eq_true, List.length_cons, List.length_nil, Nat.zero_le, Nat.reduceAdd, Nat.reduceSub, Nat.reduceLeDiff, Nat.reduceLT, Nat.reduceEqDiff, Int.reduceToNat, reduceIte, xe_new, xe_dup, jx_2_i, jx_2_l, jx_2_r, jx_2_n, jx_2_q, or_self, xe_spc0, jx_cc_i, jx_cc_v, Nat.reduceMod, Nat.reduceDiv, xe_astore, jx_rv_r, jx_rv_n, jx_rv_q, xe_aload, xe_inv0, jx_cl9_i, xk_putf, ak_P, jx_pf_i, jx_pf_z, jx_pf_l, jx_pf_r, jx_pf_n, jx_pf_q, xe_ldc, xe_inv1, xe_ifeq, xe_goto, xe_null, xe_goto_w, xe_areturn_n, xe_areturn_r, jx_s1, List.set_cons_zero, List.set_cons_succ, jx_2_u, jx_2_s, jx_k_i, jx_k_l, jx_k_r, jx_k_n, jx_k_u, jx_k_s, jx_k_q, tx_r ht, ci, nw, hr3, txw_sz, b4, r13, rd1, wr1, List.set_cons_zero, s1, sp_10, q3, jx_cc_x xh_213]
      | inr Y =>
        obtain ⟨B2, m3, g3⟩ := Y
        obtain ⟨⟨y1, y2, y3, y4⟩, h2, r2, q2, q3, q4⟩ := tt.2 B2 m3 g3 hV2
        refine ⟨fun k pl hk => (by cases hk), fun L3 m4 g4 hk => ?_⟩
        cases hk
        have hb2 : h1.2.1 ≤ h2.2.1 := q2.1.1
        have l2 := q3.1
        have l21 : h1.2.1 ≤ r2 := l2.2.1
        have r23 : 3 ≤ r2 := by omega
        have rd3 := txw_at (h := h2) (x := x) (cu := cu) (F := F) (o := o) (p := p) (q := q) (z := z) (T := T) (ru := ru) (im := im) (tp := tp) (R := R) (u' := u') (t := t) (n' := nI m3) (e' := nI 0) (g' := nI g3) (k := h.2.1) (by omega) (by omega)
        rw [q2.2.2.1 _ (by show h.2.1 < h1.2.1; omega), jx_put_at, if_pos rfl] at rd3
        have wr3 := fun y => txw_put (h := h2) (x := x) (cu := cu) (F := F) (o := o) (p := p) (q := q) (z := z) (T := T) (ru := ru) (im := im) (tp := tp) (R := R) (u' := u') (t := t) (n' := nI m3) (e' := nI 0) (g' := nI g3) (k := h.2.1) (y := y) (by omega) (by omega)
        refine ⟨⟨by omega, y2, by omega, y4⟩, jx_put h2 h.2.1 (.inr (6, [.ref r1, .ref r2])), ex_put (ex_tr e1 q2 (by omega)) rfl (Nat.le_refl _), ⟨⟨Nat.le_refl _, by show h.2.1 < h2.2.1; omega⟩, r1, some r2, by rw [jx_put_at, if_pos rfl]; rfl, ?_, ?_⟩, ?_⟩
        · refine dv_mono b3 (by omega) (by show h.2.1 ≤ h.2.1 + 1; omega) hb2 (fun j j1 j2 => ?_)
          have j3 : h.2.1 + 1 ≤ j := j1
          rw [jx_put_at, if_neg (by omega), q2.2.2.1 j j2, jx_put_at, if_neg (by omega)]
        · refine dt_mono q3 (by omega) (by show h.2.1 ≤ h1.2.1; omega) (Nat.le_refl _) (fun j j1 j2 => ?_)
          have j3 : h1.2.1 ≤ j := j1
          rw [jx_put_at, if_neg (by omega)]
        · simp only [cr_213, eb_213_0, eb_213_34, jx_ns_r, jx_ns_n, jx_ns_q, jx_ns_i, jx_gl_0, jx_gl_s, if_true, if_false, ite_true, ite_false, eq_self, Bool.false_eq_true, List.length_cons, List.length_nil, Nat.zero_le, Nat.reduceAdd, Nat.reduceSub, Nat.reduceLeDiff, Nat.reduceLT, Nat.reduceEqDiff, Int.reduceToNat, reduceIte, xe_new, xe_dup, jx_2_i, jx_2_l, jx_2_r, jx_2_n, jx_2_q, or_self, xe_spc0, jx_cc_i, jx_cc_v, Nat.reduceMod, Nat.reduceDiv, xe_astore, jx_rv_r, jx_rv_n, jx_rv_q, xe_aload, xe_inv0, jx_cl9_i, xk_putf, ak_P, jx_pf_i, jx_pf_z, jx_pf_l, jx_pf_r, jx_pf_n, jx_pf_q, xe_ldc, xe_inv1, xe_ifeq, xe_goto, xe_null, xe_goto_w, xe_areturn_n, xe_areturn_r, jx_s1, List.set_cons_zero, List.set_cons_succ, jx_2_u, jx_2_s, jx_k_i, jx_k_l, jx_k_r, jx_k_n, jx_k_u, jx_k_s, jx_k_q, tx_r ht, ci, nw, hr3, txw_sz, b4, r13, rd1, wr1, List.set_cons_zero, List.set_cons_succ, s1, sp_10, q4, r23, rd3, wr3]
    · simp only [if_neg hw, sp_bl_f hw] at s1
      simp only [if_neg (mt wmb_i.mp hw)]
      refine ⟨fun k pl hk => (by cases hk), fun L3 m4 g4 hk => ?_⟩
      cases hk
      have pp : jx_put (jx_put h1 h.2.1 (.inr (6, [.ref r1, .null]))) h.2.1 (.inr (6, [.ref r1, .null])) = jx_put h1 h.2.1 (.inr (6, [.ref r1, .null])) := jx_pp
      refine ⟨⟨by omega, le, by omega, c4⟩, jx_put h1 h.2.1 (.inr (6, [.ref r1, .null])), ex_le e1 (by omega), ⟨⟨Nat.le_refl _, by show h.2.1 < h1.2.1; omega⟩, r1, none, by rw [jx_put_at, if_pos rfl]; rfl, ?_, trivial⟩, ?_⟩
      · refine dv_mono b3 (by omega) (by show h.2.1 ≤ h.2.1 + 1; omega) (Nat.le_refl _) (fun j j1 j2 => ?_)
        have j3 : h.2.1 + 1 ≤ j := j1
        rw [jx_put_at, if_neg (by omega)]
      · simp only [cr_213, eb_213_0, eb_213_33, eb_213_34, jx_ns_r, jx_ns_n, jx_ns_q, jx_ns_i, jx_gl_0, jx_gl_s, if_true, if_false, ite_true, ite_false, eq_self, Bool.false_eq_true, List.length_cons, List.length_nil, Nat.zero_le, Nat.reduceAdd, Nat.reduceSub, Nat.reduceLeDiff, Nat.reduceLT, Nat.reduceEqDiff, Int.reduceToNat, reduceIte, xe_new, xe_dup, jx_2_i, jx_2_l, jx_2_r, jx_2_n, jx_2_q, or_self, xe_spc0, jx_cc_i, jx_cc_v, Nat.reduceMod, Nat.reduceDiv, xe_astore, jx_rv_r, jx_rv_n, jx_rv_q, xe_aload, xe_inv0, jx_cl9_i, xk_putf, ak_P, jx_pf_i, jx_pf_z, jx_pf_l, jx_pf_r, jx_pf_n, jx_pf_q, xe_ldc, xe_inv1, xe_ifeq, xe_goto, xe_null, xe_goto_w, xe_areturn_n, xe_areturn_r, jx_s1, List.set_cons_zero, List.set_cons_succ, jx_2_u, jx_2_s, jx_k_i, jx_k_l, jx_k_r, jx_k_n, jx_k_u, jx_k_s, jx_k_q, tx_r ht, ci, nw, hr3, txw_sz, b4, r13, rd1, wr1, List.set_cons_zero, List.set_cons_succ, s1, rd2, wr2, pp]
end SDM
