/-! VALUES AND TESTS: what they answer -/
set_option maxRecDepth 100000
/-- the value r, of the cells lo .. hi, answers L -/
def dv (H : jx_H) (lo hi r : Nat) (L : (Nat → Int64) → Int64) : Prop :=
  (3 ≤ lo ∧ lo ≤ r ∧ r < hi) ∧ (∀ w w', (∀ i, i < 12 → w i = w' i) → L w = L w') ∧ ∃ ci fs, H.1 r = .inr (ci, fs) ∧ (8 ≤ ci ∧ ci ≤ 10) ∧ ∀ H' : jx_H, (∀ j, lo ≤ j → j < hi → H'.1 j = H.1 j) → ∀ d k w, H'.1 k = .inl (2, 12, .inr (.inl w)) → jx_cr (d + (hi - lo)) (jx_dt 0 ci) [.ref r, .ref k] H' = some (.inl (some (.long (L w))), H')
def dt (H : jx_H) (lo hi r : Nat) (B : (Nat → Int64) → Bool) : Prop :=
  (3 ≤ lo ∧ lo ≤ r ∧ r < hi) ∧ (∀ w w', (∀ i, i < 12 → w i = w' i) → B w = B w') ∧ ∃ ci fs, H.1 r = .inr (ci, fs) ∧ (12 ≤ ci ∧ ci ≤ 14) ∧ ∀ H' : jx_H, (∀ j, lo ≤ j → j < hi → H'.1 j = H.1 j) → ∀ d k w, H'.1 k = .inl (2, 12, .inr (.inl w)) → jx_cr (d + (hi - lo)) (jx_dt 1 ci) [.ref r, .ref k] H' = some (.inl (some (.int (if B w = true then 1 else 0))), H')
def prv (v : Int32) (x y : Int64) : Int64 := if v.toInt = 43 then x + y else if v.toInt = 45 then x - y else if v.toInt = 42 then x * y else if v.toInt = 37 then (if y = 0 then 0 else x - x / y * y) else (if y = 0 then 0 else x / y)
def cmv (v : Int32) (x y : Int64) : Bool := if v.toInt = 0 then decide (x < y) else if v.toInt = 1 then decide (x ≤ y) else if v.toInt = 2 then decide (x = y) else if v.toInt = 3 then decide (y ≤ x) else decide (y < x)
theorem dt08 : jx_dt 0 8 = 187 ∧ jx_dt 0 9 = 224 ∧ jx_dt 0 10 = 189 ∧ jx_dt 1 12 = 185 ∧ jx_dt 1 13 = 165 ∧ jx_dt 1 14 = 161 := ⟨rfl, rfl, rfl, rfl, rfl, rfl⟩
section DV
variable {H H2 : jx_H} {lo hi lo2 hi2 r r1 r2 m i : Nat} {L L1 L2 : (Nat → Int64) → Int64} {B B1 B2 : (Nat → Int64) → Bool} {n : Int64} {v : Int32}
theorem dv_mono (h : dv H lo hi r L) (h1 : 3 ≤ lo2) (h2 : lo2 ≤ lo) (h3 : hi ≤ hi2) (e : ∀ j, lo ≤ j → j < hi → H2.1 j = H.1 j) : dv H2 lo2 hi2 r L := by
  obtain ⟨⟨a1, a2, a3⟩, hE, ci, fs, b1, b2, b3⟩ := h
  refine ⟨⟨h1, by omega, by omega⟩, hE, ci, fs, (e r a2 a3).trans b1, b2, fun H' e' d k w hw => ?_⟩
  have := b3 H' (fun j j1 j2 => (e' j (by omega) (by omega)).trans (e j j1 j2)) (d + ((hi2 - lo2) - (hi - lo))) k w hw
  rwa [show d + (hi2 - lo2 - (hi - lo)) + (hi - lo) = d + (hi2 - lo2) by omega] at this
theorem dt_mono (h : dt H lo hi r B) (h1 : 3 ≤ lo2) (h2 : lo2 ≤ lo) (h3 : hi ≤ hi2) (e : ∀ j, lo ≤ j → j < hi → H2.1 j = H.1 j) : dt H2 lo2 hi2 r B := by
  obtain ⟨⟨a1, a2, a3⟩, hE, ci, fs, b1, b2, b3⟩ := h
  refine ⟨⟨h1, by omega, by omega⟩, hE, ci, fs, (e r a2 a3).trans b1, b2, fun H' e' d k w hw => ?_⟩
  have := b3 H' (fun j j1 j2 => (e' j (by omega) (by omega)).trans (e j j1 j2)) (d + ((hi2 - lo2) - (hi - lo))) k w hw
  rwa [show d + (hi2 - lo2 - (hi - lo)) + (hi - lo) = d + (hi2 - lo2) by omega] at this
theorem dv_num (h3 : 3 ≤ r) (e : H.1 r = .inr (8, [.long n])) : dv H r (r + 1) r (fun _ => n) := by
  refine ⟨⟨h3, Nat.le_refl _, by omega⟩, fun _ _ _ => rfl, 8, _, e, by omega, fun H' e' d k w hw => ?_⟩
  have er := (e' r (Nat.le_refl _) (by omega)).trans e
  rw [show d + (r + 1 - r) = d + 1 by omega]
  simp only [dt08, cr_187 jx_ns_r, eb_187_0, jx_ns_r, jx_ns_n, jx_ns_q, jx_ns_i, jx_gl_0, jx_gl_s, if_true, if_false, ite_true, ite_false, eq_self, Bool.false_eq_true, List.length_cons, List.length_nil, Nat.zero_le, Nat.reduceAdd, Nat.reduceSub, Nat.reduceLeDiff, Nat.reduceLT, Nat.reduceEqDiff, Int.reduceToNat, reduceIte, xe_aload, jx_rv_r, jx_rv_n, jx_rv_q, xk_getf, jx_gf_i, jx_ov_s, ak_V, xe_lreturn, er, List.getElem?_cons_zero]
theorem dv_word (h3 : 3 ≤ r) (hi : i < 12) (e : H.1 r = .inr (9, [.int (nI i)])) : dv H r (r + 1) r (fun w => w i) := by
  refine ⟨⟨h3, Nat.le_refl _, by omega⟩, fun w w' h => h i hi, 9, _, e, by omega, fun H' e' d k w hw => ?_⟩
  have er := (e' r (Nat.le_refl _) (by omega)).trans e
  have i1 := sp_ix hi (by decide)
  rw [show d + (r + 1 - r) = d + 1 by omega]
  simp only [dt08, cr_224 jx_ns_r, eb_224_0, jx_ns_r, jx_ns_n, jx_ns_q, jx_ns_i, jx_gl_0, jx_gl_s, if_true, if_false, ite_true, ite_false, eq_self, Bool.false_eq_true, List.length_cons, List.length_nil, Nat.zero_le, Nat.reduceAdd, Nat.reduceSub, Nat.reduceLeDiff, Nat.reduceLT, Nat.reduceEqDiff, Int.reduceToNat, reduceIte, xe_aload, jx_rv_r, jx_rv_n, jx_rv_q, xk_getf, jx_gf_i, jx_ov_s, ak_V, xk_lald, ja_ja, ak_A, ak_L, xe_lreturn, er, hw, List.getElem?_cons_zero, i1]
theorem lc_e {x y : Int64} : lg_cmp x y = 0 ↔ x = y := by
  have h1 := lg_cmp_lt (x := x) (y := y)
  have h2 := lg_cmp_gt (x := x) (y := y)
  constructor
  · intro h
    rw [h] at h1 h2
    have n1 : ¬ x < y := fun q => absurd (h1.mpr q) (by decide)
    have n2 : ¬ y < x := fun q => absurd (h2.mpr q) (by decide)
    exact Int64.le_antisymm (Int64.not_lt.mp n2) (Int64.not_lt.mp n1)
  · intro h
    subst h
    have n1 : ¬ lg_cmp x x < 0 := fun q => Int64.lt_irrefl (h1.mp q)
    have n2 : ¬ 0 < lg_cmp x x := fun q => Int64.lt_irrefl (h2.mp q)
    exact Int32.le_antisymm (Int32.not_lt.mp n2) (Int32.not_lt.mp n1)
theorem dv_pair (h1 : dv H lo m r1 L1) (h2 : dv H (m + 1) hi r2 L2) (e : H.1 m = .inr (10, [.ref r1, .ref r2, .int v])) : dv H lo hi m (fun w => prv v (L1 w) (L2 w)) := by
  obtain ⟨⟨a1, a2, a3⟩, hE1, c1, f1, b1, b2, b3⟩ := h1
  obtain ⟨⟨g1, g2, g3⟩, hE2, c2, f2, k1, k2, k3⟩ := h2
  refine ⟨⟨a1, by omega, by omega⟩, fun w w' hw => by simp only [hE1 w w' hw, hE2 w w' hw], 10, _, e, by omega, fun H' e' d k w hw => ?_⟩
  have er := (e' m (by omega) (by omega)).trans e
  have er1 := (e' r1 (by omega) (by omega)).trans b1
  have er2 := (e' r2 (by omega) (by omega)).trans k1
  have v1 := b3 H' (fun j j1 j2 => e' j (by omega) (by omega)) (d + ((hi - lo) - 1 - (m - lo))) k w hw
  have v2 := k3 H' (fun j j1 j2 => e' j (by omega) (by omega)) (d + ((hi - lo) - 1 - (hi - (m + 1)))) k w hw
  rw [show d + (hi - lo - 1 - (m - lo)) + (m - lo) = d + (hi - lo - 1) by omega] at v1
  rw [show d + (hi - lo - 1 - (hi - (m + 1))) + (hi - (m + 1)) = d + (hi - lo - 1) by omega] at v2
  rw [show d + (hi - lo) = d + (hi - lo - 1) + 1 by omega]
  generalize d + (hi - lo - 1) = D at v1 v2
  show jx_cr _ _ _ _ = some (.inl (some (.long (prv v (L1 w) (L2 w)))), H')
  generalize L1 w = X at v1 ⊢
  generalize L2 w = Y at v2 ⊢
  have r13 : 3 ≤ r1 := by omega
  have r23 : 3 ≤ r2 := by omega
  simp only [dt08, cr_189 jx_ns_r, eb_189_0, jx_ns_r, jx_ns_n, jx_ns_q, jx_ns_i, jx_gl_0, jx_gl_s, if_true, if_false, ite_true, ite_false, eq_self, Bool.false_eq_true, List.length_cons, List.length_nil, Nat.zero_le, Nat.reduceAdd, Nat.reduceSub, Nat.reduceLeDiff, Nat.reduceLT, Nat.reduceEqDiff, Int.reduceToNat, reduceIte, xe_aload, jx_rv_r, jx_rv_n, jx_rv_q, xk_getf, jx_gf_i, jx_ov_s, ak_V, xk_dsp1, jx_cl8_i, jx_cc_i, jx_cc_v, ak_D, Nat.reduceMod, Nat.reduceDiv, xe_lstore, jx_s2, xk_table, ak_T, List.getElem?_toArray, List.getElem?_cons_zero, List.getElem?_cons_succ, Int.reduceLT, Int.reduceSub, Int.reduceNeg, or_self, or_true, true_or, xk_lload, jx_lv_l, ak_L, xe_ladd, xe_lreturn, xe_lsub, xe_lmul, xe_lconst, xl_0, xe_lcmp, xe_ifne, xe_goto, xe_lrem, xe_goto_w, xe_ldiv, jx_s1, List.set_cons_zero, List.set_cons_succ, jx_2_i, jx_2_l, jx_2_r, jx_2_n, jx_2_u, jx_2_s, jx_2_q, jx_k_i, jx_k_l, jx_k_r, jx_k_n, jx_k_u, jx_k_s, jx_k_q, er, er1, er2, List.getElem?_cons_zero, List.getElem?_cons_succ, v1, v2, r13, r23]
  by_cases e43 : v.toInt = 43
  · simp only [e43, eb_189_72, jx_ns_r, jx_ns_n, jx_ns_q, jx_ns_i, jx_gl_0, jx_gl_s, if_true, if_false, ite_true, ite_false, eq_self, Bool.false_eq_true, List.length_cons, List.length_nil, Nat.zero_le, Nat.reduceAdd, Nat.reduceSub, Nat.reduceLeDiff, Nat.reduceLT, Nat.reduceEqDiff, Int.reduceToNat, reduceIte, xe_aload, jx_rv_r, jx_rv_n, jx_rv_q, xk_getf, jx_gf_i, jx_ov_s, ak_V, xk_dsp1, jx_cl8_i, jx_cc_i, jx_cc_v, ak_D, Nat.reduceMod, Nat.reduceDiv, xe_lstore, jx_s2, xk_table, ak_T, List.getElem?_toArray, List.getElem?_cons_zero, List.getElem?_cons_succ, Int.reduceLT, Int.reduceSub, Int.reduceNeg, or_self, or_true, true_or, xk_lload, jx_lv_l, ak_L, xe_ladd, xe_lreturn, xe_lsub, xe_lmul, xe_lconst, xl_0, xe_lcmp, xe_ifne, xe_goto, xe_lrem, xe_goto_w, xe_ldiv, jx_s1, List.set_cons_zero, List.set_cons_succ, jx_2_i, jx_2_l, jx_2_r, jx_2_n, jx_2_u, jx_2_s, jx_2_q, jx_k_i, jx_k_l, jx_k_r, jx_k_n, jx_k_u, jx_k_s, jx_k_q, prv]
  by_cases e45 : v.toInt = 45
  · simp only [e45, eb_189_77, jx_ns_r, jx_ns_n, jx_ns_q, jx_ns_i, jx_gl_0, jx_gl_s, if_true, if_false, ite_true, ite_false, eq_self, Bool.false_eq_true, List.length_cons, List.length_nil, Nat.zero_le, Nat.reduceAdd, Nat.reduceSub, Nat.reduceLeDiff, Nat.reduceLT, Nat.reduceEqDiff, Int.reduceToNat, reduceIte, xe_aload, jx_rv_r, jx_rv_n, jx_rv_q, xk_getf, jx_gf_i, jx_ov_s, ak_V, xk_dsp1, jx_cl8_i, jx_cc_i, jx_cc_v, ak_D, Nat.reduceMod, Nat.reduceDiv, xe_lstore, jx_s2, xk_table, ak_T, List.getElem?_toArray, List.getElem?_cons_zero, List.getElem?_cons_succ, Int.reduceLT, Int.reduceSub, Int.reduceNeg, or_self, or_true, true_or, xk_lload, jx_lv_l, ak_L, xe_ladd, xe_lreturn, xe_lsub, xe_lmul, xe_lconst, xl_0, xe_lcmp, xe_ifne, xe_goto, xe_lrem, xe_goto_w, xe_ldiv, jx_s1, List.set_cons_zero, List.set_cons_succ, jx_2_i, jx_2_l, jx_2_r, jx_2_n, jx_2_u, jx_2_s, jx_2_q, jx_k_i, jx_k_l, jx_k_r, jx_k_n, jx_k_u, jx_k_s, jx_k_q, prv, Int.reduceEq]
  by_cases e42 : v.toInt = 42
  · simp only [e42, eb_189_82, jx_ns_r, jx_ns_n, jx_ns_q, jx_ns_i, jx_gl_0, jx_gl_s, if_true, if_false, ite_true, ite_false, eq_self, Bool.false_eq_true, List.length_cons, List.length_nil, Nat.zero_le, Nat.reduceAdd, Nat.reduceSub, Nat.reduceLeDiff, Nat.reduceLT, Nat.reduceEqDiff, Int.reduceToNat, reduceIte, xe_aload, jx_rv_r, jx_rv_n, jx_rv_q, xk_getf, jx_gf_i, jx_ov_s, ak_V, xk_dsp1, jx_cl8_i, jx_cc_i, jx_cc_v, ak_D, Nat.reduceMod, Nat.reduceDiv, xe_lstore, jx_s2, xk_table, ak_T, List.getElem?_toArray, List.getElem?_cons_zero, List.getElem?_cons_succ, Int.reduceLT, Int.reduceSub, Int.reduceNeg, or_self, or_true, true_or, xk_lload, jx_lv_l, ak_L, xe_ladd, xe_lreturn, xe_lsub, xe_lmul, xe_lconst, xl_0, xe_lcmp, xe_ifne, xe_goto, xe_lrem, xe_goto_w, xe_ldiv, jx_s1, List.set_cons_zero, List.set_cons_succ, jx_2_i, jx_2_l, jx_2_r, jx_2_n, jx_2_u, jx_2_s, jx_2_q, jx_k_i, jx_k_l, jx_k_r, jx_k_n, jx_k_u, jx_k_s, jx_k_q, prv, Int.reduceEq]
  by_cases e37 : v.toInt = 37
  · by_cases y0 : Y = 0
    · simp only [e37, eb_189_87, eb_189_98, eb_189_102, jx_ns_r, jx_ns_n, jx_ns_q, jx_ns_i, jx_gl_0, jx_gl_s, if_true, if_false, ite_true, ite_false, eq_self, Bool.false_eq_true, List.length_cons, List.length_nil, Nat.zero_le, Nat.reduceAdd, Nat.reduceSub, Nat.reduceLeDiff, Nat.reduceLT, Nat.reduceEqDiff, Int.reduceToNat, reduceIte, xe_aload, jx_rv_r, jx_rv_n, jx_rv_q, xk_getf, jx_gf_i, jx_ov_s, ak_V, xk_dsp1, jx_cl8_i, jx_cc_i, jx_cc_v, ak_D, Nat.reduceMod, Nat.reduceDiv, xe_lstore, jx_s2, xk_table, ak_T, List.getElem?_toArray, List.getElem?_cons_zero, List.getElem?_cons_succ, Int.reduceLT, Int.reduceSub, Int.reduceNeg, or_self, or_true, true_or, xk_lload, jx_lv_l, ak_L, xe_ladd, xe_lreturn, xe_lsub, xe_lmul, xe_lconst, xl_0, xe_lcmp, xe_ifne, xe_goto, xe_lrem, xe_goto_w, xe_ldiv, jx_s1, List.set_cons_zero, List.set_cons_succ, jx_2_i, jx_2_l, jx_2_r, jx_2_n, jx_2_u, jx_2_s, jx_2_q, jx_k_i, jx_k_l, jx_k_r, jx_k_n, jx_k_u, jx_k_s, jx_k_q, prv, Int.reduceEq, lc_e, y0]
    · simp only [e37, eb_189_87, eb_189_98, eb_189_102, jx_ns_r, jx_ns_n, jx_ns_q, jx_ns_i, jx_gl_0, jx_gl_s, if_true, if_false, ite_true, ite_false, eq_self, Bool.false_eq_true, List.length_cons, List.length_nil, Nat.zero_le, Nat.reduceAdd, Nat.reduceSub, Nat.reduceLeDiff, Nat.reduceLT, Nat.reduceEqDiff, Int.reduceToNat, reduceIte, xe_aload, jx_rv_r, jx_rv_n, jx_rv_q, xk_getf, jx_gf_i, jx_ov_s, ak_V, xk_dsp1, jx_cl8_i, jx_cc_i, jx_cc_v, ak_D, Nat.reduceMod, Nat.reduceDiv, xe_lstore, jx_s2, xk_table, ak_T, List.getElem?_toArray, List.getElem?_cons_zero, List.getElem?_cons_succ, Int.reduceLT, Int.reduceSub, Int.reduceNeg, or_self, or_true, true_or, xk_lload, jx_lv_l, ak_L, xe_ladd, xe_lreturn, xe_lsub, xe_lmul, xe_lconst, xl_0, xe_lcmp, xe_ifne, xe_goto, xe_lrem, xe_goto_w, xe_ldiv, jx_s1, List.set_cons_zero, List.set_cons_succ, jx_2_i, jx_2_l, jx_2_r, jx_2_n, jx_2_u, jx_2_s, jx_2_q, jx_k_i, jx_k_l, jx_k_r, jx_k_n, jx_k_u, jx_k_s, jx_k_q, prv, Int.reduceEq, lc_e, y0]
  have last : jx_eb D 189 103 [.ref m, .ref k, .long X, jx_sn, .long Y, jx_sn] [] H' = some (.inl (some (.long (prv v X Y))), H') := by
    by_cases y0 : Y = 0
    · simp only [eb_189_103, eb_189_114, eb_189_118, jx_ns_r, jx_ns_n, jx_ns_q, jx_ns_i, jx_gl_0, jx_gl_s, if_true, if_false, ite_true, ite_false, eq_self, Bool.false_eq_true, List.length_cons, List.length_nil, Nat.zero_le, Nat.reduceAdd, Nat.reduceSub, Nat.reduceLeDiff, Nat.reduceLT, Nat.reduceEqDiff, Int.reduceToNat, reduceIte, xe_aload, jx_rv_r, jx_rv_n, jx_rv_q, xk_getf, jx_gf_i, jx_ov_s, ak_V, xk_dsp1, jx_cl8_i, jx_cc_i, jx_cc_v, ak_D, Nat.reduceMod, Nat.reduceDiv, xe_lstore, jx_s2, xk_table, ak_T, List.getElem?_toArray, List.getElem?_cons_zero, List.getElem?_cons_succ, Int.reduceLT, Int.reduceSub, Int.reduceNeg, or_self, or_true, true_or, xk_lload, jx_lv_l, ak_L, xe_ladd, xe_lreturn, xe_lsub, xe_lmul, xe_lconst, xl_0, xe_lcmp, xe_ifne, xe_goto, xe_lrem, xe_goto_w, xe_ldiv, jx_s1, List.set_cons_zero, List.set_cons_succ, jx_2_i, jx_2_l, jx_2_r, jx_2_n, jx_2_u, jx_2_s, jx_2_q, jx_k_i, jx_k_l, jx_k_r, jx_k_n, jx_k_u, jx_k_s, jx_k_q, prv, e43, e45, e42, e37, lc_e, y0]
    · simp only [eb_189_103, eb_189_114, eb_189_118, jx_ns_r, jx_ns_n, jx_ns_q, jx_ns_i, jx_gl_0, jx_gl_s, if_true, if_false, ite_true, ite_false, eq_self, Bool.false_eq_true, List.length_cons, List.length_nil, Nat.zero_le, Nat.reduceAdd, Nat.reduceSub, Nat.reduceLeDiff, Nat.reduceLT, Nat.reduceEqDiff, Int.reduceToNat, reduceIte, xe_aload, jx_rv_r, jx_rv_n, jx_rv_q, xk_getf, jx_gf_i, jx_ov_s, ak_V, xk_dsp1, jx_cl8_i, jx_cc_i, jx_cc_v, ak_D, Nat.reduceMod, Nat.reduceDiv, xe_lstore, jx_s2, xk_table, ak_T, List.getElem?_toArray, List.getElem?_cons_zero, List.getElem?_cons_succ, Int.reduceLT, Int.reduceSub, Int.reduceNeg, or_self, or_true, true_or, xk_lload, jx_lv_l, ak_L, xe_ladd, xe_lreturn, xe_lsub, xe_lmul, xe_lconst, xl_0, xe_lcmp, xe_ifne, xe_goto, xe_lrem, xe_goto_w, xe_ldiv, jx_s1, List.set_cons_zero, List.set_cons_succ, jx_2_i, jx_2_l, jx_2_r, jx_2_n, jx_2_u, jx_2_s, jx_2_q, jx_k_i, jx_k_l, jx_k_r, jx_k_n, jx_k_u, jx_k_s, jx_k_q, prv, e43, e45, e42, e37, lc_e, y0]
  by_cases out : v.toInt < 37 ∨ 45 < v.toInt
  · simp only [out, jx_ns_r, jx_ns_n, jx_ns_q, jx_ns_i, jx_gl_0, jx_gl_s, if_true, if_false, ite_true, ite_false, eq_self, Bool.false_eq_true, List.length_cons, List.length_nil, Nat.zero_le, Nat.reduceAdd, Nat.reduceSub, Nat.reduceLeDiff, Nat.reduceLT, Nat.reduceEqDiff, Int.reduceToNat, reduceIte, xe_aload, jx_rv_r, jx_rv_n, jx_rv_q, xk_getf, jx_gf_i, jx_ov_s, ak_V, xk_dsp1, jx_cl8_i, jx_cc_i, jx_cc_v, ak_D, Nat.reduceMod, Nat.reduceDiv, xe_lstore, jx_s2, xk_table, ak_T, List.getElem?_toArray, List.getElem?_cons_zero, List.getElem?_cons_succ, Int.reduceLT, Int.reduceSub, Int.reduceNeg, or_self, or_true, true_or, xk_lload, jx_lv_l, ak_L, xe_ladd, xe_lreturn, xe_lsub, xe_lmul, xe_lconst, xl_0, xe_lcmp, xe_ifne, xe_goto, xe_lrem, xe_goto_w, xe_ldiv, jx_s1, List.set_cons_zero, List.set_cons_succ, jx_2_i, jx_2_l, jx_2_r, jx_2_n, jx_2_u, jx_2_s, jx_2_q, jx_k_i, jx_k_l, jx_k_r, jx_k_n, jx_k_u, jx_k_s, jx_k_q, last]
  · rcases (by omega : v.toInt = 38 ∨ v.toInt = 39 ∨ v.toInt = 40 ∨ v.toInt = 41 ∨ v.toInt = 44) with q | q | q | q | q
    all_goals
      rw [q]
      simp only [jx_ns_r, jx_ns_n, jx_ns_q, jx_ns_i, jx_gl_0, jx_gl_s, if_true, if_false, ite_true, ite_false, eq_self, Bool.false_eq_true, List.length_cons, List.length_nil, Nat.zero_le, Nat.reduceAdd, Nat.reduceSub, Nat.reduceLeDiff, Nat.reduceLT, Nat.reduceEqDiff, Int.reduceToNat, reduceIte, xe_aload, jx_rv_r, jx_rv_n, jx_rv_q, xk_getf, jx_gf_i, jx_ov_s, ak_V, xk_dsp1, jx_cl8_i, jx_cc_i, jx_cc_v, ak_D, Nat.reduceMod, Nat.reduceDiv, xe_lstore, jx_s2, xk_table, ak_T, List.getElem?_toArray, List.getElem?_cons_zero, List.getElem?_cons_succ, Int.reduceLT, Int.reduceSub, Int.reduceNeg, or_self, or_true, true_or, xk_lload, jx_lv_l, ak_L, xe_ladd, xe_lreturn, xe_lsub, xe_lmul, xe_lconst, xl_0, xe_lcmp, xe_ifne, xe_goto, xe_lrem, xe_goto_w, xe_ldiv, jx_s1, List.set_cons_zero, List.set_cons_succ, jx_2_i, jx_2_l, jx_2_r, jx_2_n, jx_2_u, jx_2_s, jx_2_q, jx_k_i, jx_k_l, jx_k_r, jx_k_n, jx_k_u, jx_k_s, jx_k_q, last]
theorem dt_not (h2 : dt H (m + 1) hi r2 B2) (h3 : 3 ≤ m) (e : H.1 m = .inr (12, [.ref r2])) : dt H m hi m (fun w => !B2 w) := by
  obtain ⟨⟨g1, g2, g3⟩, hE2, c2, f2, k1, k2, k3⟩ := h2
  refine ⟨⟨h3, by omega, by omega⟩, fun w w' hw => by simp only [hE2 w w' hw], 12, _, e, by omega, fun H' e' d k w hw => ?_⟩
  have er := (e' m (by omega) (by omega)).trans e
  have er2 := (e' r2 (by omega) (by omega)).trans k1
  have v2 := k3 H' (fun j j1 j2 => e' j (by omega) (by omega)) d k w hw
  rw [show d + (hi - m) = d + (hi - (m + 1)) + 1 by omega]
  generalize d + (hi - (m + 1)) = D at v2
  have r23 : 3 ≤ r2 := by omega
  show jx_cr _ _ _ _ = some (.inl (some (.int (if (!B2 w) = true then 1 else 0))), H')
  cases hB : B2 w
  · rw [hB] at v2
    simp only [dt08, cr_185 jx_ns_r, eb_185_0, eb_185_15, eb_185_16, jx_ns_r, jx_ns_n, jx_ns_q, jx_ns_i, jx_gl_0, jx_gl_s, if_true, if_false, ite_true, ite_false, eq_self, Bool.false_eq_true, List.length_cons, List.length_nil, Nat.zero_le, Nat.reduceAdd, Nat.reduceSub, Nat.reduceLeDiff, Nat.reduceLT, Nat.reduceEqDiff, Int.reduceToNat, reduceIte, xe_aload, jx_rv_r, jx_rv_n, jx_rv_q, xk_getf, jx_gf_i, jx_ov_s, ak_V, xk_dsp1, jx_cl8_i, jx_cc_i, jx_cc_v, ak_D, Nat.reduceMod, Nat.reduceDiv, xe_ifne, xe_iconst, xi_1, xx_1, xe_goto, xi_0, xx_0, xe_goto_w, xe_zreturn, xZ, er, er2, List.getElem?_cons_zero, Bool.false_eq_true, if_false] at v2 ⊢
    simp only [v2, r23, eb_185_0, eb_185_15, eb_185_16, jx_ns_r, jx_ns_n, jx_ns_q, jx_ns_i, jx_gl_0, jx_gl_s, if_true, if_false, ite_true, ite_false, eq_self, Bool.false_eq_true, List.length_cons, List.length_nil, Nat.zero_le, Nat.reduceAdd, Nat.reduceSub, Nat.reduceLeDiff, Nat.reduceLT, Nat.reduceEqDiff, Int.reduceToNat, reduceIte, xe_aload, jx_rv_r, jx_rv_n, jx_rv_q, xk_getf, jx_gf_i, jx_ov_s, ak_V, xk_dsp1, jx_cl8_i, jx_cc_i, jx_cc_v, ak_D, Nat.reduceMod, Nat.reduceDiv, xe_ifne, xe_iconst, xi_1, xx_1, xe_goto, xi_0, xx_0, xe_goto_w, xe_zreturn, xZ, Bool.not_false]
  · rw [hB] at v2
    simp only [dt08, cr_185 jx_ns_r, eb_185_0, eb_185_15, eb_185_16, jx_ns_r, jx_ns_n, jx_ns_q, jx_ns_i, jx_gl_0, jx_gl_s, if_true, if_false, ite_true, ite_false, eq_self, Bool.false_eq_true, List.length_cons, List.length_nil, Nat.zero_le, Nat.reduceAdd, Nat.reduceSub, Nat.reduceLeDiff, Nat.reduceLT, Nat.reduceEqDiff, Int.reduceToNat, reduceIte, xe_aload, jx_rv_r, jx_rv_n, jx_rv_q, xk_getf, jx_gf_i, jx_ov_s, ak_V, xk_dsp1, jx_cl8_i, jx_cc_i, jx_cc_v, ak_D, Nat.reduceMod, Nat.reduceDiv, xe_ifne, xe_iconst, xi_1, xx_1, xe_goto, xi_0, xx_0, xe_goto_w, xe_zreturn, xZ, er, er2, List.getElem?_cons_zero, if_true] at v2 ⊢
    simp only [v2, r23, eb_185_0, eb_185_15, eb_185_16, jx_ns_r, jx_ns_n, jx_ns_q, jx_ns_i, jx_gl_0, jx_gl_s, if_true, if_false, ite_true, ite_false, eq_self, Bool.false_eq_true, List.length_cons, List.length_nil, Nat.zero_le, Nat.reduceAdd, Nat.reduceSub, Nat.reduceLeDiff, Nat.reduceLT, Nat.reduceEqDiff, Int.reduceToNat, reduceIte, xe_aload, jx_rv_r, jx_rv_n, jx_rv_q, xk_getf, jx_gf_i, jx_ov_s, ak_V, xk_dsp1, jx_cl8_i, jx_cc_i, jx_cc_v, ak_D, Nat.reduceMod, Nat.reduceDiv, xe_ifne, xe_iconst, xi_1, xx_1, xe_goto, xi_0, xx_0, xe_goto_w, xe_zreturn, xZ, Bool.not_true, sp_10]
theorem cmv_b (b : Bool) : (if b = true then (1 : Int32) else 0) = if b then 1 else 0 := rfl
theorem dt_cmp (h1 : dv H lo m r1 L1) (h2 : dv H (m + 1) hi r2 L2) (e : H.1 m = .inr (13, [.ref r1, .ref r2, .int v])) : dt H lo hi m (fun w => cmv v (L1 w) (L2 w)) := by
  obtain ⟨⟨a1, a2, a3⟩, hE1, c1, f1, b1, b2, b3⟩ := h1
  obtain ⟨⟨g1, g2, g3⟩, hE2, c2, f2, k1, k2, k3⟩ := h2
  refine ⟨⟨a1, by omega, by omega⟩, fun w w' hw => by simp only [hE1 w w' hw, hE2 w w' hw], 13, _, e, by omega, fun H' e' d k w hw => ?_⟩
  have er := (e' m (by omega) (by omega)).trans e
  have er1 := (e' r1 (by omega) (by omega)).trans b1
  have er2 := (e' r2 (by omega) (by omega)).trans k1
  have v1 := b3 H' (fun j j1 j2 => e' j (by omega) (by omega)) (d + ((hi - lo) - 1 - (m - lo))) k w hw
  have v2 := k3 H' (fun j j1 j2 => e' j (by omega) (by omega)) (d + ((hi - lo) - 1 - (hi - (m + 1)))) k w hw
  rw [show d + (hi - lo - 1 - (m - lo)) + (m - lo) = d + (hi - lo - 1) by omega] at v1
  rw [show d + (hi - lo - 1 - (hi - (m + 1))) + (hi - (m + 1)) = d + (hi - lo - 1) by omega] at v2
  rw [show d + (hi - lo) = d + (hi - lo - 1) + 1 by omega]
  generalize d + (hi - lo - 1) = D at v1 v2
  show jx_cr _ _ _ _ = some (.inl (some (.int (if cmv v (L1 w) (L2 w) = true then 1 else 0))), H')
  generalize L1 w = X at v1 ⊢
  generalize L2 w = Y at v2 ⊢
  have r13 : 3 ≤ r1 := by omega
  have r23 : 3 ≤ r2 := by omega
  have l1 := lg_cmp_lt (x := X) (y := Y)
  have l2 := lg_cmp_gt (x := X) (y := Y)
  simp only [dt08, cr_165 jx_ns_r, eb_165_0, jx_ns_r, jx_ns_n, jx_ns_q, jx_ns_i, jx_gl_0, jx_gl_s, if_true, if_false, ite_true, ite_false, eq_self, Bool.false_eq_true, List.length_cons, List.length_nil, Nat.zero_le, Nat.reduceAdd, Nat.reduceSub, Nat.reduceLeDiff, Nat.reduceLT, Nat.reduceEqDiff, Int.reduceToNat, reduceIte, xe_aload, jx_rv_r, jx_rv_n, jx_rv_q, xk_getf, jx_gf_i, jx_ov_s, ak_V, xk_dsp1, jx_cl8_i, jx_cc_i, jx_cc_v, ak_D, Nat.reduceMod, Nat.reduceDiv, xe_lstore, jx_s2, xk_table, ak_T, List.getElem?_toArray, List.getElem?_cons_zero, List.getElem?_cons_succ, Int.reduceLT, Int.reduceSub, Int.reduceNeg, or_self, or_true, true_or, xk_lload, jx_lv_l, ak_L, xe_lcmp, xe_ifge, xe_iconst, xi_1, xx_1, xe_goto, xi_0, xx_0, xe_goto_w, xe_zreturn, xZ, xe_ifgt, xe_ifne, xe_iflt, xe_ifle, jx_s1, List.set_cons_zero, List.set_cons_succ, jx_2_i, jx_2_l, jx_2_r, jx_2_n, jx_2_u, jx_2_s, jx_2_q, jx_k_i, jx_k_l, jx_k_r, jx_k_n, jx_k_u, jx_k_s, jx_k_q, er, er1, er2, List.getElem?_cons_zero, List.getElem?_cons_succ, v1, v2, r13, r23]
  have t0 : (X < Y ∧ X ≤ Y ∧ ¬ X = Y ∧ ¬ Y ≤ X ∧ ¬ Y < X) ∨ (¬ X < Y ∧ X ≤ Y ∧ (X = Y) = True ∧ Y ≤ X ∧ ¬ Y < X) ∨ (¬ X < Y ∧ ¬ X ≤ Y ∧ ¬ X = Y ∧ Y ≤ X ∧ Y < X) := by
    have z1 := @Int64.lt_iff_toInt_lt X Y
    have z2 := @Int64.lt_iff_toInt_lt Y X
    have z3 := @Int64.le_iff_toInt_le X Y
    have z4 := @Int64.le_iff_toInt_le Y X
    have z5 := @Int64.toInt_inj X Y
    rw [eq_iff_iff, iff_true, z1, z2, z3, z4, ← z5]
    omega
  have g1 : lg_cmp X Y < 0 ↔ X < Y := l1
  have g2 : 0 < lg_cmp X Y ↔ Y < X := l2
  have g3 : 0 ≤ lg_cmp X Y ↔ ¬ X < Y := by rw [← l1]; exact Int32.not_lt.symm
  have g4 : lg_cmp X Y ≤ 0 ↔ ¬ Y < X := by rw [← l2]; exact Int32.not_lt.symm
  have g5 : lg_cmp X Y = 0 ↔ X = Y := lc_e
  by_cases e0 : v.toInt = 0
  · rcases t0 with ⟨q1, q2, q3, q4, q5⟩ | ⟨q1, q2, q3, q4, q5⟩ | ⟨q1, q2, q3, q4, q5⟩ <;> simp only [e0, eb_165_52, eb_165_63, eb_165_64, jx_ns_r, jx_ns_n, jx_ns_q, jx_ns_i, jx_gl_0, jx_gl_s, if_true, if_false, ite_true, ite_false, eq_self, Bool.false_eq_true, List.length_cons, List.length_nil, Nat.zero_le, Nat.reduceAdd, Nat.reduceSub, Nat.reduceLeDiff, Nat.reduceLT, Nat.reduceEqDiff, Int.reduceToNat, reduceIte, xe_aload, jx_rv_r, jx_rv_n, jx_rv_q, xk_getf, jx_gf_i, jx_ov_s, ak_V, xk_dsp1, jx_cl8_i, jx_cc_i, jx_cc_v, ak_D, Nat.reduceMod, Nat.reduceDiv, xe_lstore, jx_s2, xk_table, ak_T, List.getElem?_toArray, List.getElem?_cons_zero, List.getElem?_cons_succ, Int.reduceLT, Int.reduceSub, Int.reduceNeg, or_self, or_true, true_or, xk_lload, jx_lv_l, ak_L, xe_lcmp, xe_ifge, xe_iconst, xi_1, xx_1, xe_goto, xi_0, xx_0, xe_goto_w, xe_zreturn, xZ, xe_ifgt, xe_ifne, xe_iflt, xe_ifle, jx_s1, List.set_cons_zero, List.set_cons_succ, jx_2_i, jx_2_l, jx_2_r, jx_2_n, jx_2_u, jx_2_s, jx_2_q, jx_k_i, jx_k_l, jx_k_r, jx_k_n, jx_k_u, jx_k_s, jx_k_q, cmv, Int.reduceEq, g1, g2, g3, g4, g5, q1, q2, q3, q4, q5, ge_iff_le, decide_true, decide_false, not_true_eq_false, not_false_eq_true]
  by_cases e1 : v.toInt = 1
  · rcases t0 with ⟨q1, q2, q3, q4, q5⟩ | ⟨q1, q2, q3, q4, q5⟩ | ⟨q1, q2, q3, q4, q5⟩ <;> simp only [e1, eb_165_65, eb_165_76, eb_165_77, jx_ns_r, jx_ns_n, jx_ns_q, jx_ns_i, jx_gl_0, jx_gl_s, if_true, if_false, ite_true, ite_false, eq_self, Bool.false_eq_true, List.length_cons, List.length_nil, Nat.zero_le, Nat.reduceAdd, Nat.reduceSub, Nat.reduceLeDiff, Nat.reduceLT, Nat.reduceEqDiff, Int.reduceToNat, reduceIte, xe_aload, jx_rv_r, jx_rv_n, jx_rv_q, xk_getf, jx_gf_i, jx_ov_s, ak_V, xk_dsp1, jx_cl8_i, jx_cc_i, jx_cc_v, ak_D, Nat.reduceMod, Nat.reduceDiv, xe_lstore, jx_s2, xk_table, ak_T, List.getElem?_toArray, List.getElem?_cons_zero, List.getElem?_cons_succ, Int.reduceLT, Int.reduceSub, Int.reduceNeg, or_self, or_true, true_or, xk_lload, jx_lv_l, ak_L, xe_lcmp, xe_ifge, xe_iconst, xi_1, xx_1, xe_goto, xi_0, xx_0, xe_goto_w, xe_zreturn, xZ, xe_ifgt, xe_ifne, xe_iflt, xe_ifle, jx_s1, List.set_cons_zero, List.set_cons_succ, jx_2_i, jx_2_l, jx_2_r, jx_2_n, jx_2_u, jx_2_s, jx_2_q, jx_k_i, jx_k_l, jx_k_r, jx_k_n, jx_k_u, jx_k_s, jx_k_q, cmv, Int.reduceEq, g1, g2, g3, g4, g5, q1, q2, q3, q4, q5, ge_iff_le, decide_true, decide_false, not_true_eq_false, not_false_eq_true]
  by_cases e2 : v.toInt = 2
  · rcases t0 with ⟨q1, q2, q3, q4, q5⟩ | ⟨q1, q2, q3, q4, q5⟩ | ⟨q1, q2, q3, q4, q5⟩ <;> simp only [e2, eb_165_78, eb_165_89, eb_165_90, jx_ns_r, jx_ns_n, jx_ns_q, jx_ns_i, jx_gl_0, jx_gl_s, if_true, if_false, ite_true, ite_false, eq_self, Bool.false_eq_true, List.length_cons, List.length_nil, Nat.zero_le, Nat.reduceAdd, Nat.reduceSub, Nat.reduceLeDiff, Nat.reduceLT, Nat.reduceEqDiff, Int.reduceToNat, reduceIte, xe_aload, jx_rv_r, jx_rv_n, jx_rv_q, xk_getf, jx_gf_i, jx_ov_s, ak_V, xk_dsp1, jx_cl8_i, jx_cc_i, jx_cc_v, ak_D, Nat.reduceMod, Nat.reduceDiv, xe_lstore, jx_s2, xk_table, ak_T, List.getElem?_toArray, List.getElem?_cons_zero, List.getElem?_cons_succ, Int.reduceLT, Int.reduceSub, Int.reduceNeg, or_self, or_true, true_or, xk_lload, jx_lv_l, ak_L, xe_lcmp, xe_ifge, xe_iconst, xi_1, xx_1, xe_goto, xi_0, xx_0, xe_goto_w, xe_zreturn, xZ, xe_ifgt, xe_ifne, xe_iflt, xe_ifle, jx_s1, List.set_cons_zero, List.set_cons_succ, jx_2_i, jx_2_l, jx_2_r, jx_2_n, jx_2_u, jx_2_s, jx_2_q, jx_k_i, jx_k_l, jx_k_r, jx_k_n, jx_k_u, jx_k_s, jx_k_q, cmv, Int.reduceEq, g1, g2, g3, g4, g5, q1, q2, q3, q4, q5, ge_iff_le, decide_true, decide_false, not_true_eq_false, not_false_eq_true]
  by_cases e3 : v.toInt = 3
  · rcases t0 with ⟨q1, q2, q3, q4, q5⟩ | ⟨q1, q2, q3, q4, q5⟩ | ⟨q1, q2, q3, q4, q5⟩ <;> simp only [e3, eb_165_91, eb_165_102, eb_165_103, jx_ns_r, jx_ns_n, jx_ns_q, jx_ns_i, jx_gl_0, jx_gl_s, if_true, if_false, ite_true, ite_false, eq_self, Bool.false_eq_true, List.length_cons, List.length_nil, Nat.zero_le, Nat.reduceAdd, Nat.reduceSub, Nat.reduceLeDiff, Nat.reduceLT, Nat.reduceEqDiff, Int.reduceToNat, reduceIte, xe_aload, jx_rv_r, jx_rv_n, jx_rv_q, xk_getf, jx_gf_i, jx_ov_s, ak_V, xk_dsp1, jx_cl8_i, jx_cc_i, jx_cc_v, ak_D, Nat.reduceMod, Nat.reduceDiv, xe_lstore, jx_s2, xk_table, ak_T, List.getElem?_toArray, List.getElem?_cons_zero, List.getElem?_cons_succ, Int.reduceLT, Int.reduceSub, Int.reduceNeg, or_self, or_true, true_or, xk_lload, jx_lv_l, ak_L, xe_lcmp, xe_ifge, xe_iconst, xi_1, xx_1, xe_goto, xi_0, xx_0, xe_goto_w, xe_zreturn, xZ, xe_ifgt, xe_ifne, xe_iflt, xe_ifle, jx_s1, List.set_cons_zero, List.set_cons_succ, jx_2_i, jx_2_l, jx_2_r, jx_2_n, jx_2_u, jx_2_s, jx_2_q, jx_k_i, jx_k_l, jx_k_r, jx_k_n, jx_k_u, jx_k_s, jx_k_q, cmv, Int.reduceEq, g1, g2, g3, g4, g5, q1, q2, q3, q4, q5, ge_iff_le, decide_true, decide_false, not_true_eq_false, not_false_eq_true]
  have out : v.toInt < 0 ∨ 3 < v.toInt := by omega
  rcases t0 with ⟨q1, q2, q3, q4, q5⟩ | ⟨q1, q2, q3, q4, q5⟩ | ⟨q1, q2, q3, q4, q5⟩ <;> simp only [out, e0, e1, e2, e3, eb_165_104, eb_165_115, eb_165_116, jx_ns_r, jx_ns_n, jx_ns_q, jx_ns_i, jx_gl_0, jx_gl_s, if_true, if_false, ite_true, ite_false, eq_self, Bool.false_eq_true, List.length_cons, List.length_nil, Nat.zero_le, Nat.reduceAdd, Nat.reduceSub, Nat.reduceLeDiff, Nat.reduceLT, Nat.reduceEqDiff, Int.reduceToNat, reduceIte, xe_aload, jx_rv_r, jx_rv_n, jx_rv_q, xk_getf, jx_gf_i, jx_ov_s, ak_V, xk_dsp1, jx_cl8_i, jx_cc_i, jx_cc_v, ak_D, Nat.reduceMod, Nat.reduceDiv, xe_lstore, jx_s2, xk_table, ak_T, List.getElem?_toArray, List.getElem?_cons_zero, List.getElem?_cons_succ, Int.reduceLT, Int.reduceSub, Int.reduceNeg, or_self, or_true, true_or, xk_lload, jx_lv_l, ak_L, xe_lcmp, xe_ifge, xe_iconst, xi_1, xx_1, xe_goto, xi_0, xx_0, xe_goto_w, xe_zreturn, xZ, xe_ifgt, xe_ifne, xe_iflt, xe_ifle, jx_s1, List.set_cons_zero, List.set_cons_succ, jx_2_i, jx_2_l, jx_2_r, jx_2_n, jx_2_u, jx_2_s, jx_2_q, jx_k_i, jx_k_l, jx_k_r, jx_k_n, jx_k_u, jx_k_s, jx_k_q, cmv, Int.reduceEq, g1, g2, g3, g4, g5, q1, q2, q3, q4, q5, ge_iff_le, decide_true, decide_false, not_true_eq_false, not_false_eq_true]
/-- the two tests of a Both, and how they are joined -/
def btv (v : Int32) (x y : Bool) : Bool := if v = 0 then (x || y) else (x && y)
theorem dt_both (h1 : dt H lo m r1 B1) (h2 : dt H (m + 1) hi r2 B2) (e : H.1 m = .inr (14, [.ref r1, .ref r2, .int v])) : dt H lo hi m (fun w => btv v (B1 w) (B2 w)) := by
  obtain ⟨⟨a1, a2, a3⟩, hE1, c1, f1, b1, b2, b3⟩ := h1
  obtain ⟨⟨g1, g2, g3⟩, hE2, c2, f2, k1, k2, k3⟩ := h2
  refine ⟨⟨a1, by omega, by omega⟩, fun w w' hw => by simp only [hE1 w w' hw, hE2 w w' hw], 14, _, e, by omega, fun H' e' d k w hw => ?_⟩
  have er := (e' m (by omega) (by omega)).trans e
  have er1 := (e' r1 (by omega) (by omega)).trans b1
  have er2 := (e' r2 (by omega) (by omega)).trans k1
  have v1 := b3 H' (fun j j1 j2 => e' j (by omega) (by omega)) (d + ((hi - lo) - 1 - (m - lo))) k w hw
  have v2 := k3 H' (fun j j1 j2 => e' j (by omega) (by omega)) (d + ((hi - lo) - 1 - (hi - (m + 1)))) k w hw
  rw [show d + (hi - lo - 1 - (m - lo)) + (m - lo) = d + (hi - lo - 1) by omega] at v1
  rw [show d + (hi - lo - 1 - (hi - (m + 1))) + (hi - (m + 1)) = d + (hi - lo - 1) by omega] at v2
  rw [show d + (hi - lo) = d + (hi - lo - 1) + 1 by omega]
  generalize d + (hi - lo - 1) = D at v1 v2
  show jx_cr _ _ _ _ = some (.inl (some (.int (if btv v (B1 w) (B2 w) = true then 1 else 0))), H')
  generalize B1 w = X at v1 ⊢
  generalize B2 w = Y at v2 ⊢
  have r13 : 3 ≤ r1 := by omega
  have r23 : 3 ≤ r2 := by omega
  by_cases q : v = 0
  · cases X <;> cases Y <;> simp only [Bool.false_eq_true, if_false, if_true] at v1 v2 <;> simp only [dt08, cr_161 jx_ns_r, eb_161_0, eb_161_33, eb_161_37, eb_161_59, eb_161_63, eb_161_64, jx_ns_r, jx_ns_n, jx_ns_q, jx_ns_i, jx_gl_0, jx_gl_s, if_true, if_false, ite_true, ite_false, eq_self, Bool.false_eq_true, List.length_cons, List.length_nil, Nat.zero_le, Nat.reduceAdd, Nat.reduceSub, Nat.reduceLeDiff, Nat.reduceLT, Nat.reduceEqDiff, Int.reduceToNat, reduceIte, xe_aload, jx_rv_r, jx_rv_n, jx_rv_q, xk_getf, jx_gf_i, jx_ov_s, ak_V, xe_ifeq, xk_dsp1, jx_cl8_i, jx_cc_i, jx_cc_v, ak_D, Nat.reduceMod, Nat.reduceDiv, xe_iconst, xi_1, xx_1, xe_goto, xi_0, xx_0, xe_ifne, xe_goto_w, xe_zreturn, xZ, er, er1, er2, List.getElem?_cons_zero, List.getElem?_cons_succ, v1, v2, r13, r23, q, btv, Bool.or_false, Bool.or_true, Bool.false_eq_true, sp_10, ne_eq]
  · cases X <;> cases Y <;> simp only [Bool.false_eq_true, if_false, if_true] at v1 v2 <;> simp only [dt08, cr_161 jx_ns_r, eb_161_0, eb_161_33, eb_161_37, eb_161_59, eb_161_63, eb_161_64, jx_ns_r, jx_ns_n, jx_ns_q, jx_ns_i, jx_gl_0, jx_gl_s, if_true, if_false, ite_true, ite_false, eq_self, Bool.false_eq_true, List.length_cons, List.length_nil, Nat.zero_le, Nat.reduceAdd, Nat.reduceSub, Nat.reduceLeDiff, Nat.reduceLT, Nat.reduceEqDiff, Int.reduceToNat, reduceIte, xe_aload, jx_rv_r, jx_rv_n, jx_rv_q, xk_getf, jx_gf_i, jx_ov_s, ak_V, xe_ifeq, xk_dsp1, jx_cl8_i, jx_cc_i, jx_cc_v, ak_D, Nat.reduceMod, Nat.reduceDiv, xe_iconst, xi_1, xx_1, xe_goto, xi_0, xx_0, xe_ifne, xe_goto_w, xe_zreturn, xZ, er, er1, er2, List.getElem?_cons_zero, List.getElem?_cons_succ, v1, v2, r13, r23, q, btv, Bool.and_false, Bool.and_true, Bool.false_eq_true, sp_10, ne_eq]
end DV
