/-! THE TWIN: small methods -/
set_option maxRecDepth 100000
theorem tq_inL {d : Nat} {a l u : Int64} {h : jx_H} : jx_cr (d + 1) 57 [.long a, .long l, .long u] h = some (.inl (some (.int (if l ≤ a ∧ a ≤ u then 1 else 0))), h) := by
  have e1 : lg_cmp a l < 0 ↔ ¬ l ≤ a := by rw [lg_cmp_lt]; exact Int64.not_le.symm
  have e2 : 0 < lg_cmp a u ↔ ¬ a ≤ u := by rw [lg_cmp_gt]; exact Int64.not_le.symm
  simp only [cr_57, eb_57_0, eb_57_17, eb_57_18, jx_ns_r, jx_ns_n, jx_ns_q, jx_ns_i, jx_gl_0, jx_gl_s, if_true, if_false, ite_true, ite_false, eq_self, Bool.false_eq_true, List.length_cons, List.length_nil, Nat.zero_le, Nat.reduceAdd, Nat.reduceSub, Nat.reduceLeDiff, Nat.reduceLT, Nat.reduceEqDiff, Int.reduceToNat, reduceIte, xk_lload, jx_lv_l, ak_L, xe_lcmp, xe_iflt, xe_ifgt, xe_iconst, xi_1, xx_1, xe_goto, xi_0, xx_0, xe_goto_w, xe_zreturn, xZ]
  by_cases q1 : l ≤ a <;> by_cases q2 : a ≤ u <;> simp only [e1, e2, q1, q2, not_true, not_false_eq_true, if_true, if_false, true_and, and_true, and_false, and_self]
theorem tq_has {d : Nat} {a k : Int32} {h : jx_H} : jx_cr (d + 1) 59 [.int a, .int k] h = some (.inl (some (.int (if (a >>> (k &&& 31)) &&& 1 = 1 then 1 else 0))), h) := by
  simp only [cr_59, eb_59_0, eb_59_13, eb_59_14, jx_ns_r, jx_ns_n, jx_ns_q, jx_ns_i, jx_gl_0, jx_gl_s, if_true, if_false, ite_true, ite_false, eq_self, Bool.false_eq_true, List.length_cons, List.length_nil, Nat.zero_le, Nat.reduceAdd, Nat.reduceSub, Nat.reduceLeDiff, Nat.reduceLT, Nat.reduceEqDiff, Int.reduceToNat, reduceIte, xk_iload, jx_iv_i, ak_I, xe_ishr, xe_iconst, xi_1, xx_1, xe_iand, xe_icmp_ne, xe_goto, xi_0, xx_0, xe_goto_w, xe_zreturn, xZ]
  split <;> rfl
theorem tq_upTo {d : Nat} {a k : Int32} {h : jx_H} : jx_cr (d + 1) 112 [.int a, .int k] h = some (.inl (some (.int (if k < a then k else a))), h) := by
  have hle : a ≤ k ↔ ¬ k < a := Int32.not_lt.symm
  by_cases q : k < a <;> simp only [cr_112, eb_112_0, eb_112_9, eb_112_10, jx_ns_r, jx_ns_n, jx_ns_q, jx_ns_i, jx_gl_0, jx_gl_s, if_true, if_false, ite_true, ite_false, eq_self, Bool.false_eq_true, List.length_cons, List.length_nil, Nat.zero_le, Nat.reduceAdd, Nat.reduceSub, Nat.reduceLeDiff, Nat.reduceLT, Nat.reduceEqDiff, Int.reduceToNat, reduceIte, xk_iload, jx_iv_i, ak_I, xe_icmp_le, xe_goto, xe_goto_w, xe_ireturn, hle, q, not_true, not_false_eq_true]
theorem tq_mn {x : Int32} : (if 999 < x then 999 else x) = cq_mn x := by
  rw [cq_mn]
  by_cases h : x < 999
  · rw [if_pos h, if_neg (Int32.not_lt.mpr (Int32.le_of_lt h))]
  · rw [if_neg h]
    by_cases h2 : 999 < x
    · rw [if_pos h2]
    · rw [if_neg h2]
      exact Int32.le_antisymm (Int32.not_lt.mp h2) (Int32.not_lt.mp h)
/-- bits of x below n -/
def tq_bt (x : Int32) : Nat → Int32
  | 0 => 0
  | n + 1 => tq_bt x n + ((x >>> (nI n &&& 31)) &&& 1)
theorem tq_bits {d : Nat} {x : Int32} {h : jx_H} : jx_cr (d + 1) 58 [.int x] h = some (.inl (some (.int (tq_bt x 16))), h) := by
  have key := jx_lp (d := d) (y := 58) (L := 4) (n := 16) (γ := Unit) (ls := fun m _ => [.int x, .int (tq_bt x m), .int (nI m)]) (H := fun _ _ => h)
    (I := fun _ _ => True)
    (G := fun r => r = some (.inl (some (.int (tq_bt x 16))), h)) ?_ ?_ 16 0 () (by omega) trivial
  · simp only [tq_bt, nI_0] at key
    simp only [tq_bt, cr_58, eb_58_0, jx_ns_r, jx_ns_n, jx_ns_q, jx_ns_i, jx_gl_0, jx_gl_s, if_true, if_false, ite_true, ite_false, eq_self, Bool.false_eq_true, List.length_cons, List.length_nil, Nat.zero_le, Nat.reduceAdd, Nat.reduceSub, Nat.reduceLeDiff, Nat.reduceLT, Nat.reduceEqDiff, Int.reduceToNat, reduceIte, xe_iconst, xi_0, xx_0, xe_istore, xe_goto_w, xk_iload, jx_iv_i, ak_I, xi_16, xx_16, xe_icmp_ge, xe_ishr, xi_1, xx_1, xe_iand, xe_iadd, xk_iinc, ak_C, xe_goto, xe_ireturn, jx_s1, List.set_cons_zero, List.set_cons_succ, jx_2_i, jx_2_l, jx_2_r, jx_2_n, jx_2_u, jx_2_s, jx_2_q, jx_k_i, jx_k_l, jx_k_r, jx_k_n, jx_k_u, jx_k_s, jx_k_q]
    exact key
  · intro m _ hm _
    have h3 : ¬ (16 : Int32) ≤ nI m := nI_ge (a := m) (b := 16) hm (by omega)
    refine .inr ⟨(), trivial, ?_⟩
    rw [eb_58_4]
    simp only [jx_ns_r, jx_ns_n, jx_ns_q, jx_ns_i, jx_gl_0, jx_gl_s, if_true, if_false, ite_true, ite_false, eq_self, Bool.false_eq_true, List.length_cons, List.length_nil, Nat.zero_le, Nat.reduceAdd, Nat.reduceSub, Nat.reduceLeDiff, Nat.reduceLT, Nat.reduceEqDiff, Int.reduceToNat, reduceIte, xe_iconst, xi_0, xx_0, xe_istore, xe_goto_w, xk_iload, jx_iv_i, ak_I, xi_16, xx_16, xe_icmp_ge, xe_ishr, xi_1, xx_1, xe_iand, xe_iadd, xk_iinc, ak_C, xe_goto, xe_ireturn, jx_s1, List.set_cons_zero, List.set_cons_succ, jx_2_i, jx_2_l, jx_2_r, jx_2_n, jx_2_u, jx_2_s, jx_2_q, jx_k_i, jx_k_l, jx_k_r, jx_k_n, jx_k_u, jx_k_s, jx_k_q, h3, nI_1, tq_bt]
  · intro _ _
    have h3 : (16 : Int32) ≤ nI 16 := by decide
    rw [eb_58_4]
    simp only [eb_58_24, jx_ns_r, jx_ns_n, jx_ns_q, jx_ns_i, jx_gl_0, jx_gl_s, if_true, if_false, ite_true, ite_false, eq_self, Bool.false_eq_true, List.length_cons, List.length_nil, Nat.zero_le, Nat.reduceAdd, Nat.reduceSub, Nat.reduceLeDiff, Nat.reduceLT, Nat.reduceEqDiff, Int.reduceToNat, reduceIte, xe_iconst, xi_0, xx_0, xe_istore, xe_goto_w, xk_iload, jx_iv_i, ak_I, xi_16, xx_16, xe_icmp_ge, xe_ishr, xi_1, xx_1, xe_iand, xe_iadd, xk_iinc, ak_C, xe_goto, xe_ireturn, jx_s1, List.set_cons_zero, List.set_cons_succ, jx_2_i, jx_2_l, jx_2_r, jx_2_n, jx_2_u, jx_2_s, jx_2_q, jx_k_i, jx_k_l, jx_k_r, jx_k_n, jx_k_u, jx_k_s, jx_k_q, h3]
theorem tq_bt_bc {n : Nat} (h : n < 256) : tq_bt (nI n) 16 = cq_bc (nI n) := by
  have : ∀ n : Fin 256, tq_bt (nI n.val) 16 = cq_bc (nI n.val) := by decide +kernel
  exact this ⟨n, h⟩
theorem tq_bitsN {d n : Nat} {h : jx_H} (hn : n < 256) : jx_cr (d + 1) 58 [.int (nI n)] h = some (.inl (some (.int (cq_bc (nI n)))), h) := by
  rw [← tq_bt_bc hn]; exact tq_bits
theorem tq_rg {n : Nat} {i v : Int32} (hv : v = nI n) (hn : n ≤ 12) : (0 ≤ i.toInt64 ∧ i.toInt64 ≤ (v - 1).toInt64) ↔ (0 ≤ i ∧ i < v) := by
  rw [hv, show (0 : Int64) = (0 : Int32).toInt64 from rfl, sp_l64, sp_l64, Int32.le_iff_toInt_le, Int32.le_iff_toInt_le, Int32.lt_iff_toInt_lt, show (1 : Int32) = nI 1 from rfl, pk_sub_toInt (by omega) (by omega), nI_toInt (by omega)]
  constructor
  · rintro ⟨h1, h2⟩; exact ⟨h1, by omega⟩
  · rintro ⟨h1, h2⟩; exact ⟨h1, by omega⟩
section TA
variable {d : Nat} {h : jx_H} {s : Nat → Int32} {a : Nat → Nat → Int32} {E N : Nat → Int32} {Q : Nat → Nat → Int32} {W : Nat → Nat → Int64} {i k : Int32} {t u v tm pm day now D n m : Nat} {Lo : Option ((Nat → Int64) → Int64)}
theorem tm_isCourt : jx_cr (d + 1) 60 [.ref 113] (tw h s a E N Q W) = some (.inl (some (.int (if 0 < s 0 then 1 else 0))), (tw h s a E N Q W)) := by
  have hle : s 0 ≤ 0 ↔ ¬ 0 < s 0 := Int32.not_lt.symm
  by_cases q : 0 < s 0 <;> simp only [cr_60, eb_60_0, eb_60_13, eb_60_14, jx_ns_r, jx_ns_n, jx_ns_q, jx_ns_i, jx_gl_0, jx_gl_s, if_true, if_false, ite_true, ite_false, eq_self, Bool.false_eq_true, List.length_cons, List.length_nil, Nat.zero_le, Nat.reduceAdd, Nat.reduceSub, Nat.reduceLeDiff, Nat.reduceLT, Nat.reduceEqDiff, Int.reduceToNat, reduceIte, xe_aload, jx_rv_r, jx_rv_n, jx_rv_q, xk_getf, jx_gf_i, jx_ov_s, ak_V, xe_iconst, xi_0, xx_0, xk_iald, ja_ia, ak_A, ak_I, true_or, or_true, xe_ifle, xi_1, xx_1, xe_goto, xe_goto_w, xe_zreturn, xZ, tw_r, tw_f, tq_r, va_up_s, hle, q, not_true, not_false_eq_true]
theorem tm_isThing (et : s 2 = nI tm) (htm : tm ≤ 6) : jx_cr (d + 2) 61 [.ref 113, .int i] (tw h s a E N Q W) = some (.inl (some (.int (if 0 ≤ i ∧ i < s 2 then 1 else 0))), (tw h s a E N Q W)) := by
  have e := tq_rg (i := i) et (by omega)
  by_cases q : 0 ≤ i ∧ i < s 2
  · have q' := e.mpr q
    simp only [cr_61, eb_61_0, jx_ns_r, jx_ns_n, jx_ns_q, jx_ns_i, jx_gl_0, jx_gl_s, if_true, if_false, ite_true, ite_false, eq_self, Bool.false_eq_true, List.length_cons, List.length_nil, Nat.zero_le, Nat.reduceAdd, Nat.reduceSub, Nat.reduceLeDiff, Nat.reduceLT, Nat.reduceEqDiff, Int.reduceToNat, reduceIte, xk_iload, jx_iv_i, ak_I, xe_i2l, xe_lconst, xl_0, xe_aload, jx_rv_r, jx_rv_n, jx_rv_q, xk_getf, jx_gf_i, jx_ov_s, ak_V, xe_iconst, xi_2, xx_2, xk_iald, ja_ia, ak_A, true_or, or_true, xi_1, xx_1, xe_isub, xe_sta3, jx_cc_i, jx_cc_v, Nat.reduceMod, Nat.reduceDiv, xe_zreturn, xZ, tw_r, tw_f, tq_r, va_up_s, tq_inL, q', q, and_self, xZ]
  · have q' := mt e.mp q
    simp only [cr_61, eb_61_0, jx_ns_r, jx_ns_n, jx_ns_q, jx_ns_i, jx_gl_0, jx_gl_s, if_true, if_false, ite_true, ite_false, eq_self, Bool.false_eq_true, List.length_cons, List.length_nil, Nat.zero_le, Nat.reduceAdd, Nat.reduceSub, Nat.reduceLeDiff, Nat.reduceLT, Nat.reduceEqDiff, Int.reduceToNat, reduceIte, xk_iload, jx_iv_i, ak_I, xe_i2l, xe_lconst, xl_0, xe_aload, jx_rv_r, jx_rv_n, jx_rv_q, xk_getf, jx_gf_i, jx_ov_s, ak_V, xe_iconst, xi_2, xx_2, xk_iald, ja_ia, ak_A, true_or, or_true, xi_1, xx_1, xe_isub, xe_sta3, jx_cc_i, jx_cc_v, Nat.reduceMod, Nat.reduceDiv, xe_zreturn, xZ, tw_r, tw_f, tq_r, va_up_s, tq_inL, q', q, xZ]
theorem tm_isPerson (es : s 3 = nI pm) (hpm : pm ≤ 6) : jx_cr (d + 2) 62 [.ref 113, .int i] (tw h s a E N Q W) = some (.inl (some (.int (if 0 ≤ i ∧ i < s 3 then 1 else 0))), (tw h s a E N Q W)) := by
  have e := tq_rg (i := i) es (by omega)
  by_cases q : 0 ≤ i ∧ i < s 3
  · have q' := e.mpr q
    simp only [cr_62, eb_62_0, jx_ns_r, jx_ns_n, jx_ns_q, jx_ns_i, jx_gl_0, jx_gl_s, if_true, if_false, ite_true, ite_false, eq_self, Bool.false_eq_true, List.length_cons, List.length_nil, Nat.zero_le, Nat.reduceAdd, Nat.reduceSub, Nat.reduceLeDiff, Nat.reduceLT, Nat.reduceEqDiff, Int.reduceToNat, reduceIte, xk_iload, jx_iv_i, ak_I, xe_i2l, xe_lconst, xl_0, xe_aload, jx_rv_r, jx_rv_n, jx_rv_q, xk_getf, jx_gf_i, jx_ov_s, ak_V, xe_iconst, xi_3, xx_3, xk_iald, ja_ia, ak_A, true_or, or_true, xi_1, xx_1, xe_isub, xe_sta3, jx_cc_i, jx_cc_v, Nat.reduceMod, Nat.reduceDiv, xe_zreturn, xZ, tw_r, tw_f, tq_r, va_up_s, tq_inL, q', q, and_self, xZ]
  · have q' := mt e.mp q
    simp only [cr_62, eb_62_0, jx_ns_r, jx_ns_n, jx_ns_q, jx_ns_i, jx_gl_0, jx_gl_s, if_true, if_false, ite_true, ite_false, eq_self, Bool.false_eq_true, List.length_cons, List.length_nil, Nat.zero_le, Nat.reduceAdd, Nat.reduceSub, Nat.reduceLeDiff, Nat.reduceLT, Nat.reduceEqDiff, Int.reduceToNat, reduceIte, xk_iload, jx_iv_i, ak_I, xe_i2l, xe_lconst, xl_0, xe_aload, jx_rv_r, jx_rv_n, jx_rv_q, xk_getf, jx_gf_i, jx_ov_s, ak_V, xe_iconst, xi_3, xx_3, xk_iald, ja_ia, ak_A, true_or, or_true, xi_1, xx_1, xe_isub, xe_sta3, jx_cc_i, jx_cc_v, Nat.reduceMod, Nat.reduceDiv, xe_zreturn, xZ, tw_r, tw_f, tq_r, va_up_s, tq_inL, q', q, xZ]
theorem tm_end : jx_cr (d + 1) 65 [.ref 113, .int i] (tw h s a E N Q W) = some (.inl (some (.int (if 0 ≤ i ∧ i ≤ N 19 then i else -1))), tw h s a E (if 0 ≤ i ∧ i ≤ N 19 then va_up N 19 i else N) Q W) := by
  simp only [cr_65, eb_65_0, eb_65_12, eb_65_14, jx_ns_r, jx_ns_n, jx_ns_q, jx_ns_i, jx_gl_0, jx_gl_s, if_true, if_false, ite_true, ite_false, eq_self, Bool.false_eq_true, List.length_cons, List.length_nil, Nat.zero_le, Nat.reduceAdd, Nat.reduceSub, Nat.reduceLeDiff, Nat.reduceLT, Nat.reduceEqDiff, Int.reduceToNat, reduceIte, xk_iload, jx_iv_i, ak_I, xe_iflt, xe_aload, jx_rv_r, jx_rv_n, jx_rv_q, xk_getf, jx_gf_i, jx_ov_s, ak_V, xe_icmp_le, xe_goto_w, xe_iconst, xi_m1, xe_ireturn, xk_putf, ak_P, jx_pf_i, jx_pf_z, jx_pf_l, jx_pf_r, jx_pf_n, jx_pf_q, Nat.reduceMod, Nat.reduceDiv, tw_r, tw_f, tw_s, tq_r, tq_w, tw_wo, tw_wsc, tq_ile_u, tq_ilo_u, va_up_s, tw_w2, tw_w3, tw_w4, tw_w5, tw_w6, tw_w7, tw_w8, tw_w9, tw_w10, tw_w11, tw_w12, tw_w13, tw_w14, tw_w15, tw_w16, tw_w17, tw_w18, tw_w29, tw_w30, tw_w31, tw_w32, tw_w33, tw_w34, tw_w35, tw_w36, tw_w37, tw_w38, tw_w39, tw_w40, tw_w44, tw_w45, tw_w46, tw_w47, tw_w48, tw_w49, tw_w50]
  by_cases q1 : i < 0
  · have q2 : ¬ 0 ≤ i := Int32.not_le.mpr q1
    simp only [q1, q2, if_true, false_and, if_false]
  · have q2 : 0 ≤ i := Int32.not_lt.mp q1
    by_cases q3 : i ≤ N 19 <;> simp only [q1, q2, q3, if_true, and_self, and_false, if_false]
theorem tm_seed : jx_cr (d + 1) 151 [.ref 113, .int i] (tw h s a E N Q W) = some (.inl (some (.int (if 0 ≤ i then E 0 else -1))), tw h s a (if 0 ≤ i then va_up E 0 i else E) N Q W) := by
  by_cases q0 : 0 ≤ i <;> simp only [cr_151, eb_151_0, eb_151_6, jx_ns_r, jx_ns_n, jx_ns_q, jx_ns_i, jx_gl_0, jx_gl_s, if_true, if_false, ite_true, ite_false, eq_self, Bool.false_eq_true, List.length_cons, List.length_nil, Nat.zero_le, Nat.reduceAdd, Nat.reduceSub, Nat.reduceLeDiff, Nat.reduceLT, Nat.reduceEqDiff, Int.reduceToNat, reduceIte, xk_iload, jx_iv_i, ak_I, xe_ifge, xe_iconst, xi_m1, xe_ireturn, xe_aload, jx_rv_r, jx_rv_n, jx_rv_q, xk_getf, jx_gf_i, jx_ov_s, ak_V, xi_9, xx_9, xk_iald, ja_ia, ak_A, true_or, or_true, xe_istore, xk_iast, ja_is, ak_S, ak_P, jx_s1, List.set_cons_zero, List.set_cons_succ, jx_2_i, jx_2_l, jx_2_r, jx_2_n, jx_2_u, jx_2_s, jx_2_q, jx_k_i, jx_k_l, jx_k_r, jx_k_n, jx_k_u, jx_k_s, jx_k_q, tw_r, tw_f, tw_s, tq_r, tq_w, tw_wo, tw_wsc, tq_ile_u, tq_ilo_u, va_up_s, tw_w2, tw_w3, tw_w4, tw_w5, tw_w6, tw_w7, tw_w8, tw_w9, tw_w10, tw_w11, tw_w12, tw_w13, tw_w14, tw_w15, tw_w16, tw_w17, tw_w18, tw_w29, tw_w30, tw_w31, tw_w32, tw_w33, tw_w34, tw_w35, tw_w36, tw_w37, tw_w38, tw_w39, tw_w40, tw_w44, tw_w45, tw_w46, tw_w47, tw_w48, tw_w49, tw_w50, q0]
theorem tm_force (er : N 23 = nI n) (hn : n ≤ 6) : jx_cr (d + 2) 99 [.ref 113, .int i] (tw h s a E N Q W) = some (.inl (some (.int (if i = -1 ∨ 0 ≤ i ∧ i < N 23 then E 1 else -2))), tw h s a (if i = -1 ∨ 0 ≤ i ∧ i < N 23 then va_up E 1 i else E) N Q W) := by
  have e : (-1 ≤ i.toInt64 ∧ i.toInt64 ≤ (N 23 - 1).toInt64) ↔ (i = -1 ∨ 0 ≤ i ∧ i < N 23) := by
    rw [er, show (-1 : Int64) = (-1 : Int32).toInt64 from rfl, sp_l64, sp_l64, Int32.le_iff_toInt_le, Int32.le_iff_toInt_le, Int32.le_iff_toInt_le, Int32.lt_iff_toInt_lt, show (1 : Int32) = nI 1 from rfl, pk_sub_toInt (by omega) (by omega), nI_toInt (by omega), ← Int32.toInt_inj]
    have h1 : (-nI 1).toInt = -1 := rfl
    have h2 : (0 : Int32).toInt = 0 := rfl
    have h3 : (-1 : Int32).toInt = -1 := rfl
    have h4 : (nI 1).toInt = 1 := rfl
    constructor
    · rintro ⟨h1, h2⟩
      simp only [h3] at *
      omega
    · rintro (h1 | ⟨h1, h2⟩) <;> simp only [h3] at * <;> omega
  by_cases q : i = -1 ∨ 0 ≤ i ∧ i < N 23
  · have q' := e.mpr q
    simp only [cr_99, eb_99_0, eb_99_21, jx_ns_r, jx_ns_n, jx_ns_q, jx_ns_i, jx_gl_0, jx_gl_s, if_true, if_false, ite_true, ite_false, eq_self, Bool.false_eq_true, List.length_cons, List.length_nil, Nat.zero_le, Nat.reduceAdd, Nat.reduceSub, Nat.reduceLeDiff, Nat.reduceLT, Nat.reduceEqDiff, Int.reduceToNat, reduceIte, xk_iload, jx_iv_i, ak_I, xe_i2l, xe_lconst, xl_m1, xe_aload, jx_rv_r, jx_rv_n, jx_rv_q, xk_getf, jx_gf_i, jx_ov_s, ak_V, xe_iconst, xi_1, xx_1, xe_isub, xe_sta3, jx_cc_i, jx_cc_v, Nat.reduceMod, Nat.reduceDiv, xe_ifne, xi_m2, xe_ireturn, xi_10, xx_10, xk_iald, ja_ia, ak_A, true_or, or_true, xe_istore, xk_iast, ja_is, ak_S, ak_P, jx_s1, List.set_cons_zero, List.set_cons_succ, jx_2_i, jx_2_l, jx_2_r, jx_2_n, jx_2_u, jx_2_s, jx_2_q, jx_k_i, jx_k_l, jx_k_r, jx_k_n, jx_k_u, jx_k_s, jx_k_q, tw_r, tw_f, tw_s, tq_r, tq_w, tw_wo, tw_wsc, tq_ile_u, tq_ilo_u, va_up_s, tw_w2, tw_w3, tw_w4, tw_w5, tw_w6, tw_w7, tw_w8, tw_w9, tw_w10, tw_w11, tw_w12, tw_w13, tw_w14, tw_w15, tw_w16, tw_w17, tw_w18, tw_w29, tw_w30, tw_w31, tw_w32, tw_w33, tw_w34, tw_w35, tw_w36, tw_w37, tw_w38, tw_w39, tw_w40, tw_w44, tw_w45, tw_w46, tw_w47, tw_w48, tw_w49, tw_w50, tq_inL, q', q, and_self, sp_10]
  · have q' := mt e.mp q
    simp only [cr_99, eb_99_0, eb_99_21, jx_ns_r, jx_ns_n, jx_ns_q, jx_ns_i, jx_gl_0, jx_gl_s, if_true, if_false, ite_true, ite_false, eq_self, Bool.false_eq_true, List.length_cons, List.length_nil, Nat.zero_le, Nat.reduceAdd, Nat.reduceSub, Nat.reduceLeDiff, Nat.reduceLT, Nat.reduceEqDiff, Int.reduceToNat, reduceIte, xk_iload, jx_iv_i, ak_I, xe_i2l, xe_lconst, xl_m1, xe_aload, jx_rv_r, jx_rv_n, jx_rv_q, xk_getf, jx_gf_i, jx_ov_s, ak_V, xe_iconst, xi_1, xx_1, xe_isub, xe_sta3, jx_cc_i, jx_cc_v, Nat.reduceMod, Nat.reduceDiv, xe_ifne, xi_m2, xe_ireturn, xi_10, xx_10, xk_iald, ja_ia, ak_A, true_or, or_true, xe_istore, xk_iast, ja_is, ak_S, ak_P, jx_s1, List.set_cons_zero, List.set_cons_succ, jx_2_i, jx_2_l, jx_2_r, jx_2_n, jx_2_u, jx_2_s, jx_2_q, jx_k_i, jx_k_l, jx_k_r, jx_k_n, jx_k_u, jx_k_s, jx_k_q, tw_r, tw_f, tw_s, tq_r, tq_w, tw_wo, tw_wsc, tq_ile_u, tq_ilo_u, va_up_s, tw_w2, tw_w3, tw_w4, tw_w5, tw_w6, tw_w7, tw_w8, tw_w9, tw_w10, tw_w11, tw_w12, tw_w13, tw_w14, tw_w15, tw_w16, tw_w17, tw_w18, tw_w29, tw_w30, tw_w31, tw_w32, tw_w33, tw_w34, tw_w35, tw_w36, tw_w37, tw_w38, tw_w39, tw_w40, tw_w44, tw_w45, tw_w46, tw_w47, tw_w48, tw_w49, tw_w50, tq_inL, q', q]
theorem tm_knightsOf (hpm : pm ≤ 6) (es : s 3 = nI pm) : jx_cr (d + 1) 104 [.ref 113, .int i] (tw h s a E N Q W) = some (.inl (some (.int (cq_ti (a 8) i pm))), (tw h s a E N Q W)) := by
  have key := jx_lp (d := d) (y := 104) (L := 4) (n := pm) (γ := Unit) (ls := fun m _ => [.ref 113, .int i, .int (cq_ti (a 8) i m), .int (nI m)]) (H := fun _ _ => (tw h s a E N Q W))
    (I := fun _ _ => True)
    (G := fun r => r = some (.inl (some (.int (cq_ti (a 8) i pm))), (tw h s a E N Q W))) ?_ ?_ pm 0 () (by omega) trivial
  · simp only [cq_ti, nI_0] at key
    simp only [cr_104, eb_104_0, jx_ns_r, jx_ns_n, jx_ns_q, jx_ns_i, jx_gl_0, jx_gl_s, if_true, if_false, ite_true, ite_false, eq_self, Bool.false_eq_true, List.length_cons, List.length_nil, Nat.zero_le, Nat.reduceAdd, Nat.reduceSub, Nat.reduceLeDiff, Nat.reduceLT, Nat.reduceEqDiff, Int.reduceToNat, reduceIte, xe_iconst, xi_0, xx_0, xe_istore, xe_goto_w, xk_iload, jx_iv_i, ak_I, xe_aload, jx_rv_r, jx_rv_n, jx_rv_q, xk_getf, jx_gf_i, jx_ov_s, ak_V, xi_3, xx_3, xk_iald, ja_ia, ak_A, true_or, or_true, xe_icmp_ge, xe_ishr, xi_1, xx_1, xe_iand, xe_iadd, xk_iinc, ak_C, xe_goto, xe_ireturn, jx_s1, List.set_cons_zero, List.set_cons_succ, jx_2_i, jx_2_l, jx_2_r, jx_2_n, jx_2_u, jx_2_s, jx_2_q, jx_k_i, jx_k_l, jx_k_r, jx_k_n, jx_k_u, jx_k_s, jx_k_q]
    exact key
  · intro m _ hm _
    have h3 : ¬ nI pm ≤ nI m := nI_ge hm (by omega)
    have i1 := sp_ix (show m < 6 by omega) (by decide)
    have e : (a 8 m >>> (i &&& 31)) &&& 1 = if (a 8 m >>> (i &&& 31)) &&& 1 = 1 then 1 else 0 := by
      rcases sp_a1 (a 8 m >>> (i &&& 31)) with r | r <;> rw [r] <;> decide
    refine .inr ⟨(), trivial, ?_⟩
    rw [cq_ti, ← e, eb_104_4]
    simp only [jx_ns_r, jx_ns_n, jx_ns_q, jx_ns_i, jx_gl_0, jx_gl_s, if_true, if_false, ite_true, ite_false, eq_self, Bool.false_eq_true, List.length_cons, List.length_nil, Nat.zero_le, Nat.reduceAdd, Nat.reduceSub, Nat.reduceLeDiff, Nat.reduceLT, Nat.reduceEqDiff, Int.reduceToNat, reduceIte, xe_iconst, xi_0, xx_0, xe_istore, xe_goto_w, xk_iload, jx_iv_i, ak_I, xe_aload, jx_rv_r, jx_rv_n, jx_rv_q, xk_getf, jx_gf_i, jx_ov_s, ak_V, xi_3, xx_3, xk_iald, ja_ia, ak_A, true_or, or_true, xe_icmp_ge, xe_ishr, xi_1, xx_1, xe_iand, xe_iadd, xk_iinc, ak_C, xe_goto, xe_ireturn, jx_s1, List.set_cons_zero, List.set_cons_succ, jx_2_i, jx_2_l, jx_2_r, jx_2_n, jx_2_u, jx_2_s, jx_2_q, jx_k_i, jx_k_l, jx_k_r, jx_k_n, jx_k_u, jx_k_s, jx_k_q, tw_r, tw_f, tq_r, va_up_s, es, h3, i1, nI_1]
  · intro _ _
    have h3 : nI pm ≤ nI pm := (nI_leI (by omega) (by omega)).mpr (Nat.le_refl _)
    simp only [eb_104_4, eb_104_33, jx_ns_r, jx_ns_n, jx_ns_q, jx_ns_i, jx_gl_0, jx_gl_s, if_true, if_false, ite_true, ite_false, eq_self, Bool.false_eq_true, List.length_cons, List.length_nil, Nat.zero_le, Nat.reduceAdd, Nat.reduceSub, Nat.reduceLeDiff, Nat.reduceLT, Nat.reduceEqDiff, Int.reduceToNat, reduceIte, xe_iconst, xi_0, xx_0, xe_istore, xe_goto_w, xk_iload, jx_iv_i, ak_I, xe_aload, jx_rv_r, jx_rv_n, jx_rv_q, xk_getf, jx_gf_i, jx_ov_s, ak_V, xi_3, xx_3, xk_iald, ja_ia, ak_A, true_or, or_true, xe_icmp_ge, xe_ishr, xi_1, xx_1, xe_iand, xe_iadd, xk_iinc, ak_C, xe_goto, xe_ireturn, jx_s1, List.set_cons_zero, List.set_cons_succ, jx_2_i, jx_2_l, jx_2_r, jx_2_n, jx_2_u, jx_2_s, jx_2_q, jx_k_i, jx_k_l, jx_k_r, jx_k_n, jx_k_u, jx_k_s, jx_k_q, tw_r, tw_f, tq_r, va_up_s, es, h3]
theorem tm_knights (hpm : pm ≤ 6) (es : s 3 = nI pm) : jx_cr (d + 1) 109 [.ref 113] (tw h s a E N Q W) = some (.inl (some (.int (cq_kn (a 8) pm))), (tw h s a E N Q W)) := by
  have key := jx_lp (d := d) (y := 109) (L := 4) (n := pm) (γ := Unit) (ls := fun m _ => [.ref 113, .int (cq_kn (a 8) m), .int (nI m)]) (H := fun _ _ => (tw h s a E N Q W))
    (I := fun _ _ => True)
    (G := fun r => r = some (.inl (some (.int (cq_kn (a 8) pm))), (tw h s a E N Q W))) ?_ ?_ pm 0 () (by omega) trivial
  · simp only [cq_kn, nI_0] at key
    simp only [cr_109, eb_109_0, jx_ns_r, jx_ns_n, jx_ns_q, jx_ns_i, jx_gl_0, jx_gl_s, if_true, if_false, ite_true, ite_false, eq_self, Bool.false_eq_true, List.length_cons, List.length_nil, Nat.zero_le, Nat.reduceAdd, Nat.reduceSub, Nat.reduceLeDiff, Nat.reduceLT, Nat.reduceEqDiff, Int.reduceToNat, reduceIte, xe_iconst, xi_0, xx_0, xe_istore, xe_goto_w, xk_iload, jx_iv_i, ak_I, xe_aload, jx_rv_r, jx_rv_n, jx_rv_q, xk_getf, jx_gf_i, jx_ov_s, ak_V, xi_3, xx_3, xk_iald, ja_ia, ak_A, true_or, or_true, xe_icmp_ge, xe_ifeq, xi_1, xx_1, xe_ishl, xe_goto, xe_ior, xk_iinc, ak_C, xe_ireturn, jx_s1, List.set_cons_zero, List.set_cons_succ, jx_2_i, jx_2_l, jx_2_r, jx_2_n, jx_2_u, jx_2_s, jx_2_q, jx_k_i, jx_k_l, jx_k_r, jx_k_n, jx_k_u, jx_k_s, jx_k_q]
    exact key
  · intro m _ hm _
    have h3 : ¬ nI pm ≤ nI m := nI_ge hm (by omega)
    have i1 := sp_ix (show m < 6 by omega) (by decide)
    refine .inr ⟨(), trivial, ?_⟩
    rw [cq_kn, eb_109_4]
    by_cases r : a 8 m = 0 <;> simp only [eb_109_30, eb_109_31, jx_ns_r, jx_ns_n, jx_ns_q, jx_ns_i, jx_gl_0, jx_gl_s, if_true, if_false, ite_true, ite_false, eq_self, Bool.false_eq_true, List.length_cons, List.length_nil, Nat.zero_le, Nat.reduceAdd, Nat.reduceSub, Nat.reduceLeDiff, Nat.reduceLT, Nat.reduceEqDiff, Int.reduceToNat, reduceIte, xe_iconst, xi_0, xx_0, xe_istore, xe_goto_w, xk_iload, jx_iv_i, ak_I, xe_aload, jx_rv_r, jx_rv_n, jx_rv_q, xk_getf, jx_gf_i, jx_ov_s, ak_V, xi_3, xx_3, xk_iald, ja_ia, ak_A, true_or, or_true, xe_icmp_ge, xe_ifeq, xi_1, xx_1, xe_ishl, xe_goto, xe_ior, xk_iinc, ak_C, xe_ireturn, jx_s1, List.set_cons_zero, List.set_cons_succ, jx_2_i, jx_2_l, jx_2_r, jx_2_n, jx_2_u, jx_2_s, jx_2_q, jx_k_i, jx_k_l, jx_k_r, jx_k_n, jx_k_u, jx_k_s, jx_k_q, tw_r, tw_f, tq_r, va_up_s, es, h3, i1, r, nI_1]
  · intro _ _
    have h3 : nI pm ≤ nI pm := (nI_leI (by omega) (by omega)).mpr (Nat.le_refl _)
    simp only [eb_109_4, eb_109_39, jx_ns_r, jx_ns_n, jx_ns_q, jx_ns_i, jx_gl_0, jx_gl_s, if_true, if_false, ite_true, ite_false, eq_self, Bool.false_eq_true, List.length_cons, List.length_nil, Nat.zero_le, Nat.reduceAdd, Nat.reduceSub, Nat.reduceLeDiff, Nat.reduceLT, Nat.reduceEqDiff, Int.reduceToNat, reduceIte, xe_iconst, xi_0, xx_0, xe_istore, xe_goto_w, xk_iload, jx_iv_i, ak_I, xe_aload, jx_rv_r, jx_rv_n, jx_rv_q, xk_getf, jx_gf_i, jx_ov_s, ak_V, xi_3, xx_3, xk_iald, ja_ia, ak_A, true_or, or_true, xe_icmp_ge, xe_ifeq, xi_1, xx_1, xe_ishl, xe_goto, xe_ior, xk_iinc, ak_C, xe_ireturn, jx_s1, List.set_cons_zero, List.set_cons_succ, jx_2_i, jx_2_l, jx_2_r, jx_2_n, jx_2_u, jx_2_s, jx_2_q, jx_k_i, jx_k_l, jx_k_r, jx_k_n, jx_k_u, jx_k_s, jx_k_q, tw_r, tw_f, tq_r, va_up_s, es, h3]
theorem tm_rankOf (ht : t < 6) (htm : tm ≤ 6) (et : s 2 = nI tm) : jx_cr (d + 2) 107 [.ref 113, .int (nI t)] (tw h s a E N Q W) = some (.inl (some (.int (cq_rk (a 8 t) (a 0) tm))), (tw h s a E N Q W)) := by
  have it := sp_ix ht (by decide)
  have key := jx_lp (d := d + 1) (y := 107) (L := 4) (n := tm) (γ := Unit) (ls := fun m _ => [.ref 113, .int (nI t), .int (cq_rk (a 8 t) (a 0) m), .int (nI m)]) (H := fun _ _ => (tw h s a E N Q W))
    (I := fun _ _ => True)
    (G := fun r => r = some (.inl (some (.int (cq_rk (a 8 t) (a 0) tm))), (tw h s a E N Q W))) ?_ ?_ tm 0 () (by omega) trivial
  · simp only [cq_rk, nI_0] at key
    simp only [cr_107, eb_107_0, jx_ns_r, jx_ns_n, jx_ns_q, jx_ns_i, jx_gl_0, jx_gl_s, if_true, if_false, ite_true, ite_false, eq_self, Bool.false_eq_true, List.length_cons, List.length_nil, Nat.zero_le, Nat.reduceAdd, Nat.reduceSub, Nat.reduceLeDiff, Nat.reduceLT, Nat.reduceEqDiff, Int.reduceToNat, reduceIte, xe_iconst, xi_0, xx_0, xe_istore, xe_goto_w, xk_iload, jx_iv_i, ak_I, xe_aload, jx_rv_r, jx_rv_n, jx_rv_q, xk_getf, jx_gf_i, jx_ov_s, ak_V, xi_2, xx_2, xk_iald, ja_ia, ak_A, true_or, or_true, xe_icmp_ge, xe_sta2, jx_cc_i, jx_cc_v, Nat.reduceMod, Nat.reduceDiv, xe_ifeq, xe_goto, xe_iadd, xk_iinc, ak_C, xi_1, xe_ireturn, jx_s1, List.set_cons_zero, List.set_cons_succ, jx_2_i, jx_2_l, jx_2_r, jx_2_n, jx_2_u, jx_2_s, jx_2_q, jx_k_i, jx_k_l, jx_k_r, jx_k_n, jx_k_u, jx_k_s, jx_k_q]
    exact key
  · intro m _ hm _
    have h3 : ¬ nI tm ≤ nI m := nI_ge hm (by omega)
    have i1 := sp_ix (show m < 6 by omega) (by decide)
    refine .inr ⟨(), trivial, ?_⟩
    rw [cq_rk, eb_107_4]
    by_cases r : (a 8 t >>> (nI m &&& 31)) &&& 1 = 1 <;> simp only [eb_107_37, eb_107_38, jx_ns_r, jx_ns_n, jx_ns_q, jx_ns_i, jx_gl_0, jx_gl_s, if_true, if_false, ite_true, ite_false, eq_self, Bool.false_eq_true, List.length_cons, List.length_nil, Nat.zero_le, Nat.reduceAdd, Nat.reduceSub, Nat.reduceLeDiff, Nat.reduceLT, Nat.reduceEqDiff, Int.reduceToNat, reduceIte, xe_iconst, xi_0, xx_0, xe_istore, xe_goto_w, xk_iload, jx_iv_i, ak_I, xe_aload, jx_rv_r, jx_rv_n, jx_rv_q, xk_getf, jx_gf_i, jx_ov_s, ak_V, xi_2, xx_2, xk_iald, ja_ia, ak_A, true_or, or_true, xe_icmp_ge, xe_sta2, jx_cc_i, jx_cc_v, Nat.reduceMod, Nat.reduceDiv, xe_ifeq, xe_goto, xe_iadd, xk_iinc, ak_C, xi_1, xe_ireturn, jx_s1, List.set_cons_zero, List.set_cons_succ, jx_2_i, jx_2_l, jx_2_r, jx_2_n, jx_2_u, jx_2_s, jx_2_q, jx_k_i, jx_k_l, jx_k_r, jx_k_n, jx_k_u, jx_k_s, jx_k_q, tw_r, tw_f, tq_r, va_up_s, et, h3, i1, it, tq_has, r, sp_10, nI_1]
  · intro _ _
    have h3 : nI tm ≤ nI tm := (nI_leI (by omega) (by omega)).mpr (Nat.le_refl _)
    simp only [eb_107_4, eb_107_46, jx_ns_r, jx_ns_n, jx_ns_q, jx_ns_i, jx_gl_0, jx_gl_s, if_true, if_false, ite_true, ite_false, eq_self, Bool.false_eq_true, List.length_cons, List.length_nil, Nat.zero_le, Nat.reduceAdd, Nat.reduceSub, Nat.reduceLeDiff, Nat.reduceLT, Nat.reduceEqDiff, Int.reduceToNat, reduceIte, xe_iconst, xi_0, xx_0, xe_istore, xe_goto_w, xk_iload, jx_iv_i, ak_I, xe_aload, jx_rv_r, jx_rv_n, jx_rv_q, xk_getf, jx_gf_i, jx_ov_s, ak_V, xi_2, xx_2, xk_iald, ja_ia, ak_A, true_or, or_true, xe_icmp_ge, xe_sta2, jx_cc_i, jx_cc_v, Nat.reduceMod, Nat.reduceDiv, xe_ifeq, xe_goto, xe_iadd, xk_iinc, ak_C, xi_1, xe_ireturn, jx_s1, List.set_cons_zero, List.set_cons_succ, jx_2_i, jx_2_l, jx_2_r, jx_2_n, jx_2_u, jx_2_s, jx_2_q, jx_k_i, jx_k_l, jx_k_r, jx_k_n, jx_k_u, jx_k_s, jx_k_q, tw_r, tw_f, tq_r, va_up_s, et, h3]
theorem tm_allRank (htm : tm ≤ 6) (et : s 2 = nI tm) (hpm : pm ≤ 6) (es : s 3 = nI pm) : jx_cr (d + 3) 153 [.ref 113] (tw h s a E N Q W) = some (.inl (some (.int (cq_ra (a 8) (a 0) tm pm))), (tw h s a E N Q W)) := by
  have key := jx_lp (d := d + 2) (y := 153) (L := 4) (n := pm) (γ := Unit) (ls := fun m _ => [.ref 113, .int (cq_ra (a 8) (a 0) tm m), .int (nI m)]) (H := fun _ _ => (tw h s a E N Q W))
    (I := fun _ _ => True)
    (G := fun r => r = some (.inl (some (.int (cq_ra (a 8) (a 0) tm pm))), (tw h s a E N Q W))) ?_ ?_ pm 0 () (by omega) trivial
  · simp only [cq_ra, nI_0] at key
    simp only [cr_153, eb_153_0, jx_ns_r, jx_ns_n, jx_ns_q, jx_ns_i, jx_gl_0, jx_gl_s, if_true, if_false, ite_true, ite_false, eq_self, Bool.false_eq_true, List.length_cons, List.length_nil, Nat.zero_le, Nat.reduceAdd, Nat.reduceSub, Nat.reduceLeDiff, Nat.reduceLT, Nat.reduceEqDiff, Int.reduceToNat, reduceIte, xe_iconst, xi_0, xx_0, xe_istore, xe_goto_w, xk_iload, jx_iv_i, ak_I, xe_aload, jx_rv_r, jx_rv_n, jx_rv_q, xk_getf, jx_gf_i, jx_ov_s, ak_V, xi_3, xx_3, xk_iald, ja_ia, ak_A, true_or, or_true, xe_icmp_ge, xe_inv1, jx_cc_i, jx_cc_v, Nat.reduceMod, Nat.reduceDiv, jx_cl9_i, xe_iadd, xk_iinc, ak_C, xi_1, xe_goto, xe_ireturn, jx_s1, List.set_cons_zero, List.set_cons_succ, jx_2_i, jx_2_l, jx_2_r, jx_2_n, jx_2_u, jx_2_s, jx_2_q, jx_k_i, jx_k_l, jx_k_r, jx_k_n, jx_k_u, jx_k_s, jx_k_q]
    exact key
  · intro m _ hm _
    have h3 : ¬ nI pm ≤ nI m := nI_ge hm (by omega)
    refine .inr ⟨(), trivial, ?_⟩
    rw [cq_ra, eb_153_4]
    simp only [jx_ns_r, jx_ns_n, jx_ns_q, jx_ns_i, jx_gl_0, jx_gl_s, if_true, if_false, ite_true, ite_false, eq_self, Bool.false_eq_true, List.length_cons, List.length_nil, Nat.zero_le, Nat.reduceAdd, Nat.reduceSub, Nat.reduceLeDiff, Nat.reduceLT, Nat.reduceEqDiff, Int.reduceToNat, reduceIte, xe_iconst, xi_0, xx_0, xe_istore, xe_goto_w, xk_iload, jx_iv_i, ak_I, xe_aload, jx_rv_r, jx_rv_n, jx_rv_q, xk_getf, jx_gf_i, jx_ov_s, ak_V, xi_3, xx_3, xk_iald, ja_ia, ak_A, true_or, or_true, xe_icmp_ge, xe_inv1, jx_cc_i, jx_cc_v, Nat.reduceMod, Nat.reduceDiv, jx_cl9_i, xe_iadd, xk_iinc, ak_C, xi_1, xe_goto, xe_ireturn, jx_s1, List.set_cons_zero, List.set_cons_succ, jx_2_i, jx_2_l, jx_2_r, jx_2_n, jx_2_u, jx_2_s, jx_2_q, jx_k_i, jx_k_l, jx_k_r, jx_k_n, jx_k_u, jx_k_s, jx_k_q, tw_r, tw_f, tq_r, va_up_s, es, h3, tm_rankOf (show m < 6 by omega) htm et, nI_1]
  · intro _ _
    have h3 : nI pm ≤ nI pm := (nI_leI (by omega) (by omega)).mpr (Nat.le_refl _)
    simp only [eb_153_4, eb_153_28, jx_ns_r, jx_ns_n, jx_ns_q, jx_ns_i, jx_gl_0, jx_gl_s, if_true, if_false, ite_true, ite_false, eq_self, Bool.false_eq_true, List.length_cons, List.length_nil, Nat.zero_le, Nat.reduceAdd, Nat.reduceSub, Nat.reduceLeDiff, Nat.reduceLT, Nat.reduceEqDiff, Int.reduceToNat, reduceIte, xe_iconst, xi_0, xx_0, xe_istore, xe_goto_w, xk_iload, jx_iv_i, ak_I, xe_aload, jx_rv_r, jx_rv_n, jx_rv_q, xk_getf, jx_gf_i, jx_ov_s, ak_V, xi_3, xx_3, xk_iald, ja_ia, ak_A, true_or, or_true, xe_icmp_ge, xe_inv1, jx_cc_i, jx_cc_v, Nat.reduceMod, Nat.reduceDiv, jx_cl9_i, xe_iadd, xk_iinc, ak_C, xi_1, xe_goto, xe_ireturn, jx_s1, List.set_cons_zero, List.set_cons_succ, jx_2_i, jx_2_l, jx_2_r, jx_2_n, jx_2_u, jx_2_s, jx_2_q, jx_k_i, jx_k_l, jx_k_r, jx_k_n, jx_k_u, jx_k_s, jx_k_q, tw_r, tw_f, tq_r, va_up_s, es, h3]
end TA
