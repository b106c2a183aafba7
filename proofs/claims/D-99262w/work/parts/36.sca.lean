/-! SpoonCourt: small methods -/
set_option maxRecDepth 100000
theorem va_rf_s {k : Nat} : va_rf (some k) = .ref k := rfl
theorem va_rf_n : va_rf none = .null := rfl
theorem sp_10 : ((1 : Int32) = 0) = False := by decide
theorem sp_le0 {i : Int32} : (¬ i < 0) = (0 ≤ i) := by simp only [Int32.not_lt]
section SA
variable {d : Nat} {h : jx_H} {cu : Option Nat} {F : Nat → Int32} {o p q z : cq_C} {T : List Value} {x : Int32 × Int32} {ru im : Nat → Option Nat} {tp : Nat → Int32} {R : Nat → Nat → Int32} {s : Nat → Int32} {a : Nat → Nat → Int32} {w : Nat → Int64}
theorem sc_isThing1 {i : Int32} : jx_cr (d + 1) 12 [.ref 48, .int i] (sw h (some 49) F (s, a, w) p q z T x ru im tp R) = some (.inl (some (.int (if 0 ≤ i ∧ i < s 2 then 1 else 0))), (sw h (some 49) F (s, a, w) p q z T x ru im tp R)) := by
  simp only [cr_12, eb_12_0, eb_12_26, eb_12_27, jx_ns_r, jx_ns_n, jx_ns_q, jx_ns_i, jx_gl_0, jx_gl_s, if_true, if_false, ite_true, ite_false, eq_self, Bool.false_eq_true, List.length_cons, List.length_nil, Nat.zero_le, Nat.reduceAdd, Nat.reduceSub, Nat.reduceLeDiff, Nat.reduceLT, Nat.reduceEqDiff, Int.reduceToNat, reduceIte, xe_aload, jx_rv_r, jx_rv_n, jx_rv_q, xk_getf, jx_gf_i, jx_ov_s, ak_V, xe_ifnull_n, xe_ifnull_r, xk_iload, jx_iv_i, ak_I, xe_iflt, xe_icmp_ge, xe_iconst, xi_1, xx_1, xe_goto, xi_0, xx_0, xe_goto_w, xe_zreturn, xZ, sw_r, sw_f, sw_s, sw_wo, sw_ro, sw_rp, sw_woo, sw_wor, sw_wpo, sw_wpr, cq_f, cq_s, va_up_s, va_rf_s, va_rf_n]
  by_cases q1 : i < 0
  · have q2 : ¬ 0 ≤ i := Int32.not_le.mpr q1
    simp only [q1, q2, if_true, false_and, if_false]
  · have q2 : 0 ≤ i := Int32.not_lt.mp q1
    by_cases q3 : s 2 ≤ i
    · have q4 : ¬ i < s 2 := Int32.not_lt.mpr q3
      simp only [q1, q2, q3, q4, if_true, and_false, if_false]
    · have q4 : i < s 2 := Int32.not_le.mp q3
      simp only [q1, q2, q3, q4, if_true, and_self, if_false]
theorem sc_isThing0 {i : Int32} : jx_cr (d + 1) 12 [.ref 48, .int i] (sw h none F o p q z T x ru im tp R) = some (.inl (some (.int 0)), (sw h none F o p q z T x ru im tp R)) := by
  simp only [cr_12, eb_12_0, eb_12_26, eb_12_27, jx_ns_r, jx_ns_n, jx_ns_q, jx_ns_i, jx_gl_0, jx_gl_s, if_true, if_false, ite_true, ite_false, eq_self, Bool.false_eq_true, List.length_cons, List.length_nil, Nat.zero_le, Nat.reduceAdd, Nat.reduceSub, Nat.reduceLeDiff, Nat.reduceLT, Nat.reduceEqDiff, Int.reduceToNat, reduceIte, xe_aload, jx_rv_r, jx_rv_n, jx_rv_q, xk_getf, jx_gf_i, jx_ov_s, ak_V, xe_ifnull_n, xe_ifnull_r, xk_iload, jx_iv_i, ak_I, xe_iflt, xe_icmp_ge, xe_iconst, xi_1, xx_1, xe_goto, xi_0, xx_0, xe_goto_w, xe_zreturn, xZ, sw_r, sw_f, sw_s, sw_wo, sw_ro, sw_rp, sw_woo, sw_wor, sw_wpo, sw_wpr, cq_f, cq_s, va_up_s, va_rf_s, va_rf_n]
theorem sc_isPerson1 {i : Int32} : jx_cr (d + 1) 13 [.ref 48, .int i] (sw h (some 49) F (s, a, w) p q z T x ru im tp R) = some (.inl (some (.int (if 0 ≤ i ∧ i < s 3 then 1 else 0))), (sw h (some 49) F (s, a, w) p q z T x ru im tp R)) := by
  simp only [cr_13, eb_13_0, eb_13_26, eb_13_27, jx_ns_r, jx_ns_n, jx_ns_q, jx_ns_i, jx_gl_0, jx_gl_s, if_true, if_false, ite_true, ite_false, eq_self, Bool.false_eq_true, List.length_cons, List.length_nil, Nat.zero_le, Nat.reduceAdd, Nat.reduceSub, Nat.reduceLeDiff, Nat.reduceLT, Nat.reduceEqDiff, Int.reduceToNat, reduceIte, xe_aload, jx_rv_r, jx_rv_n, jx_rv_q, xk_getf, jx_gf_i, jx_ov_s, ak_V, xe_ifnull_n, xe_ifnull_r, xk_iload, jx_iv_i, ak_I, xe_iflt, xe_icmp_ge, xe_iconst, xi_1, xx_1, xe_goto, xi_0, xx_0, xe_goto_w, xe_zreturn, xZ, sw_r, sw_f, sw_s, sw_wo, sw_ro, sw_rp, sw_woo, sw_wor, sw_wpo, sw_wpr, cq_f, cq_s, va_up_s, va_rf_s, va_rf_n]
  by_cases q1 : i < 0
  · have q2 : ¬ 0 ≤ i := Int32.not_le.mpr q1
    simp only [q1, q2, if_true, false_and, if_false]
  · have q2 : 0 ≤ i := Int32.not_lt.mp q1
    by_cases q3 : s 3 ≤ i
    · have q4 : ¬ i < s 3 := Int32.not_lt.mpr q3
      simp only [q1, q2, q3, q4, if_true, and_false, if_false]
    · have q4 : i < s 3 := Int32.not_le.mp q3
      simp only [q1, q2, q3, q4, if_true, and_self, if_false]
theorem sc_isPerson0 {i : Int32} : jx_cr (d + 1) 13 [.ref 48, .int i] (sw h none F o p q z T x ru im tp R) = some (.inl (some (.int 0)), (sw h none F o p q z T x ru im tp R)) := by
  simp only [cr_13, eb_13_0, eb_13_26, eb_13_27, jx_ns_r, jx_ns_n, jx_ns_q, jx_ns_i, jx_gl_0, jx_gl_s, if_true, if_false, ite_true, ite_false, eq_self, Bool.false_eq_true, List.length_cons, List.length_nil, Nat.zero_le, Nat.reduceAdd, Nat.reduceSub, Nat.reduceLeDiff, Nat.reduceLT, Nat.reduceEqDiff, Int.reduceToNat, reduceIte, xe_aload, jx_rv_r, jx_rv_n, jx_rv_q, xk_getf, jx_gf_i, jx_ov_s, ak_V, xe_ifnull_n, xe_ifnull_r, xk_iload, jx_iv_i, ak_I, xe_iflt, xe_icmp_ge, xe_iconst, xi_1, xx_1, xe_goto, xi_0, xx_0, xe_goto_w, xe_zreturn, xZ, sw_r, sw_f, sw_s, sw_wo, sw_ro, sw_rp, sw_woo, sw_wor, sw_wpo, sw_wpr, cq_f, cq_s, va_up_s, va_rf_s, va_rf_n]
theorem sc_force {i : Int32} : jx_cr (d + 1) 10 [.ref 48, .int i] (sw h cu F o p q z T x ru im tp R) = some (.inl (some (.int (if i = -1 ∨ 0 ≤ i ∧ i < F 14 then F 6 else -2))), sw h cu (if i = -1 ∨ 0 ≤ i ∧ i < F 14 then va_up F 6 i else F) o p q z T x ru im tp R) := by
  simp only [cr_10, eb_10_0, eb_10_17, eb_10_20, jx_ns_r, jx_ns_n, jx_ns_q, jx_ns_i, jx_gl_0, jx_gl_s, if_true, if_false, ite_true, ite_false, eq_self, Bool.false_eq_true, List.length_cons, List.length_nil, Nat.zero_le, Nat.reduceAdd, Nat.reduceSub, Nat.reduceLeDiff, Nat.reduceLT, Nat.reduceEqDiff, Int.reduceToNat, reduceIte, xk_iload, jx_iv_i, ak_I, xe_iconst, xi_m1, xe_icmp_eq, xe_iflt, xe_aload, jx_rv_r, jx_rv_n, jx_rv_q, xk_getf, jx_gf_i, jx_ov_s, ak_V, xe_icmp_lt, xe_goto_w, xi_m2, xe_ireturn, xe_istore, xk_putf, ak_P, jx_pf_i, jx_pf_z, jx_pf_l, jx_pf_r, jx_pf_n, jx_pf_q, Nat.reduceMod, Nat.reduceDiv, jx_s1, List.set_cons_zero, List.set_cons_succ, jx_2_i, jx_2_l, jx_2_r, jx_2_n, jx_2_u, jx_2_s, jx_2_q, jx_k_i, jx_k_l, jx_k_r, jx_k_n, jx_k_u, jx_k_s, jx_k_q, sw_r, sw_f, sw_s, sw_wo, sw_ro, sw_rp, sw_woo, sw_wor, sw_wpo, sw_wpr, cq_f, cq_s, va_up_s, va_rf_s, va_rf_n]
  by_cases q0 : i = -1
  · simp only [q0, if_true, true_or]
  · by_cases q1 : i < 0
    · have q2 : ¬ 0 ≤ i := Int32.not_le.mpr q1
      simp only [q0, q1, q2, if_true, false_and, if_false, or_self]
    · have q2 : 0 ≤ i := Int32.not_lt.mp q1
      by_cases q3 : i < F 14 <;> simp only [q0, q1, q2, q3, if_true, and_self, and_false, or_self, false_or, if_false]
theorem sc_seed {i : Int32} : jx_cr (d + 1) 49 [.ref 48, .int i] (sw h cu F o p q z T x ru im tp R) = some (.inl (some (.int (if 0 ≤ i then F 5 else -1))), sw h cu (if 0 ≤ i then va_up F 5 i else F) o p q z T x ru im tp R) := by
  simp only [cr_49, eb_49_0, eb_49_6, jx_ns_r, jx_ns_n, jx_ns_q, jx_ns_i, jx_gl_0, jx_gl_s, if_true, if_false, ite_true, ite_false, eq_self, Bool.false_eq_true, List.length_cons, List.length_nil, Nat.zero_le, Nat.reduceAdd, Nat.reduceSub, Nat.reduceLeDiff, Nat.reduceLT, Nat.reduceEqDiff, Int.reduceToNat, reduceIte, xk_iload, jx_iv_i, ak_I, xe_ifge, xe_iconst, xi_m1, xe_ireturn, xe_aload, jx_rv_r, jx_rv_n, jx_rv_q, xk_getf, jx_gf_i, jx_ov_s, ak_V, xe_istore, xk_putf, ak_P, jx_pf_i, jx_pf_z, jx_pf_l, jx_pf_r, jx_pf_n, jx_pf_q, Nat.reduceMod, Nat.reduceDiv, jx_s1, List.set_cons_zero, List.set_cons_succ, jx_2_i, jx_2_l, jx_2_r, jx_2_n, jx_2_u, jx_2_s, jx_2_q, jx_k_i, jx_k_l, jx_k_r, jx_k_n, jx_k_u, jx_k_s, jx_k_q, sw_r, sw_f, sw_s, sw_wo, sw_ro, sw_rp, sw_woo, sw_wor, sw_wpo, sw_wpr, cq_f, cq_s, va_up_s, va_rf_s, va_rf_n]
  by_cases q0 : 0 ≤ i <;> simp only [q0, if_true, if_false]
theorem sc_end {i : Int32} : jx_cr (d + 1) 6 [.ref 48, .int i] (sw h cu F o p q z T x ru im tp R) = some (.inl (some (.int (if 0 ≤ i ∧ i ≤ F 9 then i else -1))), sw h cu (if 0 ≤ i ∧ i ≤ F 9 then va_up F 9 i else F) o p q z T x ru im tp R) := by
  simp only [cr_6, eb_6_0, eb_6_12, eb_6_14, jx_ns_r, jx_ns_n, jx_ns_q, jx_ns_i, jx_gl_0, jx_gl_s, if_true, if_false, ite_true, ite_false, eq_self, Bool.false_eq_true, List.length_cons, List.length_nil, Nat.zero_le, Nat.reduceAdd, Nat.reduceSub, Nat.reduceLeDiff, Nat.reduceLT, Nat.reduceEqDiff, Int.reduceToNat, reduceIte, xk_iload, jx_iv_i, ak_I, xe_iflt, xe_aload, jx_rv_r, jx_rv_n, jx_rv_q, xk_getf, jx_gf_i, jx_ov_s, ak_V, xe_icmp_le, xe_goto_w, xe_iconst, xi_m1, xe_ireturn, xk_putf, ak_P, jx_pf_i, jx_pf_z, jx_pf_l, jx_pf_r, jx_pf_n, jx_pf_q, Nat.reduceMod, Nat.reduceDiv, sw_r, sw_f, sw_s, sw_wo, sw_ro, sw_rp, sw_woo, sw_wor, sw_wpo, sw_wpr, cq_f, cq_s, va_up_s, va_rf_s, va_rf_n]
  by_cases q1 : i < 0
  · have q2 : ¬ 0 ≤ i := Int32.not_le.mpr q1
    simp only [q1, q2, if_true, false_and, if_false]
  · have q2 : 0 ≤ i := Int32.not_lt.mp q1
    by_cases q3 : i ≤ F 9 <;> simp only [q1, q2, q3, if_true, and_self, and_false, if_false]
theorem sc_law0 (e : F 6 = -1) : jx_cr (d + 1) 11 [.ref 48] (sw h cu F o p q z T x ru im tp R) = some (.inl (some (va_rf none)), (sw h cu F o p q z T x ru im tp R)) := by
  simp only [cr_11, eb_11_0, eb_11_12, eb_11_21, jx_ns_r, jx_ns_n, jx_ns_q, jx_ns_i, jx_gl_0, jx_gl_s, if_true, if_false, ite_true, ite_false, eq_self, Bool.false_eq_true, List.length_cons, List.length_nil, Nat.zero_le, Nat.reduceAdd, Nat.reduceSub, Nat.reduceLeDiff, Nat.reduceLT, Nat.reduceEqDiff, Int.reduceToNat, reduceIte, xe_aload, jx_rv_r, jx_rv_n, jx_rv_q, xk_getf, jx_gf_i, jx_ov_s, ak_V, xe_iconst, xi_m1, xe_icmp_ne, xe_null, xe_goto, xk_qald, ja_qa, ak_A, ak_Q, true_or, or_true, and_self, and_true, true_and, xe_goto_w, xe_areturn_n, xe_areturn_r, sw_r, sw_f, sw_s, sw_wo, sw_ro, sw_rp, sw_woo, sw_wor, sw_wpo, sw_wpr, cq_f, cq_s, va_up_s, va_rf_s, va_rf_n, e]
theorem sc_law1 {k r : Nat} (e : F 6 = nI k) (hk : k < 6) (er : ru k = some r) (hr : 3 ≤ r) : jx_cr (d + 1) 11 [.ref 48] (sw h cu F o p q z T x ru im tp R) = some (.inl (some (va_rf (some r))), (sw h cu F o p q z T x ru im tp R)) := by
  have hn : ¬ nI k = -1 := by
    intro q
    have := congrArg Int32.toInt q
    rw [nI_toInt (by omega)] at this
    have h2 : (-1 : Int32).toInt = -1 := rfl
    omega
  have i1 : jx_ix (nI k) 6 = some k := by rw [jx_ix_n (by omega), if_pos hk]
  simp only [cr_11, eb_11_0, eb_11_12, eb_11_21, jx_ns_r, jx_ns_n, jx_ns_q, jx_ns_i, jx_gl_0, jx_gl_s, if_true, if_false, ite_true, ite_false, eq_self, Bool.false_eq_true, List.length_cons, List.length_nil, Nat.zero_le, Nat.reduceAdd, Nat.reduceSub, Nat.reduceLeDiff, Nat.reduceLT, Nat.reduceEqDiff, Int.reduceToNat, reduceIte, xe_aload, jx_rv_r, jx_rv_n, jx_rv_q, xk_getf, jx_gf_i, jx_ov_s, ak_V, xe_iconst, xi_m1, xe_icmp_ne, xe_null, xe_goto, xk_qald, ja_qa, ak_A, ak_Q, true_or, or_true, and_self, and_true, true_and, xe_goto_w, xe_areturn_n, xe_areturn_r, sw_r, sw_f, sw_s, sw_wo, sw_ro, sw_rp, sw_woo, sw_wor, sw_wpo, sw_wpr, cq_f, cq_s, va_up_s, va_rf_s, va_rf_n, e, hn, i1, er, hr]
end SA
