/-! SpoonCourt: isRest, rests -/
set_option maxRecDepth 100000
def sp_rst (f g : Nat → Int32) (u v : Nat) : Prop := ∀ k, k < 5 → ¬ (f (5 * u + v) < f (5 * k + v) ∨ g (5 * u + v) < g (5 * u + k))
noncomputable def sp_rsb (f g : Nat → Int32) (c : Nat) : Bool := @decide (sp_rst f g (c / 5) (c % 5)) (Classical.propDecidable _)
/-- persons' ranks after n hours, both thanked in tens -/
def sp_rs1 (Lo : Option ((Nat → Int64) → Int64)) (s : Nat → Int32) (a : Nat → Nat → Int32) (tm t u n : Nat) (v c : Nat) : Int32 :=
  cq_rk ((cq_gn Lo n (s, sp_tk (sp_tk a t (nI (10 * (c / 5)))) u (nI (10 * (c % 5))))).2 8 v) (a 0) tm
def sp_rf (Lo : Option ((Nat → Int64) → Int64)) (s : Nat → Int32) (a : Nat → Nat → Int32) (tm t u n : Nat) (c : Nat) : Int32 := sp_rs1 Lo s a tm t u n t c - nI (c / 5)
def sp_rg2 (Lo : Option ((Nat → Int64) → Int64)) (s : Nat → Int32) (a : Nat → Nat → Int32) (tm t u n : Nat) (c : Nat) : Int32 := sp_rs1 Lo s a tm t u n u c - nI (c % 5)
def sp_rsv (P : Nat → Bool) (k : Int32) : Int32 :=
  if k = 0 then ct P 25 0 else match fd P 25 0 with
    | none => -2
    | some c => if k = 1 then nI (10 * (c / 5)) else nI (10 * (c % 5))
theorem sp_d5 {c : Nat} (h : c < 25) : nI c / 5 = nI (c / 5) ∧ nI c - nI (c / 5) * 5 = nI (c % 5) := by
  have : ∀ c : Fin 25, nI c.val / 5 = nI (c.val / 5) ∧ nI c.val - nI (c.val / 5) * 5 = nI (c.val % 5) := by decide +kernel
  exact this ⟨c, h⟩
theorem sp_50 : ((5 : Int32) = 0) = False := by decide
theorem sp_m5 {u v : Nat} : (5 : Int32) * nI u + nI v = nI (5 * u + v) := by
  rw [show (5 : Int32) * nI u = nI (5 * u) from (Int32.ofNat_mul 5 u).symm, nI_add]
theorem sp_m10 {u : Nat} : (10 : Int32) * nI u = nI (10 * u) := (Int32.ofNat_mul 10 u).symm
section SR9
variable {d : Nat} {h : jx_H} {cu : Option Nat} {F : Nat → Int32} {o p q z : cq_C} {T : List Value} {x : Int32 × Int32} {ru im : Nat → Option Nat} {tp : Nat → Int32} {R : Nat → Nat → Int32} {s : Nat → Int32} {a : Nat → Nat → Int32} {w : Nat → Int64}
variable {i k : Int32} {t tm pm day um now D n : Nat} {lo : Option Nat} {Lo : Option ((Nat → Int64) → Int64)} {ps : Nat → Int32} {pa : Nat → Nat → Int32} {pw : Nat → Int64}
variable {u v : Nat}
theorem sp_isRest (hu : u < 5) (hv : v < 5) : jx_cr (d + 1) 38 [.ref 48, .int (nI u), .int (nI v)] (sw h cu F o p q z T x ru im tp R) = some (.inl (some (.int (sp_bl (sp_rst (R 0) (R 1) u v)))), (sw h cu F o p q z T x ru im tp R)) := by
  have key := jx_lp (d := d) (y := 38) (L := 2) (n := 5) (γ := Unit) (ls := fun m _ => [.ref 48, .int (nI u), .int (nI v), .int (nI m)]) (H := fun _ _ => (sw h cu F o p q z T x ru im tp R))
    (I := fun m _ => ∀ k, k < m → ¬ (R 0 (5 * u + v) < R 0 (5 * k + v) ∨ R 1 (5 * u + v) < R 1 (5 * u + k)))
    (G := fun r => r = some (.inl (some (.int (sp_bl (sp_rst (R 0) (R 1) u v)))), (sw h cu F o p q z T x ru im tp R))) ?_ ?_ 5 0 () (by omega) (fun t ht => absurd ht (by omega))
  · rw [nI_0] at key
    simp only [cr_38, eb_38_0, jx_ns_r, jx_ns_n, jx_ns_q, jx_ns_i, jx_gl_0, jx_gl_s, if_true, if_false, ite_true, ite_false, eq_self, Bool.false_eq_true, List.length_cons, List.length_nil, Nat.zero_le, Nat.reduceAdd, Nat.reduceSub, Nat.reduceLeDiff, Nat.reduceLT, Nat.reduceEqDiff, Int.reduceToNat, reduceIte, xe_iconst, xi_0, xx_0, xe_istore, xe_goto_w, xk_iload, jx_iv_i, ak_I, xi_5, xx_5, xe_icmp_ge, xe_aload, jx_rv_r, jx_rv_n, jx_rv_q, xk_getf, jx_gf_i, jx_ov_s, ak_V, xe_imul, xe_iadd, xk_iald, ja_ia, ak_A, true_or, or_true, xe_icmp_gt, xe_icmp_le, xe_zreturn, xZ, xk_iinc, ak_C, xi_1, xe_goto, xx_1, jx_s1, List.set_cons_zero, List.set_cons_succ, jx_2_i, jx_2_l, jx_2_r, jx_2_n, jx_2_u, jx_2_s, jx_2_q, jx_k_i, jx_k_l, jx_k_r, jx_k_n, jx_k_u, jx_k_s, jx_k_q]
    exact key
  · intro m _ hm hI
    have h3 : ¬ (5 : Int32) ≤ nI m := nI_ge (a := m) (b := 5) hm (by omega)
    have i1 := sp_ix (show 5 * m + v < 25 by omega) (by decide)
    have i2 := sp_ix (show 5 * u + v < 25 by omega) (by decide)
    have i3 := sp_ix (show 5 * u + m < 25 by omega) (by decide)
    by_cases r1 : R 0 (5 * u + v) < R 0 (5 * m + v)
    · refine .inl ?_
      rw [sp_bl_f (show ¬ sp_rst (R 0) (R 1) u v from fun c => c m hm (.inl r1))]
      simp only [eb_38_2, eb_38_53, jx_ns_r, jx_ns_n, jx_ns_q, jx_ns_i, jx_gl_0, jx_gl_s, if_true, if_false, ite_true, ite_false, eq_self, Bool.false_eq_true, List.length_cons, List.length_nil, Nat.zero_le, Nat.reduceAdd, Nat.reduceSub, Nat.reduceLeDiff, Nat.reduceLT, Nat.reduceEqDiff, Int.reduceToNat, reduceIte, xe_iconst, xi_0, xx_0, xe_istore, xe_goto_w, xk_iload, jx_iv_i, ak_I, xi_5, xx_5, xe_icmp_ge, xe_aload, jx_rv_r, jx_rv_n, jx_rv_q, xk_getf, jx_gf_i, jx_ov_s, ak_V, xe_imul, xe_iadd, xk_iald, ja_ia, ak_A, true_or, or_true, xe_icmp_gt, xe_icmp_le, xe_zreturn, xZ, xk_iinc, ak_C, xi_1, xe_goto, xx_1, jx_s1, List.set_cons_zero, List.set_cons_succ, jx_2_i, jx_2_l, jx_2_r, jx_2_n, jx_2_u, jx_2_s, jx_2_q, jx_k_i, jx_k_l, jx_k_r, jx_k_n, jx_k_u, jx_k_s, jx_k_q, sw_r, sw_f, sw_s, sw_wo, sw_ro, sw_rp, sw_woo, sw_wor, sw_wpo, sw_wpr, cq_f, cq_s, va_up_s, va_rf_s, va_rf_n, h3, sp_m5, i1, i2, r1]
    · by_cases r2 : R 1 (5 * u + v) < R 1 (5 * u + m)
      · have r2' : ¬ R 1 (5 * u + m) ≤ R 1 (5 * u + v) := Int32.not_le.mpr r2
        refine .inl ?_
        rw [sp_bl_f (show ¬ sp_rst (R 0) (R 1) u v from fun c => c m hm (.inr r2))]
        simp only [eb_38_2, eb_38_53, jx_ns_r, jx_ns_n, jx_ns_q, jx_ns_i, jx_gl_0, jx_gl_s, if_true, if_false, ite_true, ite_false, eq_self, Bool.false_eq_true, List.length_cons, List.length_nil, Nat.zero_le, Nat.reduceAdd, Nat.reduceSub, Nat.reduceLeDiff, Nat.reduceLT, Nat.reduceEqDiff, Int.reduceToNat, reduceIte, xe_iconst, xi_0, xx_0, xe_istore, xe_goto_w, xk_iload, jx_iv_i, ak_I, xi_5, xx_5, xe_icmp_ge, xe_aload, jx_rv_r, jx_rv_n, jx_rv_q, xk_getf, jx_gf_i, jx_ov_s, ak_V, xe_imul, xe_iadd, xk_iald, ja_ia, ak_A, true_or, or_true, xe_icmp_gt, xe_icmp_le, xe_zreturn, xZ, xk_iinc, ak_C, xi_1, xe_goto, xx_1, jx_s1, List.set_cons_zero, List.set_cons_succ, jx_2_i, jx_2_l, jx_2_r, jx_2_n, jx_2_u, jx_2_s, jx_2_q, jx_k_i, jx_k_l, jx_k_r, jx_k_n, jx_k_u, jx_k_s, jx_k_q, sw_r, sw_f, sw_s, sw_wo, sw_ro, sw_rp, sw_woo, sw_wor, sw_wpo, sw_wpr, cq_f, cq_s, va_up_s, va_rf_s, va_rf_n, h3, sp_m5, i1, i2, i3, r1, r2']
      · have r2' : R 1 (5 * u + m) ≤ R 1 (5 * u + v) := Int32.not_lt.mp r2
        refine .inr ⟨(), fun k hk => ?_, ?_⟩
        · rcases (show k < m ∨ k = m by omega) with r | r
          · exact hI k r
          · subst r; exact fun c => c.elim r1 r2
        · rw [eb_38_2]
          simp only [eb_38_55, jx_ns_r, jx_ns_n, jx_ns_q, jx_ns_i, jx_gl_0, jx_gl_s, if_true, if_false, ite_true, ite_false, eq_self, Bool.false_eq_true, List.length_cons, List.length_nil, Nat.zero_le, Nat.reduceAdd, Nat.reduceSub, Nat.reduceLeDiff, Nat.reduceLT, Nat.reduceEqDiff, Int.reduceToNat, reduceIte, xe_iconst, xi_0, xx_0, xe_istore, xe_goto_w, xk_iload, jx_iv_i, ak_I, xi_5, xx_5, xe_icmp_ge, xe_aload, jx_rv_r, jx_rv_n, jx_rv_q, xk_getf, jx_gf_i, jx_ov_s, ak_V, xe_imul, xe_iadd, xk_iald, ja_ia, ak_A, true_or, or_true, xe_icmp_gt, xe_icmp_le, xe_zreturn, xZ, xk_iinc, ak_C, xi_1, xe_goto, xx_1, jx_s1, List.set_cons_zero, List.set_cons_succ, jx_2_i, jx_2_l, jx_2_r, jx_2_n, jx_2_u, jx_2_s, jx_2_q, jx_k_i, jx_k_l, jx_k_r, jx_k_n, jx_k_u, jx_k_s, jx_k_q, sw_r, sw_f, sw_s, sw_wo, sw_ro, sw_rp, sw_woo, sw_wor, sw_wpo, sw_wpr, cq_f, cq_s, va_up_s, va_rf_s, va_rf_n, h3, sp_m5, i1, i2, i3, r1, r2', nI_1]
  · intro _ hI
    have h3 : (5 : Int32) ≤ nI 5 := by decide
    rw [sp_bl_t (show sp_rst (R 0) (R 1) u v from hI)]
    simp only [eb_38_2, eb_38_61, jx_ns_r, jx_ns_n, jx_ns_q, jx_ns_i, jx_gl_0, jx_gl_s, if_true, if_false, ite_true, ite_false, eq_self, Bool.false_eq_true, List.length_cons, List.length_nil, Nat.zero_le, Nat.reduceAdd, Nat.reduceSub, Nat.reduceLeDiff, Nat.reduceLT, Nat.reduceEqDiff, Int.reduceToNat, reduceIte, xe_iconst, xi_0, xx_0, xe_istore, xe_goto_w, xk_iload, jx_iv_i, ak_I, xi_5, xx_5, xe_icmp_ge, xe_aload, jx_rv_r, jx_rv_n, jx_rv_q, xk_getf, jx_gf_i, jx_ov_s, ak_V, xe_imul, xe_iadd, xk_iald, ja_ia, ak_A, true_or, or_true, xe_icmp_gt, xe_icmp_le, xe_zreturn, xZ, xk_iinc, ak_C, xi_1, xe_goto, xx_1, jx_s1, List.set_cons_zero, List.set_cons_succ, jx_2_i, jx_2_l, jx_2_r, jx_2_n, jx_2_u, jx_2_s, jx_2_q, jx_k_i, jx_k_l, jx_k_r, jx_k_n, jx_k_u, jx_k_s, jx_k_q, h3]
theorem sc_rests0 {j l : Int32} : jx_cr (d + 2) 39 [.ref 48, .int i, .int j, .int l, .int k] (sw h none F o p q z T x ru im tp R) = some (.inl (some (.int (-1))), (sw h none F o p q z T x ru im tp R)) := by
  simp only [cr_39, eb_39_0, eb_39_46, jx_ns_r, jx_ns_n, jx_ns_q, jx_ns_i, jx_gl_0, jx_gl_s, if_true, if_false, ite_true, ite_false, eq_self, Bool.false_eq_true, List.length_cons, List.length_nil, Nat.zero_le, Nat.reduceAdd, Nat.reduceSub, Nat.reduceLeDiff, Nat.reduceLT, Nat.reduceEqDiff, Int.reduceToNat, reduceIte, xe_aload, jx_rv_r, jx_rv_n, jx_rv_q, xk_iload, jx_iv_i, ak_I, xe_inv1, jx_cc_i, jx_cc_v, Nat.reduceMod, Nat.reduceDiv, jx_cl9_i, xe_ifeq, xe_icmp_eq, xe_i2l, xe_lconst, xl_1, xl_20, xe_sta3, xl_0, xl_2, xe_ifne, xe_goto_w, xe_iconst, xi_m1, xe_ireturn, xk_getf, jx_gf_i, jx_ov_s, ak_V, xe_pop, jx_2_i, jx_2_l, jx_2_r, jx_2_n, jx_2_q, or_self, xi_0, xx_0, xe_istore, xi_25, xx_25, xe_icmp_ge, xi_10, xx_10, xi_5, xx_5, xe_idiv, xe_imul, xe_inv2, xe_irem, xe_inv0, xe_isub, xk_iast, ja_is, ak_S, ak_P, xk_iinc, ak_C, xi_1, xe_goto, xi_24, xx_24, xe_iflt, xe_icmp_ne, xi_m2, xx_1, jx_s1, List.set_cons_zero, List.set_cons_succ, jx_2_u, jx_2_s, jx_k_i, jx_k_l, jx_k_r, jx_k_n, jx_k_u, jx_k_s, jx_k_q, sw_r, sw_f, sw_s, sw_wo, sw_ro, sw_rp, sw_woo, sw_wor, sw_wpo, sw_wpr, cq_f, cq_s, va_up_s, va_rf_s, va_rf_n, sc_isPerson0]
theorem sc_rests1 {j l : Int32} (hq : ¬ ((0 ≤ i ∧ i < s 3) ∧ (0 ≤ j ∧ j < s 3) ∧ ¬ i = j ∧ (1 ≤ l.toInt64 ∧ l.toInt64 ≤ 20) ∧ 0 ≤ k.toInt64 ∧ k.toInt64 ≤ 2)) : jx_cr (d + 2) 39 [.ref 48, .int i, .int j, .int l, .int k] (sw h (some 49) F (s, a, w) p q z T x ru im tp R) = some (.inl (some (.int (-1))), (sw h (some 49) F (s, a, w) p q z T x ru im tp R)) := by
  by_cases q1 : 0 ≤ i ∧ i < s 3
  · by_cases q2 : 0 ≤ j ∧ j < s 3
    · by_cases q3 : i = j
      · subst q3
        simp only [cr_39, eb_39_0, eb_39_46, jx_ns_r, jx_ns_n, jx_ns_q, jx_ns_i, jx_gl_0, jx_gl_s, if_true, if_false, ite_true, ite_false, eq_self, Bool.false_eq_true, List.length_cons, List.length_nil, Nat.zero_le, Nat.reduceAdd, Nat.reduceSub, Nat.reduceLeDiff, Nat.reduceLT, Nat.reduceEqDiff, Int.reduceToNat, reduceIte, xe_aload, jx_rv_r, jx_rv_n, jx_rv_q, xk_iload, jx_iv_i, ak_I, xe_inv1, jx_cc_i, jx_cc_v, Nat.reduceMod, Nat.reduceDiv, jx_cl9_i, xe_ifeq, xe_icmp_eq, xe_i2l, xe_lconst, xl_1, xl_20, xe_sta3, xl_0, xl_2, xe_ifne, xe_goto_w, xe_iconst, xi_m1, xe_ireturn, xk_getf, jx_gf_i, jx_ov_s, ak_V, xe_pop, jx_2_i, jx_2_l, jx_2_r, jx_2_n, jx_2_q, or_self, xi_0, xx_0, xe_istore, xi_25, xx_25, xe_icmp_ge, xi_10, xx_10, xi_5, xx_5, xe_idiv, xe_imul, xe_inv2, xe_irem, xe_inv0, xe_isub, xk_iast, ja_is, ak_S, ak_P, xk_iinc, ak_C, xi_1, xe_goto, xi_24, xx_24, xe_iflt, xe_icmp_ne, xi_m2, xx_1, jx_s1, List.set_cons_zero, List.set_cons_succ, jx_2_u, jx_2_s, jx_k_i, jx_k_l, jx_k_r, jx_k_n, jx_k_u, jx_k_s, jx_k_q, sw_r, sw_f, sw_s, sw_wo, sw_ro, sw_rp, sw_woo, sw_wor, sw_wpo, sw_wpr, cq_f, cq_s, va_up_s, va_rf_s, va_rf_n, sc_isPerson1, q1, and_self, sp_10]
      · by_cases q4 : 1 ≤ l.toInt64 ∧ l.toInt64 ≤ 20
        · have q5 : ¬ (0 ≤ k.toInt64 ∧ k.toInt64 ≤ 2) := fun r => hq ⟨q1, q2, q3, q4, r⟩
          simp only [cr_39, eb_39_0, eb_39_46, jx_ns_r, jx_ns_n, jx_ns_q, jx_ns_i, jx_gl_0, jx_gl_s, if_true, if_false, ite_true, ite_false, eq_self, Bool.false_eq_true, List.length_cons, List.length_nil, Nat.zero_le, Nat.reduceAdd, Nat.reduceSub, Nat.reduceLeDiff, Nat.reduceLT, Nat.reduceEqDiff, Int.reduceToNat, reduceIte, xe_aload, jx_rv_r, jx_rv_n, jx_rv_q, xk_iload, jx_iv_i, ak_I, xe_inv1, jx_cc_i, jx_cc_v, Nat.reduceMod, Nat.reduceDiv, jx_cl9_i, xe_ifeq, xe_icmp_eq, xe_i2l, xe_lconst, xl_1, xl_20, xe_sta3, xl_0, xl_2, xe_ifne, xe_goto_w, xe_iconst, xi_m1, xe_ireturn, xk_getf, jx_gf_i, jx_ov_s, ak_V, xe_pop, jx_2_i, jx_2_l, jx_2_r, jx_2_n, jx_2_q, or_self, xi_0, xx_0, xe_istore, xi_25, xx_25, xe_icmp_ge, xi_10, xx_10, xi_5, xx_5, xe_idiv, xe_imul, xe_inv2, xe_irem, xe_inv0, xe_isub, xk_iast, ja_is, ak_S, ak_P, xk_iinc, ak_C, xi_1, xe_goto, xi_24, xx_24, xe_iflt, xe_icmp_ne, xi_m2, xx_1, jx_s1, List.set_cons_zero, List.set_cons_succ, jx_2_u, jx_2_s, jx_k_i, jx_k_l, jx_k_r, jx_k_n, jx_k_u, jx_k_s, jx_k_q, sw_r, sw_f, sw_s, sw_wo, sw_ro, sw_rp, sw_woo, sw_wor, sw_wpo, sw_wpr, cq_f, cq_s, va_up_s, va_rf_s, va_rf_n, sc_isPerson1, cq_inL, q1, q2, q3, q4, q5, and_self, sp_10]
        · simp only [cr_39, eb_39_0, eb_39_46, jx_ns_r, jx_ns_n, jx_ns_q, jx_ns_i, jx_gl_0, jx_gl_s, if_true, if_false, ite_true, ite_false, eq_self, Bool.false_eq_true, List.length_cons, List.length_nil, Nat.zero_le, Nat.reduceAdd, Nat.reduceSub, Nat.reduceLeDiff, Nat.reduceLT, Nat.reduceEqDiff, Int.reduceToNat, reduceIte, xe_aload, jx_rv_r, jx_rv_n, jx_rv_q, xk_iload, jx_iv_i, ak_I, xe_inv1, jx_cc_i, jx_cc_v, Nat.reduceMod, Nat.reduceDiv, jx_cl9_i, xe_ifeq, xe_icmp_eq, xe_i2l, xe_lconst, xl_1, xl_20, xe_sta3, xl_0, xl_2, xe_ifne, xe_goto_w, xe_iconst, xi_m1, xe_ireturn, xk_getf, jx_gf_i, jx_ov_s, ak_V, xe_pop, jx_2_i, jx_2_l, jx_2_r, jx_2_n, jx_2_q, or_self, xi_0, xx_0, xe_istore, xi_25, xx_25, xe_icmp_ge, xi_10, xx_10, xi_5, xx_5, xe_idiv, xe_imul, xe_inv2, xe_irem, xe_inv0, xe_isub, xk_iast, ja_is, ak_S, ak_P, xk_iinc, ak_C, xi_1, xe_goto, xi_24, xx_24, xe_iflt, xe_icmp_ne, xi_m2, xx_1, jx_s1, List.set_cons_zero, List.set_cons_succ, jx_2_u, jx_2_s, jx_k_i, jx_k_l, jx_k_r, jx_k_n, jx_k_u, jx_k_s, jx_k_q, sw_r, sw_f, sw_s, sw_wo, sw_ro, sw_rp, sw_woo, sw_wor, sw_wpo, sw_wpr, cq_f, cq_s, va_up_s, va_rf_s, va_rf_n, sc_isPerson1, cq_inL, q1, q2, q3, q4, and_self, sp_10]
    · simp only [cr_39, eb_39_0, eb_39_46, jx_ns_r, jx_ns_n, jx_ns_q, jx_ns_i, jx_gl_0, jx_gl_s, if_true, if_false, ite_true, ite_false, eq_self, Bool.false_eq_true, List.length_cons, List.length_nil, Nat.zero_le, Nat.reduceAdd, Nat.reduceSub, Nat.reduceLeDiff, Nat.reduceLT, Nat.reduceEqDiff, Int.reduceToNat, reduceIte, xe_aload, jx_rv_r, jx_rv_n, jx_rv_q, xk_iload, jx_iv_i, ak_I, xe_inv1, jx_cc_i, jx_cc_v, Nat.reduceMod, Nat.reduceDiv, jx_cl9_i, xe_ifeq, xe_icmp_eq, xe_i2l, xe_lconst, xl_1, xl_20, xe_sta3, xl_0, xl_2, xe_ifne, xe_goto_w, xe_iconst, xi_m1, xe_ireturn, xk_getf, jx_gf_i, jx_ov_s, ak_V, xe_pop, jx_2_i, jx_2_l, jx_2_r, jx_2_n, jx_2_q, or_self, xi_0, xx_0, xe_istore, xi_25, xx_25, xe_icmp_ge, xi_10, xx_10, xi_5, xx_5, xe_idiv, xe_imul, xe_inv2, xe_irem, xe_inv0, xe_isub, xk_iast, ja_is, ak_S, ak_P, xk_iinc, ak_C, xi_1, xe_goto, xi_24, xx_24, xe_iflt, xe_icmp_ne, xi_m2, xx_1, jx_s1, List.set_cons_zero, List.set_cons_succ, jx_2_u, jx_2_s, jx_k_i, jx_k_l, jx_k_r, jx_k_n, jx_k_u, jx_k_s, jx_k_q, sw_r, sw_f, sw_s, sw_wo, sw_ro, sw_rp, sw_woo, sw_wor, sw_wpo, sw_wpr, cq_f, cq_s, va_up_s, va_rf_s, va_rf_n, sc_isPerson1, q1, q2, and_self, sp_10]
  · simp only [cr_39, eb_39_0, eb_39_46, jx_ns_r, jx_ns_n, jx_ns_q, jx_ns_i, jx_gl_0, jx_gl_s, if_true, if_false, ite_true, ite_false, eq_self, Bool.false_eq_true, List.length_cons, List.length_nil, Nat.zero_le, Nat.reduceAdd, Nat.reduceSub, Nat.reduceLeDiff, Nat.reduceLT, Nat.reduceEqDiff, Int.reduceToNat, reduceIte, xe_aload, jx_rv_r, jx_rv_n, jx_rv_q, xk_iload, jx_iv_i, ak_I, xe_inv1, jx_cc_i, jx_cc_v, Nat.reduceMod, Nat.reduceDiv, jx_cl9_i, xe_ifeq, xe_icmp_eq, xe_i2l, xe_lconst, xl_1, xl_20, xe_sta3, xl_0, xl_2, xe_ifne, xe_goto_w, xe_iconst, xi_m1, xe_ireturn, xk_getf, jx_gf_i, jx_ov_s, ak_V, xe_pop, jx_2_i, jx_2_l, jx_2_r, jx_2_n, jx_2_q, or_self, xi_0, xx_0, xe_istore, xi_25, xx_25, xe_icmp_ge, xi_10, xx_10, xi_5, xx_5, xe_idiv, xe_imul, xe_inv2, xe_irem, xe_inv0, xe_isub, xk_iast, ja_is, ak_S, ak_P, xk_iinc, ak_C, xi_1, xe_goto, xi_24, xx_24, xe_iflt, xe_icmp_ne, xi_m2, xx_1, jx_s1, List.set_cons_zero, List.set_cons_succ, jx_2_u, jx_2_s, jx_k_i, jx_k_l, jx_k_r, jx_k_n, jx_k_u, jx_k_s, jx_k_q, sw_r, sw_f, sw_s, sw_wo, sw_ro, sw_rp, sw_woo, sw_wor, sw_wpo, sw_wpr, cq_f, cq_s, va_up_s, va_rf_s, va_rf_n, sc_isPerson1, q1]
/-- the rows of ranks, m laid -/
theorem sp_rests (iv : cq_iv s a day tm pm now) (hn : now ≤ 999) (ht : t < pm) (hu : u < pm) (h20 : n ≤ 20) (hlo : sp_lo F ru lo) (hL : sp_lw (D + 2) h lo Lo) (hb : sp_bs tm pm day s ps a pa) :
    ∃ g : cq_C, jx_eb (d + D + 6) 39 63 [.ref 48, .int (nI t), .int (nI u), .int (nI n), .int k, .int (nI 0), jx_un, jx_un] [] (sw h (some 49) F (s, a, w) (ps, pa, pw) q z T x ru im tp R) = jx_eb (d + D + 6) 39 171 [.ref 48, .int (nI t), .int (nI u), .int (nI n), .int k, .int (nI 25), jx_un, jx_un] [] (sw h (some 49) F (s, a, w) g q z T x ru im tp (va_up (va_up R 0 (cq_fl 25 (sp_rf Lo s a tm t u n) (R 0))) 1 (cq_fl 25 (sp_rg2 Lo s a tm t u n) (R 1)))) := by
  have t6 := iv.2.2.2.2.1; have p6 := iv.2.2.2.2.2.2.1; have es := iv.2.2.2.2.2.1; have et := iv.2.2.2.1; have d12 := iv.2.2.1; have d1 := iv.2.1
  have key := jx_lp (d := d + D + 6) (y := 39) (L := 63) (n := 25) (γ := cq_C) (ls := fun m _ => [.ref 48, .int (nI t), .int (nI u), .int (nI n), .int k, .int (nI m), jx_un, jx_un]) (H := fun m g => sw h (some 49) F (s, a, w) g q z T x ru im tp (va_up (va_up R 0 (cq_fl m (sp_rf Lo s a tm t u n) (R 0))) 1 (cq_fl m (sp_rg2 Lo s a tm t u n) (R 1))))
    (I := fun m g => sp_bs tm pm day s g.1 a g.2.1)
    (G := fun r => ∃ g : cq_C, r = jx_eb (d + D + 6) 39 171 [.ref 48, .int (nI t), .int (nI u), .int (nI n), .int k, .int (nI 25), jx_un, jx_un] [] (sw h (some 49) F (s, a, w) g q z T x ru im tp (va_up (va_up R 0 (cq_fl 25 (sp_rf Lo s a tm t u n) (R 0))) 1 (cq_fl 25 (sp_rg2 Lo s a tm t u n) (R 1))))) ?_ ?_ 25 0 (ps, pa, pw) (by omega) hb
  · obtain ⟨g, e⟩ := key
    refine ⟨g, Eq.trans ?_ e⟩
    have eR : va_up (va_up R 0 (cq_fl 0 (sp_rf Lo s a tm t u n) (R 0))) 1 (cq_fl 0 (sp_rg2 Lo s a tm t u n) (R 1)) = R := by
      funext j
      simp only [va_up, cq_fl_0]
      by_cases j1 : j = 1
      · subst j1; rfl
      · by_cases j0 : j = 0
        · subst j0; rfl
        · rw [if_neg j1, if_neg j0]
    rw [eR]
  · rintro m ⟨ps, pa, pw⟩ hm hb
    have h3 : ¬ (25 : Int32) ≤ nI m := nI_ge (a := m) (b := 25) hm (by omega)
    have ixm := sp_ix hm (by decide)
    have d5 := sp_d5 hm
    have ce := cq_eq_tk (k := nI (10 * (m % 5))) (cq_eq_tk (k := nI (10 * (m / 5))) (sp_bs_e t6 p6 hb) ht) hu
    have iv2 := cq_iv_c (cq_iv_tk (t := u) (k := nI (10 * (m % 5))) (cq_iv_tk (t := t) (k := nI (10 * (m / 5))) iv)) ce
    have gc := cq_gn_c (n := n) (Lo := Lo) (cq_iv_tk (t := u) (k := nI (10 * (m % 5))) (cq_iv_tk (t := t) (k := nI (10 * (m / 5))) iv)) (by omega) ce
    obtain ⟨w1, e1⟩ := sp_goesOn (d := d) (n := n) (cu := some 49) (F := F) (o := (s, a, w)) (q := q) (z := z) (T := T) (x := x) (ru := ru) (im := im) (tp := tp) (R := (va_up (va_up R 0 (cq_fl m (sp_rf Lo s a tm t u n) (R 0))) 1 (cq_fl m (sp_rg2 Lo s a tm t u n) (R 1)))) (pw := pw) iv2 (by omega) hL
    generalize eG : cq_gn Lo n (sp_ss s ps, sp_tk (sp_tk (sp_sa a pa) t (nI (10 * (m / 5)))) u (nI (10 * (m % 5)))) = G1 at e1 gc
    have hbG : sp_bs tm pm day s G1.1 a G1.2 := by
      rw [← eG]
      exact sp_bs_gn (sp_bs_tk (sp_bs_tk (sp_bs_ss hb)))
    have e2 : G1.1 2 = nI tm := (hbG.1 2 (by omega)).symm.trans et
    have er : ∀ v, v < pm → cq_rk (G1.2 8 v) (G1.2 0) tm = sp_rs1 Lo s a tm t u n v m := by
      intro v hv
      rw [sp_rs1, (gc.2.2.2 v hv).2.2.2.1]
      exact (cq_rk_c (fun j hj => (hbG.2.1 j hj).1)).symm
    have e3 := er t ht
    have e4 := er u hu
    refine .inr ⟨(G1.1, G1.2, w1), hbG, ?_⟩
    have eR : ∀ f g : Nat → Int32, va_up (va_up (va_up (va_up R 0 (cq_fl m (sp_rf Lo s a tm t u n) (R 0))) 1 (cq_fl m (sp_rg2 Lo s a tm t u n) (R 1))) 0 f) 1 g = va_up (va_up R 0 f) 1 g := by
      intro f g
      funext j
      simp only [va_up]
      by_cases j1 : j = 1
      · rw [if_pos j1, if_pos j1]
      · rw [if_neg j1, if_neg j1]
        by_cases j0 : j = 0
        · rw [if_pos j0, if_neg j1, if_pos j0]
        · rw [if_neg j0, if_neg j1, if_neg j0, if_neg j0]
    have eF : upd (cq_fl m (sp_rf Lo s a tm t u n) (R 0)) m (sp_rs1 Lo s a tm t u n t m - nI (m / 5)) = cq_fl (m + 1) (sp_rf Lo s a tm t u n) (R 0) := cq_fl_s
    have eH : upd (cq_fl m (sp_rg2 Lo s a tm t u n) (R 1)) m (sp_rs1 Lo s a tm t u n u m - nI (m % 5)) = cq_fl (m + 1) (sp_rg2 Lo s a tm t u n) (R 1) := cq_fl_s
    rw [eb_39_63]
    simp only [jx_ns_r, jx_ns_n, jx_ns_q, jx_ns_i, jx_gl_0, jx_gl_s, if_true, if_false, ite_true, ite_false, eq_self, Bool.false_eq_true, List.length_cons, List.length_nil, Nat.zero_le, Nat.reduceAdd, Nat.reduceSub, Nat.reduceLeDiff, Nat.reduceLT, Nat.reduceEqDiff, Int.reduceToNat, reduceIte, xe_aload, jx_rv_r, jx_rv_n, jx_rv_q, xk_iload, jx_iv_i, ak_I, xe_inv1, jx_cc_i, jx_cc_v, Nat.reduceMod, Nat.reduceDiv, jx_cl9_i, xe_ifeq, xe_icmp_eq, xe_i2l, xe_lconst, xl_1, xl_20, xe_sta3, xl_0, xl_2, xe_ifne, xe_goto_w, xe_iconst, xi_m1, xe_ireturn, xk_getf, jx_gf_i, jx_ov_s, ak_V, xe_pop, jx_2_i, jx_2_l, jx_2_r, jx_2_n, jx_2_q, or_self, xi_0, xx_0, xe_istore, xi_25, xx_25, xe_icmp_ge, xi_10, xx_10, xi_5, xx_5, xe_idiv, xe_imul, xe_inv2, xe_irem, xe_inv0, xe_isub, xk_iast, ja_is, ak_S, ak_P, xk_iinc, ak_C, xi_1, xe_goto, xi_24, xx_24, xe_iflt, xe_icmp_ne, xi_m2, xx_1, jx_s1, List.set_cons_zero, List.set_cons_succ, jx_2_u, jx_2_s, jx_k_i, jx_k_l, jx_k_r, jx_k_n, jx_k_u, jx_k_s, jx_k_q, sw_r, sw_f, sw_s, sw_wo, sw_ro, sw_rp, sw_woo, sw_wor, sw_wpo, sw_wpr, cq_f, cq_s, va_up_s, va_rf_s, va_rf_n, sw_wR, h3, ixm, d5, sp_50, sp_m10, sp_stand, sp_thanked (show t < 6 by omega), sp_thanked (show u < 6 by omega), sc_law hlo, e1, sp_rankOf (show t < 6 by omega) t6 e2, sp_rankOf (show u < 6 by omega) t6 e2, e3, e4, eF, eH, eR, nI_1]
  · rintro ⟨ps, pa, pw⟩ hb
    have h3 : (25 : Int32) ≤ nI 25 := by decide
    exact ⟨(ps, pa, pw), by simp only [eb_39_63, jx_ns_r, jx_ns_n, jx_ns_q, jx_ns_i, jx_gl_0, jx_gl_s, if_true, if_false, ite_true, ite_false, eq_self, Bool.false_eq_true, List.length_cons, List.length_nil, Nat.zero_le, Nat.reduceAdd, Nat.reduceSub, Nat.reduceLeDiff, Nat.reduceLT, Nat.reduceEqDiff, Int.reduceToNat, reduceIte, xe_aload, jx_rv_r, jx_rv_n, jx_rv_q, xk_iload, jx_iv_i, ak_I, xe_inv1, jx_cc_i, jx_cc_v, Nat.reduceMod, Nat.reduceDiv, jx_cl9_i, xe_ifeq, xe_icmp_eq, xe_i2l, xe_lconst, xl_1, xl_20, xe_sta3, xl_0, xl_2, xe_ifne, xe_goto_w, xe_iconst, xi_m1, xe_ireturn, xk_getf, jx_gf_i, jx_ov_s, ak_V, xe_pop, jx_2_i, jx_2_l, jx_2_r, jx_2_n, jx_2_q, or_self, xi_0, xx_0, xe_istore, xi_25, xx_25, xe_icmp_ge, xi_10, xx_10, xi_5, xx_5, xe_idiv, xe_imul, xe_inv2, xe_irem, xe_inv0, xe_isub, xk_iast, ja_is, ak_S, ak_P, xk_iinc, ak_C, xi_1, xe_goto, xi_24, xx_24, xe_iflt, xe_icmp_ne, xi_m2, xx_1, jx_s1, List.set_cons_zero, List.set_cons_succ, jx_2_u, jx_2_s, jx_k_i, jx_k_l, jx_k_r, jx_k_n, jx_k_u, jx_k_s, jx_k_q, h3]⟩
theorem sp_rests2 (f g : Nat → Int32) : jx_eb (d + 2) 39 171 [.ref 48, .int (nI t), .int (nI u), .int (nI n), .int k, .int (nI 25), jx_un, jx_un] [] (sw h cu F o p q z T x ru im tp (va_up (va_up R 0 (cq_fl 25 f (R 0))) 1 (cq_fl 25 g (R 1)))) = some (.inl (some (.int (sp_rsv (sp_rsb f g) k))), (sw h cu F o p q z T x ru im tp (va_up (va_up R 0 (cq_fl 25 f (R 0))) 1 (cq_fl 25 g (R 1))))) := by
  generalize eR : (va_up (va_up R 0 (cq_fl 25 f (R 0))) 1 (cq_fl 25 g (R 1))) = R'
  have hr : ∀ c, c < 25 → (sp_rst (R' 0) (R' 1) (c / 5) (c % 5) ↔ sp_rsb f g c = true) := by
    intro c hc
    have f0 : ∀ j, j < 25 → R' 0 j = f j := fun j hj => by rw [← eR]; exact cq_fl_lt hj
    have g0 : ∀ j, j < 25 → R' 1 j = g j := fun j hj => by rw [← eR]; exact cq_fl_lt hj
    have : sp_rst (R' 0) (R' 1) (c / 5) (c % 5) ↔ sp_rst f g (c / 5) (c % 5) := by
      simp only [sp_rst]
      refine forall_congr' fun k => forall_congr' fun hk => ?_
      rw [f0 _ (by omega), f0 _ (by omega), g0 _ (by omega), g0 _ (by omega)]
    rw [this]
    simp only [sp_rsb, decide_eq_true_eq]
  generalize sp_rsb f g = P at hr
  have key := jx_lp (d := d + 2) (y := 39) (L := 181) (n := 25) (γ := Unit) (ls := fun m _ => [.ref 48, .int (nI t), .int (nI u), .int (nI n), .int k, .int (ct P m (25 - m)), .int (match fd P m (25 - m) with | none => -1 | some c => nI c), .int (nI 24 - nI m)]) (H := fun _ _ => sw h cu F o p q z T x ru im tp R')
    (I := fun _ _ => True)
    (G := fun r => r = some (.inl (some (.int (sp_rsv P k))), sw h cu F o p q z T x ru im tp R')) ?_ ?_ 25 0 () (by omega) trivial
  · have e0 : nI 24 - nI 0 = 24 := by decide
    simp only [ct, fd, e0] at key
    simp only [eb_39_171, jx_ns_r, jx_ns_n, jx_ns_q, jx_ns_i, jx_gl_0, jx_gl_s, if_true, if_false, ite_true, ite_false, eq_self, Bool.false_eq_true, List.length_cons, List.length_nil, Nat.zero_le, Nat.reduceAdd, Nat.reduceSub, Nat.reduceLeDiff, Nat.reduceLT, Nat.reduceEqDiff, Int.reduceToNat, reduceIte, xe_aload, jx_rv_r, jx_rv_n, jx_rv_q, xk_iload, jx_iv_i, ak_I, xe_inv1, jx_cc_i, jx_cc_v, Nat.reduceMod, Nat.reduceDiv, jx_cl9_i, xe_ifeq, xe_icmp_eq, xe_i2l, xe_lconst, xl_1, xl_20, xe_sta3, xl_0, xl_2, xe_ifne, xe_goto_w, xe_iconst, xi_m1, xe_ireturn, xk_getf, jx_gf_i, jx_ov_s, ak_V, xe_pop, jx_2_i, jx_2_l, jx_2_r, jx_2_n, jx_2_q, or_self, xi_0, xx_0, xe_istore, xi_25, xx_25, xe_icmp_ge, xi_10, xx_10, xi_5, xx_5, xe_idiv, xe_imul, xe_inv2, xe_irem, xe_inv0, xe_isub, xk_iast, ja_is, ak_S, ak_P, xk_iinc, ak_C, xi_1, xe_goto, xi_24, xx_24, xe_iflt, xe_icmp_ne, xi_m2, xx_1, jx_s1, List.set_cons_zero, List.set_cons_succ, jx_2_u, jx_2_s, jx_k_i, jx_k_l, jx_k_r, jx_k_n, jx_k_u, jx_k_s, jx_k_q]
    exact key
  · intro m _ hm _
    have em : nI 24 - nI m = nI (24 - m) := pk_sub (by omega)
    have em1 : nI (24 - m) + (-1) = nI 24 - nI (m + 1) := dn_s (by omega)
    have h3 : ¬ nI (24 - m) < 0 := nI_pos (by omega)
    have d5 := sp_d5 (show 24 - m < 25 by omega)
    have hi := fun (d : Nat) => sp_isRest (d := d) (h := h) (cu := cu) (F := F) (o := o) (p := p) (q := q) (z := z) (T := T) (x := x) (ru := ru) (im := im) (tp := tp) (R := R') (u := (24 - m) / 5) (v := (24 - m) % 5) (by omega) (by omega)
    have hr := hr (24 - m) (by omega)
    refine .inr ⟨(), trivial, ?_⟩
    rw [em, show 25 - m = (24 - m) + 1 by omega, show 25 - (m + 1) = 24 - m by omega, eb_39_181]
    by_cases r : P (24 - m) = true
    · have hi := fun d => (hi d).trans (by rw [sp_bl_t (hr.mpr r)])
      simp only [eb_39_204, eb_39_211, jx_ns_r, jx_ns_n, jx_ns_q, jx_ns_i, jx_gl_0, jx_gl_s, if_true, if_false, ite_true, ite_false, eq_self, Bool.false_eq_true, List.length_cons, List.length_nil, Nat.zero_le, Nat.reduceAdd, Nat.reduceSub, Nat.reduceLeDiff, Nat.reduceLT, Nat.reduceEqDiff, Int.reduceToNat, reduceIte, xe_aload, jx_rv_r, jx_rv_n, jx_rv_q, xk_iload, jx_iv_i, ak_I, xe_inv1, jx_cc_i, jx_cc_v, Nat.reduceMod, Nat.reduceDiv, jx_cl9_i, xe_ifeq, xe_icmp_eq, xe_i2l, xe_lconst, xl_1, xl_20, xe_sta3, xl_0, xl_2, xe_ifne, xe_goto_w, xe_iconst, xi_m1, xe_ireturn, xk_getf, jx_gf_i, jx_ov_s, ak_V, xe_pop, jx_2_i, jx_2_l, jx_2_r, jx_2_n, jx_2_q, or_self, xi_0, xx_0, xe_istore, xi_25, xx_25, xe_icmp_ge, xi_10, xx_10, xi_5, xx_5, xe_idiv, xe_imul, xe_inv2, xe_irem, xe_inv0, xe_isub, xk_iast, ja_is, ak_S, ak_P, xk_iinc, ak_C, xi_1, xe_goto, xi_24, xx_24, xe_iflt, xe_icmp_ne, xi_m2, xx_1, jx_s1, List.set_cons_zero, List.set_cons_succ, jx_2_u, jx_2_s, jx_k_i, jx_k_l, jx_k_r, jx_k_n, jx_k_u, jx_k_s, jx_k_q, h3, d5, sp_50, sw_r, sw_f, sw_s, sw_wo, sw_ro, sw_rp, sw_woo, sw_wor, sw_wpo, sw_wpr, cq_f, cq_s, va_up_s, va_rf_s, va_rf_n, hi, sp_10, em1, ct, fd, r, xi_1]
    · have hi := fun d => (hi d).trans (by rw [sp_bl_f (fun c => r (hr.mp c))])
      have a0 : ∀ y : Int32, y + 0 = y := Int32.add_zero
      simp only [eb_39_211, jx_ns_r, jx_ns_n, jx_ns_q, jx_ns_i, jx_gl_0, jx_gl_s, if_true, if_false, ite_true, ite_false, eq_self, Bool.false_eq_true, List.length_cons, List.length_nil, Nat.zero_le, Nat.reduceAdd, Nat.reduceSub, Nat.reduceLeDiff, Nat.reduceLT, Nat.reduceEqDiff, Int.reduceToNat, reduceIte, xe_aload, jx_rv_r, jx_rv_n, jx_rv_q, xk_iload, jx_iv_i, ak_I, xe_inv1, jx_cc_i, jx_cc_v, Nat.reduceMod, Nat.reduceDiv, jx_cl9_i, xe_ifeq, xe_icmp_eq, xe_i2l, xe_lconst, xl_1, xl_20, xe_sta3, xl_0, xl_2, xe_ifne, xe_goto_w, xe_iconst, xi_m1, xe_ireturn, xk_getf, jx_gf_i, jx_ov_s, ak_V, xe_pop, jx_2_i, jx_2_l, jx_2_r, jx_2_n, jx_2_q, or_self, xi_0, xx_0, xe_istore, xi_25, xx_25, xe_icmp_ge, xi_10, xx_10, xi_5, xx_5, xe_idiv, xe_imul, xe_inv2, xe_irem, xe_inv0, xe_isub, xk_iast, ja_is, ak_S, ak_P, xk_iinc, ak_C, xi_1, xe_goto, xi_24, xx_24, xe_iflt, xe_icmp_ne, xi_m2, xx_1, jx_s1, List.set_cons_zero, List.set_cons_succ, jx_2_u, jx_2_s, jx_k_i, jx_k_l, jx_k_r, jx_k_n, jx_k_u, jx_k_s, jx_k_q, h3, d5, sp_50, sw_r, sw_f, sw_s, sw_wo, sw_ro, sw_rp, sw_woo, sw_wor, sw_wpo, sw_wpr, cq_f, cq_s, va_up_s, va_rf_s, va_rf_n, hi, em1, ct, fd, r, a0]
  · intro _ _
    have e9 : nI 24 - nI 25 = -1 := by decide
    have h9 : (-1 : Int32) < 0 := by decide
    rw [e9]
    by_cases r : k = 0
    · simp only [eb_39_181, eb_39_217, jx_ns_r, jx_ns_n, jx_ns_q, jx_ns_i, jx_gl_0, jx_gl_s, if_true, if_false, ite_true, ite_false, eq_self, Bool.false_eq_true, List.length_cons, List.length_nil, Nat.zero_le, Nat.reduceAdd, Nat.reduceSub, Nat.reduceLeDiff, Nat.reduceLT, Nat.reduceEqDiff, Int.reduceToNat, reduceIte, xe_aload, jx_rv_r, jx_rv_n, jx_rv_q, xk_iload, jx_iv_i, ak_I, xe_inv1, jx_cc_i, jx_cc_v, Nat.reduceMod, Nat.reduceDiv, jx_cl9_i, xe_ifeq, xe_icmp_eq, xe_i2l, xe_lconst, xl_1, xl_20, xe_sta3, xl_0, xl_2, xe_ifne, xe_goto_w, xe_iconst, xi_m1, xe_ireturn, xk_getf, jx_gf_i, jx_ov_s, ak_V, xe_pop, jx_2_i, jx_2_l, jx_2_r, jx_2_n, jx_2_q, or_self, xi_0, xx_0, xe_istore, xi_25, xx_25, xe_icmp_ge, xi_10, xx_10, xi_5, xx_5, xe_idiv, xe_imul, xe_inv2, xe_irem, xe_inv0, xe_isub, xk_iast, ja_is, ak_S, ak_P, xk_iinc, ak_C, xi_1, xe_goto, xi_24, xx_24, xe_iflt, xe_icmp_ne, xi_m2, xx_1, jx_s1, List.set_cons_zero, List.set_cons_succ, jx_2_u, jx_2_s, jx_k_i, jx_k_l, jx_k_r, jx_k_n, jx_k_u, jx_k_s, jx_k_q, h9, r, sp_rsv, Nat.sub_self]
    · rw [show 25 - 25 = 0 from rfl, sp_rsv, if_neg r]
      cases ef : fd P 25 0 with
      | none => simp only [eb_39_181, eb_39_217, eb_39_225, eb_39_259, jx_ns_r, jx_ns_n, jx_ns_q, jx_ns_i, jx_gl_0, jx_gl_s, if_true, if_false, ite_true, ite_false, eq_self, Bool.false_eq_true, List.length_cons, List.length_nil, Nat.zero_le, Nat.reduceAdd, Nat.reduceSub, Nat.reduceLeDiff, Nat.reduceLT, Nat.reduceEqDiff, Int.reduceToNat, reduceIte, xe_aload, jx_rv_r, jx_rv_n, jx_rv_q, xk_iload, jx_iv_i, ak_I, xe_inv1, jx_cc_i, jx_cc_v, Nat.reduceMod, Nat.reduceDiv, jx_cl9_i, xe_ifeq, xe_icmp_eq, xe_i2l, xe_lconst, xl_1, xl_20, xe_sta3, xl_0, xl_2, xe_ifne, xe_goto_w, xe_iconst, xi_m1, xe_ireturn, xk_getf, jx_gf_i, jx_ov_s, ak_V, xe_pop, jx_2_i, jx_2_l, jx_2_r, jx_2_n, jx_2_q, or_self, xi_0, xx_0, xe_istore, xi_25, xx_25, xe_icmp_ge, xi_10, xx_10, xi_5, xx_5, xe_idiv, xe_imul, xe_inv2, xe_irem, xe_inv0, xe_isub, xk_iast, ja_is, ak_S, ak_P, xk_iinc, ak_C, xi_1, xe_goto, xi_24, xx_24, xe_iflt, xe_icmp_ne, xi_m2, xx_1, jx_s1, List.set_cons_zero, List.set_cons_succ, jx_2_u, jx_2_s, jx_k_i, jx_k_l, jx_k_r, jx_k_n, jx_k_u, jx_k_s, jx_k_q, h9, r]
      | some c =>
        have hc : c < 25 := by
          have : ∀ m i c, fd P m i = some c → c < i + m := by
            intro m
            induction m with
            | zero => intro i c e; cases e
            | succ m ih =>
              intro i c e
              rw [fd] at e
              split at e
              · cases e; omega
              · have := ih _ _ e; omega
          have := this _ _ _ ef; omega
        have d5 := sp_d5 hc
        have n1 : ¬ nI c = -1 := by
          intro e
          have := congrArg Int32.toInt e
          rw [nI_toInt (by omega)] at this
          have h2 : (-1 : Int32).toInt = -1 := rfl
          omega
        by_cases r1 : k = 1 <;> simp only [eb_39_181, eb_39_217, eb_39_225, eb_39_236, eb_39_252, eb_39_259, jx_ns_r, jx_ns_n, jx_ns_q, jx_ns_i, jx_gl_0, jx_gl_s, if_true, if_false, ite_true, ite_false, eq_self, Bool.false_eq_true, List.length_cons, List.length_nil, Nat.zero_le, Nat.reduceAdd, Nat.reduceSub, Nat.reduceLeDiff, Nat.reduceLT, Nat.reduceEqDiff, Int.reduceToNat, reduceIte, xe_aload, jx_rv_r, jx_rv_n, jx_rv_q, xk_iload, jx_iv_i, ak_I, xe_inv1, jx_cc_i, jx_cc_v, Nat.reduceMod, Nat.reduceDiv, jx_cl9_i, xe_ifeq, xe_icmp_eq, xe_i2l, xe_lconst, xl_1, xl_20, xe_sta3, xl_0, xl_2, xe_ifne, xe_goto_w, xe_iconst, xi_m1, xe_ireturn, xk_getf, jx_gf_i, jx_ov_s, ak_V, xe_pop, jx_2_i, jx_2_l, jx_2_r, jx_2_n, jx_2_q, or_self, xi_0, xx_0, xe_istore, xi_25, xx_25, xe_icmp_ge, xi_10, xx_10, xi_5, xx_5, xe_idiv, xe_imul, xe_inv2, xe_irem, xe_inv0, xe_isub, xk_iast, ja_is, ak_S, ak_P, xk_iinc, ak_C, xi_1, xe_goto, xi_24, xx_24, xe_iflt, xe_icmp_ne, xi_m2, xx_1, jx_s1, List.set_cons_zero, List.set_cons_succ, jx_2_u, jx_2_s, jx_k_i, jx_k_l, jx_k_r, jx_k_n, jx_k_u, jx_k_s, jx_k_q, h9, r, r1, n1, d5, sp_50, sp_10, sp_m10]
theorem sc_rests (iv : cq_iv s a day tm pm now) (hn : now ≤ 999) (ht : t < pm) (hu : u < pm) (hne : ¬ t = u) (h1n : 1 ≤ n) (h20 : n ≤ 20) (hk : 0 ≤ k.toInt64 ∧ k.toInt64 ≤ 2) (hlo : sp_lo F ru lo) (hL : sp_lw (D + 2) h lo Lo) :
    ∃ p' R', jx_cr (d + D + 7) 39 [.ref 48, .int (nI t), .int (nI u), .int (nI n), .int k] (sw h (some 49) F (s, a, w) (ps, pa, pw) q z T x ru im tp R) = some (.inl (some (.int (sp_rsv (sp_rsb (sp_rf Lo s a tm t u n) (sp_rg2 Lo s a tm t u n)) k))), sw h (some 49) F (s, a, w) p' q z T x ru im tp R') := by
  have t6 := iv.2.2.2.2.1; have p6 := iv.2.2.2.2.2.2.1; have es := iv.2.2.2.2.2.1; have et := iv.2.2.2.1; have d12 := iv.2.2.1; have d1 := iv.2.1
  have hpe := sp_q ht (by omega) es
  have hpu := sp_q hu (by omega) es
  have hq1 : 1 ≤ (nI n).toInt64 ∧ (nI n).toInt64 ≤ 20 := sp_rg (a := 1) (b := 20) h1n h20 (by omega)
  have hne' : ¬ nI t = nI u := fun r => hne ((nI_eq (by omega) (by omega)).mp r)
  obtain ⟨g, e⟩ := sp_rests (d := d) (F := F) (w := w) (q := q) (z := z) (T := T) (x := x) (im := im) (tp := tp) (R := R) (pw := pw) (k := k) iv hn ht hu h20 hlo hL (sp_bs_cp (g := pa) t6 p6 d12)
  rw [sp_rests2 (d := d + D + 4)] at e
  refine ⟨g, (va_up (va_up R 0 (cq_fl 25 (sp_rf Lo s a tm t u n) (R 0))) 1 (cq_fl 25 (sp_rg2 Lo s a tm t u n) (R 1))), ?_⟩
  rw [nI_0] at e
  simp only [cr_39, eb_39_0, eb_39_48, jx_ns_r, jx_ns_n, jx_ns_q, jx_ns_i, jx_gl_0, jx_gl_s, if_true, if_false, ite_true, ite_false, eq_self, Bool.false_eq_true, List.length_cons, List.length_nil, Nat.zero_le, Nat.reduceAdd, Nat.reduceSub, Nat.reduceLeDiff, Nat.reduceLT, Nat.reduceEqDiff, Int.reduceToNat, reduceIte, xe_aload, jx_rv_r, jx_rv_n, jx_rv_q, xk_iload, jx_iv_i, ak_I, xe_inv1, jx_cc_i, jx_cc_v, Nat.reduceMod, Nat.reduceDiv, jx_cl9_i, xe_ifeq, xe_icmp_eq, xe_i2l, xe_lconst, xl_1, xl_20, xe_sta3, xl_0, xl_2, xe_ifne, xe_goto_w, xe_iconst, xi_m1, xe_ireturn, xk_getf, jx_gf_i, jx_ov_s, ak_V, xe_pop, jx_2_i, jx_2_l, jx_2_r, jx_2_n, jx_2_q, or_self, xi_0, xx_0, xe_istore, xi_25, xx_25, xe_icmp_ge, xi_10, xx_10, xi_5, xx_5, xe_idiv, xe_imul, xe_inv2, xe_irem, xe_inv0, xe_isub, xk_iast, ja_is, ak_S, ak_P, xk_iinc, ak_C, xi_1, xe_goto, xi_24, xx_24, xe_iflt, xe_icmp_ne, xi_m2, xx_1, jx_s1, List.set_cons_zero, List.set_cons_succ, jx_2_u, jx_2_s, jx_k_i, jx_k_l, jx_k_r, jx_k_n, jx_k_u, jx_k_s, jx_k_q, sw_r, sw_f, sw_s, sw_wo, sw_ro, sw_rp, sw_woo, sw_wor, sw_wpo, sw_wpr, cq_f, cq_s, va_up_s, va_rf_s, va_rf_n, sc_isPerson1, cq_inL, hpe, hpu, hne', hq1, hk, and_self, sp_10, sp_copy]
  exact e
end SR9
