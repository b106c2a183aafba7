/-! SpoonCourt: areAlike, ring, note -/
set_option maxRecDepth 100000
def sp_alk (f : Nat → Int32) (u v : Nat) : Prop := ∀ k, k < 6 → f (u + k) = f (v + k)
noncomputable def sp_alb (f : Nat → Int32) (u v : Nat) : Bool := @decide (sp_alk f u v) (Classical.propDecidable _)
/-- by hours from now what he holds -/
def sp_hd (Lo : Option ((Nat → Int64) → Int64)) (y : (Nat → Int32) × (Nat → Nat → Int32)) (k : Nat) : Int32 := (cq_gn Lo (k + 1) y).1 8
noncomputable def sp_rng (f : Nat → Int32) (s7 k : Int32) : Nat → Nat → Int32
  | 0, _ => -2
  | m + 1, u => match fd (sp_alb f u) (60 - u) (u + 1) with
    | some v => if k = 0 then s7 + nI u else nI v - nI u
    | none => sp_rng f s7 k m (u + 1)
section SS
variable {d : Nat} {h : jx_H} {cu : Option Nat} {F : Nat → Int32} {o p q z : cq_C} {T : List Value} {x : Int32 × Int32} {ru im : Nat → Option Nat} {tp : Nat → Int32} {R : Nat → Nat → Int32} {s : Nat → Int32} {a : Nat → Nat → Int32} {w : Nat → Int64}
variable {i k : Int32} {t tm pm day um now D n : Nat} {lo : Option Nat} {Lo : Option ((Nat → Int64) → Int64)} {ps : Nat → Int32} {pa : Nat → Nat → Int32} {pw : Nat → Int64}
variable {u v : Nat}
theorem sp_areAlike (hu : u ≤ 60) (hv : v ≤ 60) : jx_cr (d + 1) 40 [.ref 48, .int (nI u), .int (nI v)] (sw h cu F o p q z T x ru im tp R) = some (.inl (some (.int (sp_bl (sp_alk (R 2) u v)))), (sw h cu F o p q z T x ru im tp R)) := by
  have key := jx_lp (d := d) (y := 40) (L := 2) (n := 6) (γ := Unit) (ls := fun m _ => [.ref 48, .int (nI u), .int (nI v), .int (nI m)]) (H := fun _ _ => (sw h cu F o p q z T x ru im tp R))
    (I := fun m _ => ∀ k, k < m → R 2 (u + k) = R 2 (v + k))
    (G := fun r => r = some (.inl (some (.int (sp_bl (sp_alk (R 2) u v)))), (sw h cu F o p q z T x ru im tp R))) ?_ ?_ 6 0 () (by omega) (fun t ht => absurd ht (by omega))
  · rw [nI_0] at key
    simp only [cr_40, eb_40_0, jx_ns_r, jx_ns_n, jx_ns_q, jx_ns_i, jx_gl_0, jx_gl_s, if_true, if_false, ite_true, ite_false, eq_self, Bool.false_eq_true, List.length_cons, List.length_nil, Nat.zero_le, Nat.reduceAdd, Nat.reduceSub, Nat.reduceLeDiff, Nat.reduceLT, Nat.reduceEqDiff, Int.reduceToNat, reduceIte, xe_iconst, xi_0, xx_0, xe_istore, xe_goto_w, xk_iload, jx_iv_i, ak_I, xi_6, xx_6, xe_icmp_ge, xe_aload, jx_rv_r, jx_rv_n, jx_rv_q, xk_getf, jx_gf_i, jx_ov_s, ak_V, xe_iadd, xk_iald, ja_ia, ak_A, true_or, or_true, xe_icmp_eq, xe_zreturn, xZ, xk_iinc, ak_C, xi_1, xe_goto, xx_1, jx_s1, List.set_cons_zero, List.set_cons_succ, jx_2_i, jx_2_l, jx_2_r, jx_2_n, jx_2_u, jx_2_s, jx_2_q, jx_k_i, jx_k_l, jx_k_r, jx_k_n, jx_k_u, jx_k_s, jx_k_q]
    exact key
  · intro m _ hm hI
    have h3 : ¬ (6 : Int32) ≤ nI m := nI_ge (a := m) (b := 6) hm (by omega)
    have i1 := sp_ix (show u + m < 66 by omega) (by decide)
    have i2 := sp_ix (show v + m < 66 by omega) (by decide)
    by_cases r1 : R 2 (u + m) = R 2 (v + m)
    · refine .inr ⟨(), fun k hk => ?_, ?_⟩
      · rcases (show k < m ∨ k = m by omega) with r | r
        · exact hI k r
        · subst r; exact r1
      · rw [eb_40_2]
        simp only [eb_40_29, jx_ns_r, jx_ns_n, jx_ns_q, jx_ns_i, jx_gl_0, jx_gl_s, if_true, if_false, ite_true, ite_false, eq_self, Bool.false_eq_true, List.length_cons, List.length_nil, Nat.zero_le, Nat.reduceAdd, Nat.reduceSub, Nat.reduceLeDiff, Nat.reduceLT, Nat.reduceEqDiff, Int.reduceToNat, reduceIte, xe_iconst, xi_0, xx_0, xe_istore, xe_goto_w, xk_iload, jx_iv_i, ak_I, xi_6, xx_6, xe_icmp_ge, xe_aload, jx_rv_r, jx_rv_n, jx_rv_q, xk_getf, jx_gf_i, jx_ov_s, ak_V, xe_iadd, xk_iald, ja_ia, ak_A, true_or, or_true, xe_icmp_eq, xe_zreturn, xZ, xk_iinc, ak_C, xi_1, xe_goto, xx_1, jx_s1, List.set_cons_zero, List.set_cons_succ, jx_2_i, jx_2_l, jx_2_r, jx_2_n, jx_2_u, jx_2_s, jx_2_q, jx_k_i, jx_k_l, jx_k_r, jx_k_n, jx_k_u, jx_k_s, jx_k_q, sw_r, sw_f, sw_s, sw_wo, sw_ro, sw_rp, sw_woo, sw_wor, sw_wpo, sw_wpr, cq_f, cq_s, va_up_s, va_rf_s, va_rf_n, h3, nI_add, i1, i2, r1, nI_1]
    · refine .inl ?_
      rw [sp_bl_f (show ¬ sp_alk (R 2) u v from fun c => r1 (c m hm))]
      simp only [eb_40_2, jx_ns_r, jx_ns_n, jx_ns_q, jx_ns_i, jx_gl_0, jx_gl_s, if_true, if_false, ite_true, ite_false, eq_self, Bool.false_eq_true, List.length_cons, List.length_nil, Nat.zero_le, Nat.reduceAdd, Nat.reduceSub, Nat.reduceLeDiff, Nat.reduceLT, Nat.reduceEqDiff, Int.reduceToNat, reduceIte, xe_iconst, xi_0, xx_0, xe_istore, xe_goto_w, xk_iload, jx_iv_i, ak_I, xi_6, xx_6, xe_icmp_ge, xe_aload, jx_rv_r, jx_rv_n, jx_rv_q, xk_getf, jx_gf_i, jx_ov_s, ak_V, xe_iadd, xk_iald, ja_ia, ak_A, true_or, or_true, xe_icmp_eq, xe_zreturn, xZ, xk_iinc, ak_C, xi_1, xe_goto, xx_1, jx_s1, List.set_cons_zero, List.set_cons_succ, jx_2_i, jx_2_l, jx_2_r, jx_2_n, jx_2_u, jx_2_s, jx_2_q, jx_k_i, jx_k_l, jx_k_r, jx_k_n, jx_k_u, jx_k_s, jx_k_q, sw_r, sw_f, sw_s, sw_wo, sw_ro, sw_rp, sw_woo, sw_wor, sw_wpo, sw_wpr, cq_f, cq_s, va_up_s, va_rf_s, va_rf_n, h3, nI_add, i1, i2, r1]
  · intro _ hI
    have h3 : (6 : Int32) ≤ nI 6 := by decide
    rw [sp_bl_t (show sp_alk (R 2) u v from hI)]
    simp only [eb_40_2, eb_40_35, jx_ns_r, jx_ns_n, jx_ns_q, jx_ns_i, jx_gl_0, jx_gl_s, if_true, if_false, ite_true, ite_false, eq_self, Bool.false_eq_true, List.length_cons, List.length_nil, Nat.zero_le, Nat.reduceAdd, Nat.reduceSub, Nat.reduceLeDiff, Nat.reduceLT, Nat.reduceEqDiff, Int.reduceToNat, reduceIte, xe_iconst, xi_0, xx_0, xe_istore, xe_goto_w, xk_iload, jx_iv_i, ak_I, xi_6, xx_6, xe_icmp_ge, xe_aload, jx_rv_r, jx_rv_n, jx_rv_q, xk_getf, jx_gf_i, jx_ov_s, ak_V, xe_iadd, xk_iald, ja_ia, ak_A, true_or, or_true, xe_icmp_eq, xe_zreturn, xZ, xk_iinc, ak_C, xi_1, xe_goto, xx_1, jx_s1, List.set_cons_zero, List.set_cons_succ, jx_2_i, jx_2_l, jx_2_r, jx_2_n, jx_2_u, jx_2_s, jx_2_q, jx_k_i, jx_k_l, jx_k_r, jx_k_n, jx_k_u, jx_k_s, jx_k_q, h3]
theorem sc_ring0 : jx_cr (d + 2) 41 [.ref 48, .int i] (sw h none F o p q z T x ru im tp R) = some (.inl (some (.int (-1))), (sw h none F o p q z T x ru im tp R)) := by
  simp only [cr_41, eb_41_0, eb_41_17, jx_ns_r, jx_ns_n, jx_ns_q, jx_ns_i, jx_gl_0, jx_gl_s, if_true, if_false, ite_true, ite_false, eq_self, Bool.false_eq_true, List.length_cons, List.length_nil, Nat.zero_le, Nat.reduceAdd, Nat.reduceSub, Nat.reduceLeDiff, Nat.reduceLT, Nat.reduceEqDiff, Int.reduceToNat, reduceIte, xe_aload, jx_rv_r, jx_rv_n, jx_rv_q, xk_getf, jx_gf_i, jx_ov_s, ak_V, xe_ifnull_n, xe_ifnull_r, xk_iload, jx_iv_i, ak_I, xe_i2l, xe_lconst, xl_0, xl_1, xe_sta3, jx_cc_i, jx_cc_v, Nat.reduceMod, Nat.reduceDiv, xe_ifne, xe_goto_w, xe_iconst, xi_m1, xe_ireturn, xe_inv1, jx_cl9_i, xe_pop, jx_2_i, jx_2_l, jx_2_r, jx_2_n, jx_2_q, or_self, xi_0, xx_0, xe_istore, xi_66, xe_icmp_ge, xe_inv0, xk_iast, ja_is, ak_S, ak_P, xk_iinc, ak_C, xi_1, xe_goto, xi_60, xx_1, xe_iadd, xe_icmp_gt, xe_inv2, xe_ifeq, xe_isub, xi_m2, jx_s1, List.set_cons_zero, List.set_cons_succ, jx_2_u, jx_2_s, jx_k_i, jx_k_l, jx_k_r, jx_k_n, jx_k_u, jx_k_s, jx_k_q, sw_r, sw_f, sw_s, sw_wo, sw_ro, sw_rp, sw_woo, sw_wor, sw_wpo, sw_wpr, cq_f, cq_s, va_up_s, va_rf_s, va_rf_n]
theorem sc_ring1 (hq : ¬ (0 ≤ i.toInt64 ∧ i.toInt64 ≤ 1)) : jx_cr (d + 2) 41 [.ref 48, .int i] (sw h (some 49) F (s, a, w) p q z T x ru im tp R) = some (.inl (some (.int (-1))), (sw h (some 49) F (s, a, w) p q z T x ru im tp R)) := by
  simp only [cr_41, eb_41_0, eb_41_17, jx_ns_r, jx_ns_n, jx_ns_q, jx_ns_i, jx_gl_0, jx_gl_s, if_true, if_false, ite_true, ite_false, eq_self, Bool.false_eq_true, List.length_cons, List.length_nil, Nat.zero_le, Nat.reduceAdd, Nat.reduceSub, Nat.reduceLeDiff, Nat.reduceLT, Nat.reduceEqDiff, Int.reduceToNat, reduceIte, xe_aload, jx_rv_r, jx_rv_n, jx_rv_q, xk_getf, jx_gf_i, jx_ov_s, ak_V, xe_ifnull_n, xe_ifnull_r, xk_iload, jx_iv_i, ak_I, xe_i2l, xe_lconst, xl_0, xl_1, xe_sta3, jx_cc_i, jx_cc_v, Nat.reduceMod, Nat.reduceDiv, xe_ifne, xe_goto_w, xe_iconst, xi_m1, xe_ireturn, xe_inv1, jx_cl9_i, xe_pop, jx_2_i, jx_2_l, jx_2_r, jx_2_n, jx_2_q, or_self, xi_0, xx_0, xe_istore, xi_66, xe_icmp_ge, xe_inv0, xk_iast, ja_is, ak_S, ak_P, xk_iinc, ak_C, xi_1, xe_goto, xi_60, xx_1, xe_iadd, xe_icmp_gt, xe_inv2, xe_ifeq, xe_isub, xi_m2, jx_s1, List.set_cons_zero, List.set_cons_succ, jx_2_u, jx_2_s, jx_k_i, jx_k_l, jx_k_r, jx_k_n, jx_k_u, jx_k_s, jx_k_q, sw_r, sw_f, sw_s, sw_wo, sw_ro, sw_rp, sw_woo, sw_wor, sw_wpo, sw_wpr, cq_f, cq_s, va_up_s, va_rf_s, va_rf_n, cq_inL, hq]
/-- the search -/
theorem sp_ring (f : Nat → Int32) (ef : ∀ k, k < 66 → R 2 k = f k) : jx_eb (d + 1) 41 72 [.ref 48, .int k, .int (nI 0), jx_un] [] (sw h (some 49) F (s, a, w) p q z T x ru im tp R) = some (.inl (some (.int (sp_rng f (s 7) k 60 0))), (sw h (some 49) F (s, a, w) p q z T x ru im tp R)) := by
  have ha : ∀ u v, u ≤ 60 → v ≤ 60 → (sp_alk (R 2) u v ↔ sp_alb f u v = true) := by
    intro u v hu hv
    unfold sp_alb
    rw [dc_iff]
    unfold sp_alk
    refine forall_congr' fun k => forall_congr' fun hk => ?_
    rw [ef _ (by omega), ef _ (by omega)]
  refine jx_lp (d := d + 1) (y := 41) (L := 72) (n := 60) (γ := Value) (ls := fun m g => [.ref 48, .int k, .int (nI m), g]) (H := fun _ _ => (sw h (some 49) F (s, a, w) p q z T x ru im tp R))
    (I := fun m g => (g = jx_un ∨ ∃ v, g = .int v) ∧ sp_rng f (s 7) k (60 - m) m = sp_rng f (s 7) k 60 0)
    (G := fun r => r = some (.inl (some (.int (sp_rng f (s 7) k 60 0))), (sw h (some 49) F (s, a, w) p q z T x ru im tp R))) ?_ ?_ 60 0 jx_un (by omega) ⟨.inl rfl, rfl⟩
  · rintro m g hm ⟨hg, hf⟩
    have h3 : ¬ (60 : Int32) ≤ nI m := nI_ge (a := m) (b := 60) hm (by omega)
    rw [show 60 - m = (60 - (m + 1)) + 1 by omega, sp_rng] at hf
    have inner := jx_lp (d := d + 1) (y := 41) (L := 82) (n := 61) (γ := Unit) (ls := fun v _ => [.ref 48, .int k, .int (nI m), .int (nI v)]) (H := fun _ _ => (sw h (some 49) F (s, a, w) p q z T x ru im tp R))
      (I := fun v _ => fd (sp_alb f m) (61 - v) v = fd (sp_alb f m) (60 - m) (m + 1))
      (G := fun r => r = some (.inl (some (.int (sp_rng f (s 7) k 60 0))), (sw h (some 49) F (s, a, w) p q z T x ru im tp R)) ∨ fd (sp_alb f m) (60 - m) (m + 1) = none ∧ r = jx_eb (d + 1) 41 72 [.ref 48, .int k, .int (nI (m + 1)), .int (nI 61)] [] (sw h (some 49) F (s, a, w) p q z T x ru im tp R)) ?_ ?_ (60 - m) (m + 1) () (by omega) (by rw [show 61 - (m + 1) = 60 - m by omega])
    · have e0 : jx_eb (d + 1) 41 72 [.ref 48, .int k, .int (nI m), g] [] (sw h (some 49) F (s, a, w) p q z T x ru im tp R) = jx_eb (d + 1) 41 82 [.ref 48, .int k, .int (nI m), .int (nI (m + 1))] [] (sw h (some 49) F (s, a, w) p q z T x ru im tp R) := by
        rcases hg with hg | ⟨v', hg⟩ <;> subst hg <;> simp only [eb_41_72, jx_ns_r, jx_ns_n, jx_ns_q, jx_ns_i, jx_gl_0, jx_gl_s, if_true, if_false, ite_true, ite_false, eq_self, Bool.false_eq_true, List.length_cons, List.length_nil, Nat.zero_le, Nat.reduceAdd, Nat.reduceSub, Nat.reduceLeDiff, Nat.reduceLT, Nat.reduceEqDiff, Int.reduceToNat, reduceIte, xe_aload, jx_rv_r, jx_rv_n, jx_rv_q, xk_getf, jx_gf_i, jx_ov_s, ak_V, xe_ifnull_n, xe_ifnull_r, xk_iload, jx_iv_i, ak_I, xe_i2l, xe_lconst, xl_0, xl_1, xe_sta3, jx_cc_i, jx_cc_v, Nat.reduceMod, Nat.reduceDiv, xe_ifne, xe_goto_w, xe_iconst, xi_m1, xe_ireturn, xe_inv1, jx_cl9_i, xe_pop, jx_2_i, jx_2_l, jx_2_r, jx_2_n, jx_2_q, or_self, xi_0, xx_0, xe_istore, xi_66, xe_icmp_ge, xe_inv0, xk_iast, ja_is, ak_S, ak_P, xk_iinc, ak_C, xi_1, xe_goto, xi_60, xx_1, xe_iadd, xe_icmp_gt, xe_inv2, xe_ifeq, xe_isub, xi_m2, jx_s1, List.set_cons_zero, List.set_cons_succ, jx_2_u, jx_2_s, jx_k_i, jx_k_l, jx_k_r, jx_k_n, jx_k_u, jx_k_s, jx_k_q, h3, nI_1]
      rcases inner with r | ⟨hJ, r⟩
      · exact .inl (e0.trans r)
      · rw [hJ] at hf
        exact .inr ⟨.int (nI 61), ⟨.inr ⟨_, rfl⟩, hf⟩, e0.trans r⟩
    · intro v _ hv hJ
      have h4 : ¬ (60 : Int32) < nI v := nI_nlt (b := v) (a := 60) (by omega) (by omega)
      have hA := fun (d : Nat) => sp_areAlike (d := d) (h := h) (cu := some 49) (F := F) (o := (s, a, w)) (p := p) (q := q) (z := z) (T := T) (x := x) (ru := ru) (im := im) (tp := tp) (R := R) (u := m) (v := v) (by omega) (by omega)
      rw [fd_s hv] at hJ
      by_cases r1 : sp_alb f m v = true
      · rw [if_pos r1] at hJ
        rw [← hJ] at hf
        simp only at hf
        have hA := fun d => (hA d).trans (by rw [sp_bl_t ((ha m v (by omega) (by omega)).mpr r1)])
        refine .inl (.inl ?_)
        rw [← hf]
        by_cases r : k = 0 <;> simp only [eb_41_82, eb_41_113, eb_41_116, jx_ns_r, jx_ns_n, jx_ns_q, jx_ns_i, jx_gl_0, jx_gl_s, if_true, if_false, ite_true, ite_false, eq_self, Bool.false_eq_true, List.length_cons, List.length_nil, Nat.zero_le, Nat.reduceAdd, Nat.reduceSub, Nat.reduceLeDiff, Nat.reduceLT, Nat.reduceEqDiff, Int.reduceToNat, reduceIte, xe_aload, jx_rv_r, jx_rv_n, jx_rv_q, xk_getf, jx_gf_i, jx_ov_s, ak_V, xe_ifnull_n, xe_ifnull_r, xk_iload, jx_iv_i, ak_I, xe_i2l, xe_lconst, xl_0, xl_1, xe_sta3, jx_cc_i, jx_cc_v, Nat.reduceMod, Nat.reduceDiv, xe_ifne, xe_goto_w, xe_iconst, xi_m1, xe_ireturn, xe_inv1, jx_cl9_i, xe_pop, jx_2_i, jx_2_l, jx_2_r, jx_2_n, jx_2_q, or_self, xi_0, xx_0, xe_istore, xi_66, xe_icmp_ge, xe_inv0, xk_iast, ja_is, ak_S, ak_P, xk_iinc, ak_C, xi_1, xe_goto, xi_60, xx_1, xe_iadd, xe_icmp_gt, xe_inv2, xe_ifeq, xe_isub, xi_m2, jx_s1, List.set_cons_zero, List.set_cons_succ, jx_2_u, jx_2_s, jx_k_i, jx_k_l, jx_k_r, jx_k_n, jx_k_u, jx_k_s, jx_k_q, sw_r, sw_f, sw_s, sw_wo, sw_ro, sw_rp, sw_woo, sw_wor, sw_wpo, sw_wpr, cq_f, cq_s, va_up_s, va_rf_s, va_rf_n, h4, hA, sp_10, r]
      · rw [if_neg r1] at hJ
        have hA := fun d => (hA d).trans (by rw [sp_bl_f (fun c => r1 ((ha m v (by omega) (by omega)).mp c))])
        refine .inr ⟨(), hJ, ?_⟩
        rw [eb_41_82]
        simp only [eb_41_117, jx_ns_r, jx_ns_n, jx_ns_q, jx_ns_i, jx_gl_0, jx_gl_s, if_true, if_false, ite_true, ite_false, eq_self, Bool.false_eq_true, List.length_cons, List.length_nil, Nat.zero_le, Nat.reduceAdd, Nat.reduceSub, Nat.reduceLeDiff, Nat.reduceLT, Nat.reduceEqDiff, Int.reduceToNat, reduceIte, xe_aload, jx_rv_r, jx_rv_n, jx_rv_q, xk_getf, jx_gf_i, jx_ov_s, ak_V, xe_ifnull_n, xe_ifnull_r, xk_iload, jx_iv_i, ak_I, xe_i2l, xe_lconst, xl_0, xl_1, xe_sta3, jx_cc_i, jx_cc_v, Nat.reduceMod, Nat.reduceDiv, xe_ifne, xe_goto_w, xe_iconst, xi_m1, xe_ireturn, xe_inv1, jx_cl9_i, xe_pop, jx_2_i, jx_2_l, jx_2_r, jx_2_n, jx_2_q, or_self, xi_0, xx_0, xe_istore, xi_66, xe_icmp_ge, xe_inv0, xk_iast, ja_is, ak_S, ak_P, xk_iinc, ak_C, xi_1, xe_goto, xi_60, xx_1, xe_iadd, xe_icmp_gt, xe_inv2, xe_ifeq, xe_isub, xi_m2, jx_s1, List.set_cons_zero, List.set_cons_succ, jx_2_u, jx_2_s, jx_k_i, jx_k_l, jx_k_r, jx_k_n, jx_k_u, jx_k_s, jx_k_q, sw_r, sw_f, sw_s, sw_wo, sw_ro, sw_rp, sw_woo, sw_wor, sw_wpo, sw_wpr, cq_f, cq_s, va_up_s, va_rf_s, va_rf_n, h4, hA, nI_1]
    · intro _ hJ
      have h4 : (60 : Int32) < nI 61 := by decide
      rw [Nat.sub_self] at hJ
      refine .inr ⟨hJ.symm, ?_⟩
      simp only [eb_41_82, eb_41_123, jx_ns_r, jx_ns_n, jx_ns_q, jx_ns_i, jx_gl_0, jx_gl_s, if_true, if_false, ite_true, ite_false, eq_self, Bool.false_eq_true, List.length_cons, List.length_nil, Nat.zero_le, Nat.reduceAdd, Nat.reduceSub, Nat.reduceLeDiff, Nat.reduceLT, Nat.reduceEqDiff, Int.reduceToNat, reduceIte, xe_aload, jx_rv_r, jx_rv_n, jx_rv_q, xk_getf, jx_gf_i, jx_ov_s, ak_V, xe_ifnull_n, xe_ifnull_r, xk_iload, jx_iv_i, ak_I, xe_i2l, xe_lconst, xl_0, xl_1, xe_sta3, jx_cc_i, jx_cc_v, Nat.reduceMod, Nat.reduceDiv, xe_ifne, xe_goto_w, xe_iconst, xi_m1, xe_ireturn, xe_inv1, jx_cl9_i, xe_pop, jx_2_i, jx_2_l, jx_2_r, jx_2_n, jx_2_q, or_self, xi_0, xx_0, xe_istore, xi_66, xe_icmp_ge, xe_inv0, xk_iast, ja_is, ak_S, ak_P, xk_iinc, ak_C, xi_1, xe_goto, xi_60, xx_1, xe_iadd, xe_icmp_gt, xe_inv2, xe_ifeq, xe_isub, xi_m2, jx_s1, List.set_cons_zero, List.set_cons_succ, jx_2_u, jx_2_s, jx_k_i, jx_k_l, jx_k_r, jx_k_n, jx_k_u, jx_k_s, jx_k_q, h4, nI_1]
  · rintro g ⟨hg, hf⟩
    have h3 : (60 : Int32) ≤ nI 60 := by decide
    rw [Nat.sub_self, sp_rng] at hf
    rw [← hf]
    simp only [eb_41_72, eb_41_129, jx_ns_r, jx_ns_n, jx_ns_q, jx_ns_i, jx_gl_0, jx_gl_s, if_true, if_false, ite_true, ite_false, eq_self, Bool.false_eq_true, List.length_cons, List.length_nil, Nat.zero_le, Nat.reduceAdd, Nat.reduceSub, Nat.reduceLeDiff, Nat.reduceLT, Nat.reduceEqDiff, Int.reduceToNat, reduceIte, xe_aload, jx_rv_r, jx_rv_n, jx_rv_q, xk_getf, jx_gf_i, jx_ov_s, ak_V, xe_ifnull_n, xe_ifnull_r, xk_iload, jx_iv_i, ak_I, xe_i2l, xe_lconst, xl_0, xl_1, xe_sta3, jx_cc_i, jx_cc_v, Nat.reduceMod, Nat.reduceDiv, xe_ifne, xe_goto_w, xe_iconst, xi_m1, xe_ireturn, xe_inv1, jx_cl9_i, xe_pop, jx_2_i, jx_2_l, jx_2_r, jx_2_n, jx_2_q, or_self, xi_0, xx_0, xe_istore, xi_66, xe_icmp_ge, xe_inv0, xk_iast, ja_is, ak_S, ak_P, xk_iinc, ak_C, xi_1, xe_goto, xi_60, xx_1, xe_iadd, xe_icmp_gt, xe_inv2, xe_ifeq, xe_isub, xi_m2, jx_s1, List.set_cons_zero, List.set_cons_succ, jx_2_u, jx_2_s, jx_k_i, jx_k_l, jx_k_r, jx_k_n, jx_k_u, jx_k_s, jx_k_q, h3]
theorem sc_ring (iv : cq_iv s a day tm pm now) (hn : now ≤ 999) (hk : 0 ≤ k.toInt64 ∧ k.toInt64 ≤ 1) (hlo : sp_lo F ru lo) (hL : sp_lw (D + 2) h lo Lo) :
    ∃ p' R', jx_cr (d + D + 7) 41 [.ref 48, .int k] (sw h (some 49) F (s, a, w) (ps, pa, pw) q z T x ru im tp R) = some (.inl (some (.int (sp_rng (sp_hd Lo (s, a)) (s 7) k 60 0))), sw h (some 49) F (s, a, w) p' q z T x ru im tp R') := by
  have t6 := iv.2.2.2.2.1; have p6 := iv.2.2.2.2.2.2.1; have es := iv.2.2.2.2.2.1; have et := iv.2.2.2.1; have d12 := iv.2.2.1; have d1 := iv.2.1
  have ce := sp_cp_e (s := s) (a := a) (g := pa) t6 p6 d12
  have iv2 := cq_iv_c iv ce
  have key := jx_lp (d := d + D + 6) (y := 41) (L := 33) (n := 66) (γ := Nat → Int64) (ls := fun m _ => [.ref 48, .int k, .int (nI m), jx_un]) (H := fun m g => sw h (some 49) F (s, a, w) ((cq_gn Lo m (s, sp_cp a pa)).1, (cq_gn Lo m (s, sp_cp a pa)).2, g) q z T x ru im tp (va_up R 2 (cq_fl m (sp_hd Lo (s, a)) (R 2))))
    (I := fun _ _ => True)
    (G := fun r => ∃ g : Nat → Int64, r = jx_eb (d + D + 6) 41 72 [.ref 48, .int k, .int 0, jx_un] [] (sw h (some 49) F (s, a, w) ((cq_gn Lo 66 (s, sp_cp a pa)).1, (cq_gn Lo 66 (s, sp_cp a pa)).2, g) q z T x ru im tp (va_up R 2 (cq_fl 66 (sp_hd Lo (s, a)) (R 2))))) ?_ ?_ 66 0 pw (by omega) trivial
  · obtain ⟨g, e⟩ := key
    have l := sp_ring (d := d + D + 5) (h := h) (F := F) (a := a) (s := s) (w := w) (p := ((cq_gn Lo 66 (s, sp_cp a pa)).1, (cq_gn Lo 66 (s, sp_cp a pa)).2, g)) (q := q) (z := z) (T := T) (x := x) (ru := ru) (im := im) (tp := tp) (R := va_up R 2 (cq_fl 66 (sp_hd Lo (s, a)) (R 2))) (k := k) (sp_hd Lo (s, a)) (fun j hj => cq_fl_lt hj)
    have eR : va_up R 2 (R 2) = R := by
      funext j
      simp only [va_up]
      by_cases j1 : j = 2
      · subst j1; rfl
      · rw [if_neg j1]
    rw [nI_0] at l
    have e2 := e.trans l
    simp only [cq_fl_0, eR, cq_gn, nI_0] at e2
    refine ⟨((cq_gn Lo 66 (s, sp_cp a pa)).1, (cq_gn Lo 66 (s, sp_cp a pa)).2, g), va_up R 2 (cq_fl 66 (sp_hd Lo (s, a)) (R 2)), ?_⟩
    simp only [cr_41, eb_41_0, eb_41_19, jx_ns_r, jx_ns_n, jx_ns_q, jx_ns_i, jx_gl_0, jx_gl_s, if_true, if_false, ite_true, ite_false, eq_self, Bool.false_eq_true, List.length_cons, List.length_nil, Nat.zero_le, Nat.reduceAdd, Nat.reduceSub, Nat.reduceLeDiff, Nat.reduceLT, Nat.reduceEqDiff, Int.reduceToNat, reduceIte, xe_aload, jx_rv_r, jx_rv_n, jx_rv_q, xk_getf, jx_gf_i, jx_ov_s, ak_V, xe_ifnull_n, xe_ifnull_r, xk_iload, jx_iv_i, ak_I, xe_i2l, xe_lconst, xl_0, xl_1, xe_sta3, jx_cc_i, jx_cc_v, Nat.reduceMod, Nat.reduceDiv, xe_ifne, xe_goto_w, xe_iconst, xi_m1, xe_ireturn, xe_inv1, jx_cl9_i, xe_pop, jx_2_i, jx_2_l, jx_2_r, jx_2_n, jx_2_q, or_self, xi_0, xx_0, xe_istore, xi_66, xe_icmp_ge, xe_inv0, xk_iast, ja_is, ak_S, ak_P, xk_iinc, ak_C, xi_1, xe_goto, xi_60, xx_1, xe_iadd, xe_icmp_gt, xe_inv2, xe_ifeq, xe_isub, xi_m2, jx_s1, List.set_cons_zero, List.set_cons_succ, jx_2_u, jx_2_s, jx_k_i, jx_k_l, jx_k_r, jx_k_n, jx_k_u, jx_k_s, jx_k_q, sw_r, sw_f, sw_s, sw_wo, sw_ro, sw_rp, sw_woo, sw_wor, sw_wpo, sw_wpr, cq_f, cq_s, va_up_s, va_rf_s, va_rf_n, cq_inL, hk, and_self, sp_10, sp_copy]
    exact e2
  · rintro m g hm -
    have h3 : ¬ (66 : Int32) ≤ nI m := nI_ge (a := m) (b := 66) hm (by omega)
    have i1 := sp_ix hm (by decide)
    obtain ⟨w1, e1⟩ := sp_hour (d := d + 1) (cu := some 49) (F := F) (o := (s, a, w)) (q := q) (z := z) (T := T) (x := x) (ru := ru) (im := im) (tp := tp) (R := va_up R 2 (cq_fl m (sp_hd Lo (s, a)) (R 2))) (pw := g) (cq_iv_gn (n := m) (Lo := Lo) iv2 (by omega)) (by omega) hL
    rw [show d + 1 + D + 5 = d + D + 6 by omega] at e1
    have e8 : sp_hd Lo (s, a) m = (cq_go Lo ((cq_gn Lo m (s, sp_cp a pa)).1, (cq_gn Lo m (s, sp_cp a pa)).2)).1 8 :=
      (cq_gn_c (n := m + 1) (Lo := Lo) iv (by omega) ce).1 8 (by decide) (by decide) (by decide) (by decide)
    have eR : ∀ f : Nat → Int32, va_up (va_up R 2 (cq_fl m (sp_hd Lo (s, a)) (R 2))) 2 f = va_up R 2 f := by
      intro f
      funext j
      simp only [va_up]
      by_cases j1 : j = 2
      · rw [if_pos j1, if_pos j1]
      · rw [if_neg j1, if_neg j1, if_neg j1]
    refine .inr ⟨w1, trivial, ?_⟩
    rw [eb_41_33]
    simp only [jx_ns_r, jx_ns_n, jx_ns_q, jx_ns_i, jx_gl_0, jx_gl_s, if_true, if_false, ite_true, ite_false, eq_self, Bool.false_eq_true, List.length_cons, List.length_nil, Nat.zero_le, Nat.reduceAdd, Nat.reduceSub, Nat.reduceLeDiff, Nat.reduceLT, Nat.reduceEqDiff, Int.reduceToNat, reduceIte, xe_aload, jx_rv_r, jx_rv_n, jx_rv_q, xk_getf, jx_gf_i, jx_ov_s, ak_V, xe_ifnull_n, xe_ifnull_r, xk_iload, jx_iv_i, ak_I, xe_i2l, xe_lconst, xl_0, xl_1, xe_sta3, jx_cc_i, jx_cc_v, Nat.reduceMod, Nat.reduceDiv, xe_ifne, xe_goto_w, xe_iconst, xi_m1, xe_ireturn, xe_inv1, jx_cl9_i, xe_pop, jx_2_i, jx_2_l, jx_2_r, jx_2_n, jx_2_q, or_self, xi_0, xx_0, xe_istore, xi_66, xe_icmp_ge, xe_inv0, xk_iast, ja_is, ak_S, ak_P, xk_iinc, ak_C, xi_1, xe_goto, xi_60, xx_1, xe_iadd, xe_icmp_gt, xe_inv2, xe_ifeq, xe_isub, xi_m2, jx_s1, List.set_cons_zero, List.set_cons_succ, jx_2_u, jx_2_s, jx_k_i, jx_k_l, jx_k_r, jx_k_n, jx_k_u, jx_k_s, jx_k_q, sw_r, sw_f, sw_s, sw_wo, sw_ro, sw_rp, sw_woo, sw_wor, sw_wpo, sw_wpr, cq_f, cq_s, va_up_s, va_rf_s, va_rf_n, sw_wR, h3, i1, sc_law hlo, e1, ← e8, eR, cq_fl_s, nI_1]
    rfl
  · rintro g -
    have h3 : (66 : Int32) ≤ nI 66 := by decide
    exact ⟨g, by simp only [eb_41_33, eb_41_70, jx_ns_r, jx_ns_n, jx_ns_q, jx_ns_i, jx_gl_0, jx_gl_s, if_true, if_false, ite_true, ite_false, eq_self, Bool.false_eq_true, List.length_cons, List.length_nil, Nat.zero_le, Nat.reduceAdd, Nat.reduceSub, Nat.reduceLeDiff, Nat.reduceLT, Nat.reduceEqDiff, Int.reduceToNat, reduceIte, xe_aload, jx_rv_r, jx_rv_n, jx_rv_q, xk_getf, jx_gf_i, jx_ov_s, ak_V, xe_ifnull_n, xe_ifnull_r, xk_iload, jx_iv_i, ak_I, xe_i2l, xe_lconst, xl_0, xl_1, xe_sta3, jx_cc_i, jx_cc_v, Nat.reduceMod, Nat.reduceDiv, xe_ifne, xe_goto_w, xe_iconst, xi_m1, xe_ireturn, xe_inv1, jx_cl9_i, xe_pop, jx_2_i, jx_2_l, jx_2_r, jx_2_n, jx_2_q, or_self, xi_0, xx_0, xe_istore, xi_66, xe_icmp_ge, xe_inv0, xk_iast, ja_is, ak_S, ak_P, xk_iinc, ak_C, xi_1, xe_goto, xi_60, xx_1, xe_iadd, xe_icmp_gt, xe_inv2, xe_ifeq, xe_isub, xi_m2, jx_s1, List.set_cons_zero, List.set_cons_succ, jx_2_u, jx_2_s, jx_k_i, jx_k_l, jx_k_r, jx_k_n, jx_k_u, jx_k_s, jx_k_q, h3]⟩
theorem sc_noteN0 : jx_cr (d + 2) 42 [.ref 48, .int (-1), .int k] (sw h none F o p q z T x ru im tp R) = some (.inl (some (.int 0)), (sw h none F o p q z T x ru im tp R)) := by
  simp only [cr_42, eb_42_0, eb_42_20, jx_ns_r, jx_ns_n, jx_ns_q, jx_ns_i, jx_gl_0, jx_gl_s, if_true, if_false, ite_true, ite_false, eq_self, Bool.false_eq_true, List.length_cons, List.length_nil, Nat.zero_le, Nat.reduceAdd, Nat.reduceSub, Nat.reduceLeDiff, Nat.reduceLT, Nat.reduceEqDiff, Int.reduceToNat, reduceIte, xk_iload, jx_iv_i, ak_I, xe_iconst, xi_m1, xe_icmp_ne, xe_aload, jx_rv_r, jx_rv_n, jx_rv_q, xk_getf, jx_gf_i, jx_ov_s, ak_V, xe_ifnull_n, xe_ifnull_r, xi_0, xx_0, xk_putf, ak_P, jx_pf_i, jx_pf_z, jx_pf_l, jx_pf_r, jx_pf_n, jx_pf_q, Nat.reduceMod, Nat.reduceDiv, xe_goto_w, xe_ireturn, xe_i2l, xe_lconst, xl_0, xl_60, xe_sta3, jx_cc_i, jx_cc_v, xe_ifeq, xe_icmp_eq, xe_inv1, jx_cl9_i, xi_10, xx_10, xi_m2, xi_2, xx_2, xe_imul, xk_iast, ja_is, ak_S, xi_1, xx_1, xe_iadd, xe_dup, jx_2_i, jx_2_l, jx_2_r, jx_2_n, jx_2_q, or_self, sw_r, sw_f, sw_s, sw_wo, sw_ro, sw_rp, sw_woo, sw_wor, sw_wpo, sw_wpr, cq_f, cq_s, va_up_s, va_rf_s, va_rf_n]
theorem sc_noteN : jx_cr (d + 2) 42 [.ref 48, .int (-1), .int k] (sw h (some 49) F (s, a, w) p q z T x ru im tp R) = some (.inl (some (.int 0)), sw h (some 49) F (va_up s 4 0, a, w) p q z T x ru im tp R) := by
  simp only [cr_42, eb_42_0, eb_42_20, jx_ns_r, jx_ns_n, jx_ns_q, jx_ns_i, jx_gl_0, jx_gl_s, if_true, if_false, ite_true, ite_false, eq_self, Bool.false_eq_true, List.length_cons, List.length_nil, Nat.zero_le, Nat.reduceAdd, Nat.reduceSub, Nat.reduceLeDiff, Nat.reduceLT, Nat.reduceEqDiff, Int.reduceToNat, reduceIte, xk_iload, jx_iv_i, ak_I, xe_iconst, xi_m1, xe_icmp_ne, xe_aload, jx_rv_r, jx_rv_n, jx_rv_q, xk_getf, jx_gf_i, jx_ov_s, ak_V, xe_ifnull_n, xe_ifnull_r, xi_0, xx_0, xk_putf, ak_P, jx_pf_i, jx_pf_z, jx_pf_l, jx_pf_r, jx_pf_n, jx_pf_q, Nat.reduceMod, Nat.reduceDiv, xe_goto_w, xe_ireturn, xe_i2l, xe_lconst, xl_0, xl_60, xe_sta3, jx_cc_i, jx_cc_v, xe_ifeq, xe_icmp_eq, xe_inv1, jx_cl9_i, xi_10, xx_10, xi_m2, xi_2, xx_2, xe_imul, xk_iast, ja_is, ak_S, xi_1, xx_1, xe_iadd, xe_dup, jx_2_i, jx_2_l, jx_2_r, jx_2_n, jx_2_q, or_self, sw_r, sw_f, sw_s, sw_wo, sw_ro, sw_rp, sw_woo, sw_wor, sw_wpo, sw_wpr, cq_f, cq_s, va_up_s, va_rf_s, va_rf_n]
theorem sc_note0 (hi : ¬ i = -1) : jx_cr (d + 2) 42 [.ref 48, .int i, .int k] (sw h none F o p q z T x ru im tp R) = some (.inl (some (.int (-2))), (sw h none F o p q z T x ru im tp R)) := by
  simp only [cr_42, eb_42_0, eb_42_22, eb_42_66, jx_ns_r, jx_ns_n, jx_ns_q, jx_ns_i, jx_gl_0, jx_gl_s, if_true, if_false, ite_true, ite_false, eq_self, Bool.false_eq_true, List.length_cons, List.length_nil, Nat.zero_le, Nat.reduceAdd, Nat.reduceSub, Nat.reduceLeDiff, Nat.reduceLT, Nat.reduceEqDiff, Int.reduceToNat, reduceIte, xk_iload, jx_iv_i, ak_I, xe_iconst, xi_m1, xe_icmp_ne, xe_aload, jx_rv_r, jx_rv_n, jx_rv_q, xk_getf, jx_gf_i, jx_ov_s, ak_V, xe_ifnull_n, xe_ifnull_r, xi_0, xx_0, xk_putf, ak_P, jx_pf_i, jx_pf_z, jx_pf_l, jx_pf_r, jx_pf_n, jx_pf_q, Nat.reduceMod, Nat.reduceDiv, xe_goto_w, xe_ireturn, xe_i2l, xe_lconst, xl_0, xl_60, xe_sta3, jx_cc_i, jx_cc_v, xe_ifeq, xe_icmp_eq, xe_inv1, jx_cl9_i, xi_10, xx_10, xi_m2, xi_2, xx_2, xe_imul, xk_iast, ja_is, ak_S, xi_1, xx_1, xe_iadd, xe_dup, jx_2_i, jx_2_l, jx_2_r, jx_2_n, jx_2_q, or_self, sw_r, sw_f, sw_s, sw_wo, sw_ro, sw_rp, sw_woo, sw_wor, sw_wpo, sw_wpr, cq_f, cq_s, va_up_s, va_rf_s, va_rf_n, hi]
theorem sc_note1 (hi : ¬ i = -1) (hq : ¬ ((0 ≤ i.toInt64 ∧ i.toInt64 ≤ 60) ∧ (k = -1 ∨ 0 ≤ k ∧ k < s 2) ∧ ¬ s 4 = 10)) : jx_cr (d + 2) 42 [.ref 48, .int i, .int k] (sw h (some 49) F (s, a, w) p q z T x ru im tp R) = some (.inl (some (.int (-2))), (sw h (some 49) F (s, a, w) p q z T x ru im tp R)) := by
  by_cases q1 : 0 ≤ i.toInt64 ∧ i.toInt64 ≤ 60
  · by_cases q2 : k = -1
    · have q4 : s 4 = 10 := Classical.byContradiction fun r => hq ⟨q1, .inl q2, r⟩
      simp only [cr_42, eb_42_0, eb_42_22, eb_42_54, eb_42_66, jx_ns_r, jx_ns_n, jx_ns_q, jx_ns_i, jx_gl_0, jx_gl_s, if_true, if_false, ite_true, ite_false, eq_self, Bool.false_eq_true, List.length_cons, List.length_nil, Nat.zero_le, Nat.reduceAdd, Nat.reduceSub, Nat.reduceLeDiff, Nat.reduceLT, Nat.reduceEqDiff, Int.reduceToNat, reduceIte, xk_iload, jx_iv_i, ak_I, xe_iconst, xi_m1, xe_icmp_ne, xe_aload, jx_rv_r, jx_rv_n, jx_rv_q, xk_getf, jx_gf_i, jx_ov_s, ak_V, xe_ifnull_n, xe_ifnull_r, xi_0, xx_0, xk_putf, ak_P, jx_pf_i, jx_pf_z, jx_pf_l, jx_pf_r, jx_pf_n, jx_pf_q, Nat.reduceMod, Nat.reduceDiv, xe_goto_w, xe_ireturn, xe_i2l, xe_lconst, xl_0, xl_60, xe_sta3, jx_cc_i, jx_cc_v, xe_ifeq, xe_icmp_eq, xe_inv1, jx_cl9_i, xi_10, xx_10, xi_m2, xi_2, xx_2, xe_imul, xk_iast, ja_is, ak_S, xi_1, xx_1, xe_iadd, xe_dup, jx_2_i, jx_2_l, jx_2_r, jx_2_n, jx_2_q, or_self, sw_r, sw_f, sw_s, sw_wo, sw_ro, sw_rp, sw_woo, sw_wor, sw_wpo, sw_wpr, cq_f, cq_s, va_up_s, va_rf_s, va_rf_n, cq_inL, hi, q1, q2, q4, and_self, sp_10]
    · by_cases q3 : 0 ≤ k ∧ k < s 2
      · have q4 : s 4 = 10 := Classical.byContradiction fun r => hq ⟨q1, .inr q3, r⟩
        simp only [cr_42, eb_42_0, eb_42_22, eb_42_54, eb_42_66, jx_ns_r, jx_ns_n, jx_ns_q, jx_ns_i, jx_gl_0, jx_gl_s, if_true, if_false, ite_true, ite_false, eq_self, Bool.false_eq_true, List.length_cons, List.length_nil, Nat.zero_le, Nat.reduceAdd, Nat.reduceSub, Nat.reduceLeDiff, Nat.reduceLT, Nat.reduceEqDiff, Int.reduceToNat, reduceIte, xk_iload, jx_iv_i, ak_I, xe_iconst, xi_m1, xe_icmp_ne, xe_aload, jx_rv_r, jx_rv_n, jx_rv_q, xk_getf, jx_gf_i, jx_ov_s, ak_V, xe_ifnull_n, xe_ifnull_r, xi_0, xx_0, xk_putf, ak_P, jx_pf_i, jx_pf_z, jx_pf_l, jx_pf_r, jx_pf_n, jx_pf_q, Nat.reduceMod, Nat.reduceDiv, xe_goto_w, xe_ireturn, xe_i2l, xe_lconst, xl_0, xl_60, xe_sta3, jx_cc_i, jx_cc_v, xe_ifeq, xe_icmp_eq, xe_inv1, jx_cl9_i, xi_10, xx_10, xi_m2, xi_2, xx_2, xe_imul, xk_iast, ja_is, ak_S, xi_1, xx_1, xe_iadd, xe_dup, jx_2_i, jx_2_l, jx_2_r, jx_2_n, jx_2_q, or_self, sw_r, sw_f, sw_s, sw_wo, sw_ro, sw_rp, sw_woo, sw_wor, sw_wpo, sw_wpr, cq_f, cq_s, va_up_s, va_rf_s, va_rf_n, cq_inL, sc_isThing1, hi, q1, q2, q3, q4, and_self, sp_10]
      · simp only [cr_42, eb_42_0, eb_42_22, eb_42_54, eb_42_66, jx_ns_r, jx_ns_n, jx_ns_q, jx_ns_i, jx_gl_0, jx_gl_s, if_true, if_false, ite_true, ite_false, eq_self, Bool.false_eq_true, List.length_cons, List.length_nil, Nat.zero_le, Nat.reduceAdd, Nat.reduceSub, Nat.reduceLeDiff, Nat.reduceLT, Nat.reduceEqDiff, Int.reduceToNat, reduceIte, xk_iload, jx_iv_i, ak_I, xe_iconst, xi_m1, xe_icmp_ne, xe_aload, jx_rv_r, jx_rv_n, jx_rv_q, xk_getf, jx_gf_i, jx_ov_s, ak_V, xe_ifnull_n, xe_ifnull_r, xi_0, xx_0, xk_putf, ak_P, jx_pf_i, jx_pf_z, jx_pf_l, jx_pf_r, jx_pf_n, jx_pf_q, Nat.reduceMod, Nat.reduceDiv, xe_goto_w, xe_ireturn, xe_i2l, xe_lconst, xl_0, xl_60, xe_sta3, jx_cc_i, jx_cc_v, xe_ifeq, xe_icmp_eq, xe_inv1, jx_cl9_i, xi_10, xx_10, xi_m2, xi_2, xx_2, xe_imul, xk_iast, ja_is, ak_S, xi_1, xx_1, xe_iadd, xe_dup, jx_2_i, jx_2_l, jx_2_r, jx_2_n, jx_2_q, or_self, sw_r, sw_f, sw_s, sw_wo, sw_ro, sw_rp, sw_woo, sw_wor, sw_wpo, sw_wpr, cq_f, cq_s, va_up_s, va_rf_s, va_rf_n, cq_inL, sc_isThing1, hi, q1, q2, q3, and_self, sp_10]
  · simp only [cr_42, eb_42_0, eb_42_22, eb_42_66, jx_ns_r, jx_ns_n, jx_ns_q, jx_ns_i, jx_gl_0, jx_gl_s, if_true, if_false, ite_true, ite_false, eq_self, Bool.false_eq_true, List.length_cons, List.length_nil, Nat.zero_le, Nat.reduceAdd, Nat.reduceSub, Nat.reduceLeDiff, Nat.reduceLT, Nat.reduceEqDiff, Int.reduceToNat, reduceIte, xk_iload, jx_iv_i, ak_I, xe_iconst, xi_m1, xe_icmp_ne, xe_aload, jx_rv_r, jx_rv_n, jx_rv_q, xk_getf, jx_gf_i, jx_ov_s, ak_V, xe_ifnull_n, xe_ifnull_r, xi_0, xx_0, xk_putf, ak_P, jx_pf_i, jx_pf_z, jx_pf_l, jx_pf_r, jx_pf_n, jx_pf_q, Nat.reduceMod, Nat.reduceDiv, xe_goto_w, xe_ireturn, xe_i2l, xe_lconst, xl_0, xl_60, xe_sta3, jx_cc_i, jx_cc_v, xe_ifeq, xe_icmp_eq, xe_inv1, jx_cl9_i, xi_10, xx_10, xi_m2, xi_2, xx_2, xe_imul, xk_iast, ja_is, ak_S, xi_1, xx_1, xe_iadd, xe_dup, jx_2_i, jx_2_l, jx_2_r, jx_2_n, jx_2_q, or_self, sw_r, sw_f, sw_s, sw_wo, sw_ro, sw_rp, sw_woo, sw_wor, sw_wpo, sw_wpr, cq_f, cq_s, va_up_s, va_rf_s, va_rf_n, cq_inL, hi, q1]
theorem sc_note (hi : ¬ i = -1) (q1 : 0 ≤ i.toInt64 ∧ i.toInt64 ≤ 60) (q2 : k = -1 ∨ 0 ≤ k ∧ k < s 2) (e4 : s 4 = nI n) (h9 : n < 10) : jx_cr (d + 2) 42 [.ref 48, .int i, .int k] (sw h (some 49) F (s, a, w) p q z T x ru im tp R) = some (.inl (some (.int (nI (n + 1)))), sw h (some 49) F (va_up s 4 (nI (n + 1)), va_up a 5 (upd (upd (a 5) (2 * n) i) (2 * n + 1) k), w) p q z T x ru im tp R) := by
  have n10 : ¬ nI n = 10 := by
    intro r
    have := (nI_eq (by omega) (by omega)).mp (show nI n = nI 10 from r)
    omega
  have m2 : (2 : Int32) * nI n = nI (2 * n) := (Int32.ofNat_mul 2 n).symm
  have i1 := sp_ix (show 2 * n < 20 by omega) (by decide)
  have i2 := sp_ix (show 2 * n + 1 < 20 by omega) (by decide)
  have eA : ∀ f g : Nat → Int32, va_up (va_up a 5 f) 5 g = va_up a 5 g := by
    intro f g
    funext j
    simp only [va_up]
    by_cases j1 : j = 5
    · rw [if_pos j1, if_pos j1]
    · rw [if_neg j1, if_neg j1, if_neg j1]
  by_cases q3 : k = -1
  · simp only [cr_42, eb_42_0, eb_42_22, eb_42_54, eb_42_69, jx_ns_r, jx_ns_n, jx_ns_q, jx_ns_i, jx_gl_0, jx_gl_s, if_true, if_false, ite_true, ite_false, eq_self, Bool.false_eq_true, List.length_cons, List.length_nil, Nat.zero_le, Nat.reduceAdd, Nat.reduceSub, Nat.reduceLeDiff, Nat.reduceLT, Nat.reduceEqDiff, Int.reduceToNat, reduceIte, xk_iload, jx_iv_i, ak_I, xe_iconst, xi_m1, xe_icmp_ne, xe_aload, jx_rv_r, jx_rv_n, jx_rv_q, xk_getf, jx_gf_i, jx_ov_s, ak_V, xe_ifnull_n, xe_ifnull_r, xi_0, xx_0, xk_putf, ak_P, jx_pf_i, jx_pf_z, jx_pf_l, jx_pf_r, jx_pf_n, jx_pf_q, Nat.reduceMod, Nat.reduceDiv, xe_goto_w, xe_ireturn, xe_i2l, xe_lconst, xl_0, xl_60, xe_sta3, jx_cc_i, jx_cc_v, xe_ifeq, xe_icmp_eq, xe_inv1, jx_cl9_i, xi_10, xx_10, xi_m2, xi_2, xx_2, xe_imul, xk_iast, ja_is, ak_S, xi_1, xx_1, xe_iadd, xe_dup, jx_2_i, jx_2_l, jx_2_r, jx_2_n, jx_2_q, or_self, sw_r, sw_f, sw_s, sw_wo, sw_ro, sw_rp, sw_woo, sw_wor, sw_wpo, sw_wpr, cq_f, cq_s, va_up_s, va_rf_s, va_rf_n, cq_inL, hi, q1, q3, and_self, sp_10, e4, n10, m2, i1, i2, nI_1, eA]
  · have q4 : 0 ≤ k ∧ k < s 2 := q2.resolve_left q3
    simp only [cr_42, eb_42_0, eb_42_22, eb_42_54, eb_42_69, jx_ns_r, jx_ns_n, jx_ns_q, jx_ns_i, jx_gl_0, jx_gl_s, if_true, if_false, ite_true, ite_false, eq_self, Bool.false_eq_true, List.length_cons, List.length_nil, Nat.zero_le, Nat.reduceAdd, Nat.reduceSub, Nat.reduceLeDiff, Nat.reduceLT, Nat.reduceEqDiff, Int.reduceToNat, reduceIte, xk_iload, jx_iv_i, ak_I, xe_iconst, xi_m1, xe_icmp_ne, xe_aload, jx_rv_r, jx_rv_n, jx_rv_q, xk_getf, jx_gf_i, jx_ov_s, ak_V, xe_ifnull_n, xe_ifnull_r, xi_0, xx_0, xk_putf, ak_P, jx_pf_i, jx_pf_z, jx_pf_l, jx_pf_r, jx_pf_n, jx_pf_q, Nat.reduceMod, Nat.reduceDiv, xe_goto_w, xe_ireturn, xe_i2l, xe_lconst, xl_0, xl_60, xe_sta3, jx_cc_i, jx_cc_v, xe_ifeq, xe_icmp_eq, xe_inv1, jx_cl9_i, xi_10, xx_10, xi_m2, xi_2, xx_2, xe_imul, xk_iast, ja_is, ak_S, xi_1, xx_1, xe_iadd, xe_dup, jx_2_i, jx_2_l, jx_2_r, jx_2_n, jx_2_q, or_self, sw_r, sw_f, sw_s, sw_wo, sw_ro, sw_rp, sw_woo, sw_wor, sw_wpo, sw_wpr, cq_f, cq_s, va_up_s, va_rf_s, va_rf_n, cq_inL, sc_isThing1, hi, q1, q3, q4, and_self, sp_10, e4, n10, m2, i1, i2, nI_1, eA]
end SS
