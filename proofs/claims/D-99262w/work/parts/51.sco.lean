/-! SpoonCourt: rankBy, lay -/
set_option maxRecDepth 100000
/-- person t's rank after n hours with thing k on the tray -/
def sp_rb (Lo : Option ((Nat → Int64) → Int64)) (s : Nat → Int32) (a : Nat → Nat → Int32) (tm t n : Nat) (k : Int32) : Int32 :=
  cq_rk ((cq_gn Lo n (va_up s 9 k, a)).2 8 t) (a 0) tm
/-- best thing and its rank of the first m things; f0 without any -/
def sp_ly (f : Int32 → Int32) : Nat → Int32 × Int32
  | 0 => (-1, f (-1))
  | m + 1 => if (sp_ly f m).2 < f (nI m) then (nI m, f (nI m)) else sp_ly f m
theorem cq_gn_0 {Lo : Option ((Nat → Int64) → Int64)} {n : Nat} {y : (Nat → Int32) × (Nat → Nat → Int32)} : (cq_gn Lo n y).2 0 = y.2 0 := by
  induction n with
  | zero => rfl
  | succ n ih => exact ih
theorem cq_gn_2 {Lo : Option ((Nat → Int64) → Int64)} {n : Nat} {y : (Nat → Int32) × (Nat → Nat → Int32)} {k : Nat} (hk : k < 7) : (cq_gn Lo n y).1 k = y.1 k := by
  induction n with
  | zero => rfl
  | succ n ih =>
    show (cq_go Lo (cq_gn Lo n y)).1 k = _
    simp only [cq_go, cq_pss]
    rw [if_neg (by omega), if_neg (by omega), if_neg (by omega), if_neg (by omega)]
    exact ih
section SO
variable {d : Nat} {h : jx_H} {cu : Option Nat} {F : Nat → Int32} {o p q z : cq_C} {T : List Value} {x : Int32 × Int32} {ru im : Nat → Option Nat} {tp : Nat → Int32} {R : Nat → Nat → Int32} {s : Nat → Int32} {a : Nat → Nat → Int32} {w : Nat → Int64}
variable {i k : Int32} {t tm pm day um now D n : Nat} {lo : Option Nat} {Lo : Option ((Nat → Int64) → Int64)} {ps : Nat → Int32} {pa : Nat → Nat → Int32} {pw : Nat → Int64}
theorem sp_rankBy (iv : cq_iv s a day tm pm now) (hn : now ≤ 999) (ht : t < pm) (h60 : n ≤ 60) (hk : cq_pt k tm) (hlo : sp_lo F ru lo) (hL : sp_lw (D + 2) h lo Lo) (hb : sp_bs tm pm day s ps a pa) :
    ∃ g : cq_C, sp_bs tm pm day s g.1 a g.2.1 ∧ jx_cr (d + D + 7) 30 [.ref 48, .int (nI t), .int k, .int (nI n)] (sw h (some 49) F (s, a, w) (ps, pa, pw) q z T x ru im tp R) = some (.inl (some (.int (sp_rb Lo s a tm t n k))), (sw h (some 49) F (s, a, w) g q z T x ru im tp R)) := by
  have t6 := iv.2.2.2.2.1; have p6 := iv.2.2.2.2.2.2.1; have es := iv.2.2.2.2.2.1; have et := iv.2.2.2.1; have d12 := iv.2.2.1; have d1 := iv.2.1
  have ce := cq_eq_sc (j := 9) (k := k) (sp_bs_e t6 p6 hb)
  have iv2 := cq_iv_9 iv hk
  have gc := cq_gn_c (n := n) (Lo := Lo) iv2 (by omega) ce
  obtain ⟨w1, e1⟩ := sp_goesOn (d := d) (n := n) (cu := some 49) (F := F) (o := (s, a, w)) (q := q) (z := z) (T := T) (x := x) (ru := ru) (im := im) (tp := tp) (R := R) (pw := pw) (cq_iv_c iv2 ce) (by omega) hL
  refine ⟨((cq_gn Lo n (va_up (sp_ss s ps) 9 k, sp_sa a pa)).1, (cq_gn Lo n (va_up (sp_ss s ps) 9 k, sp_sa a pa)).2, w1), sp_bs_gn (sp_bs_sc (sp_bs_ss hb) (by omega)), ?_⟩
  have e2 : (cq_gn Lo n (va_up (sp_ss s ps) 9 k, sp_sa a pa)).1 2 = nI tm := by
    rw [cq_gn_2 (by omega)]
    exact (hb.1 2 (by omega)).symm.trans et
  have e3 : sp_rb Lo s a tm t n k = cq_rk ((cq_gn Lo n (va_up (sp_ss s ps) 9 k, sp_sa a pa)).2 8 t) ((cq_gn Lo n (va_up (sp_ss s ps) 9 k, sp_sa a pa)).2 0) tm := by
    rw [sp_rb, (gc.2.2.2 t ht).2.2.2.1, cq_gn_0]
    exact cq_rk_c (fun j hj => (hb.2.1 j hj).1)
  rw [e3]
  simp only [cr_30, eb_30_0, jx_ns_r, jx_ns_n, jx_ns_q, jx_ns_i, jx_gl_0, jx_gl_s, if_true, if_false, ite_true, ite_false, eq_self, Bool.false_eq_true, List.length_cons, List.length_nil, Nat.zero_le, Nat.reduceAdd, Nat.reduceSub, Nat.reduceLeDiff, Nat.reduceLT, Nat.reduceEqDiff, Int.reduceToNat, reduceIte, xe_aload, jx_rv_r, jx_rv_n, jx_rv_q, xk_getf, jx_gf_i, jx_ov_s, ak_V, xe_inv1, jx_cc_i, jx_cc_v, Nat.reduceMod, Nat.reduceDiv, jx_cl9_i, xe_pop, jx_2_i, jx_2_l, jx_2_r, jx_2_n, jx_2_q, or_self, xk_iload, jx_iv_i, ak_I, xk_putf, ak_P, jx_pf_i, jx_pf_z, jx_pf_l, jx_pf_r, jx_pf_n, jx_pf_q, xe_inv0, xe_inv2, xe_ireturn, sw_r, sw_f, sw_s, sw_wo, sw_ro, sw_rp, sw_woo, sw_wor, sw_wpo, sw_wpr, cq_f, cq_s, va_up_s, va_rf_s, va_rf_n, sp_stand, sc_law hlo, e1, sp_rankOf (show t < 6 by omega) t6 e2]
theorem sc_lay0 {j : Int32} : jx_cr (d + 2) 31 [.ref 48, .int i, .int j, .int k] (sw h none F o p q z T x ru im tp R) = some (.inl (some (.int (-2))), (sw h none F o p q z T x ru im tp R)) := by
  simp only [cr_31, eb_31_0, eb_31_30, jx_ns_r, jx_ns_n, jx_ns_q, jx_ns_i, jx_gl_0, jx_gl_s, if_true, if_false, ite_true, ite_false, eq_self, Bool.false_eq_true, List.length_cons, List.length_nil, Nat.zero_le, Nat.reduceAdd, Nat.reduceSub, Nat.reduceLeDiff, Nat.reduceLT, Nat.reduceEqDiff, Int.reduceToNat, reduceIte, xe_aload, jx_rv_r, jx_rv_n, jx_rv_q, xk_iload, jx_iv_i, ak_I, xe_inv1, jx_cc_i, jx_cc_v, Nat.reduceMod, Nat.reduceDiv, jx_cl9_i, xe_ifeq, xe_i2l, xe_lconst, xl_1, xl_60, xe_sta3, xl_0, xe_ifne, xe_goto_w, xe_iconst, xi_m2, xe_ireturn, xk_getf, jx_gf_i, jx_ov_s, ak_V, xe_pop, jx_2_i, jx_2_l, jx_2_r, jx_2_n, jx_2_q, or_self, xi_m1, xe_istore, xe_inv3, xi_0, xx_0, xe_icmp_ge, xe_icmp_gt, xe_goto, xk_iinc, ak_C, xi_1, jx_s1, List.set_cons_zero, List.set_cons_succ, jx_2_u, jx_2_s, jx_k_i, jx_k_l, jx_k_r, jx_k_n, jx_k_u, jx_k_s, jx_k_q, sw_r, sw_f, sw_s, sw_wo, sw_ro, sw_rp, sw_woo, sw_wor, sw_wpo, sw_wpr, cq_f, cq_s, va_up_s, va_rf_s, va_rf_n, sc_isPerson0]
theorem sc_lay1 {j : Int32} (hq : ¬ ((0 ≤ i ∧ i < s 3) ∧ (1 ≤ j.toInt64 ∧ j.toInt64 ≤ 60) ∧ 0 ≤ k.toInt64 ∧ k.toInt64 ≤ 1)) : jx_cr (d + 2) 31 [.ref 48, .int i, .int j, .int k] (sw h (some 49) F (s, a, w) p q z T x ru im tp R) = some (.inl (some (.int (-2))), (sw h (some 49) F (s, a, w) p q z T x ru im tp R)) := by
  by_cases q1 : 0 ≤ i ∧ i < s 3
  · by_cases q2 : 1 ≤ j.toInt64 ∧ j.toInt64 ≤ 60
    · have q3 : ¬ (0 ≤ k.toInt64 ∧ k.toInt64 ≤ 1) := fun r => hq ⟨q1, q2, r⟩
      simp only [cr_31, eb_31_0, eb_31_30, jx_ns_r, jx_ns_n, jx_ns_q, jx_ns_i, jx_gl_0, jx_gl_s, if_true, if_false, ite_true, ite_false, eq_self, Bool.false_eq_true, List.length_cons, List.length_nil, Nat.zero_le, Nat.reduceAdd, Nat.reduceSub, Nat.reduceLeDiff, Nat.reduceLT, Nat.reduceEqDiff, Int.reduceToNat, reduceIte, xe_aload, jx_rv_r, jx_rv_n, jx_rv_q, xk_iload, jx_iv_i, ak_I, xe_inv1, jx_cc_i, jx_cc_v, Nat.reduceMod, Nat.reduceDiv, jx_cl9_i, xe_ifeq, xe_i2l, xe_lconst, xl_1, xl_60, xe_sta3, xl_0, xe_ifne, xe_goto_w, xe_iconst, xi_m2, xe_ireturn, xk_getf, jx_gf_i, jx_ov_s, ak_V, xe_pop, jx_2_i, jx_2_l, jx_2_r, jx_2_n, jx_2_q, or_self, xi_m1, xe_istore, xe_inv3, xi_0, xx_0, xe_icmp_ge, xe_icmp_gt, xe_goto, xk_iinc, ak_C, xi_1, jx_s1, List.set_cons_zero, List.set_cons_succ, jx_2_u, jx_2_s, jx_k_i, jx_k_l, jx_k_r, jx_k_n, jx_k_u, jx_k_s, jx_k_q, sw_r, sw_f, sw_s, sw_wo, sw_ro, sw_rp, sw_woo, sw_wor, sw_wpo, sw_wpr, cq_f, cq_s, va_up_s, va_rf_s, va_rf_n, sc_isPerson1, cq_inL, q1, q2, q3, and_self, sp_10]
    · simp only [cr_31, eb_31_0, eb_31_30, jx_ns_r, jx_ns_n, jx_ns_q, jx_ns_i, jx_gl_0, jx_gl_s, if_true, if_false, ite_true, ite_false, eq_self, Bool.false_eq_true, List.length_cons, List.length_nil, Nat.zero_le, Nat.reduceAdd, Nat.reduceSub, Nat.reduceLeDiff, Nat.reduceLT, Nat.reduceEqDiff, Int.reduceToNat, reduceIte, xe_aload, jx_rv_r, jx_rv_n, jx_rv_q, xk_iload, jx_iv_i, ak_I, xe_inv1, jx_cc_i, jx_cc_v, Nat.reduceMod, Nat.reduceDiv, jx_cl9_i, xe_ifeq, xe_i2l, xe_lconst, xl_1, xl_60, xe_sta3, xl_0, xe_ifne, xe_goto_w, xe_iconst, xi_m2, xe_ireturn, xk_getf, jx_gf_i, jx_ov_s, ak_V, xe_pop, jx_2_i, jx_2_l, jx_2_r, jx_2_n, jx_2_q, or_self, xi_m1, xe_istore, xe_inv3, xi_0, xx_0, xe_icmp_ge, xe_icmp_gt, xe_goto, xk_iinc, ak_C, xi_1, jx_s1, List.set_cons_zero, List.set_cons_succ, jx_2_u, jx_2_s, jx_k_i, jx_k_l, jx_k_r, jx_k_n, jx_k_u, jx_k_s, jx_k_q, sw_r, sw_f, sw_s, sw_wo, sw_ro, sw_rp, sw_woo, sw_wor, sw_wpo, sw_wpr, cq_f, cq_s, va_up_s, va_rf_s, va_rf_n, sc_isPerson1, cq_inL, q1, q2, and_self, sp_10]
  · simp only [cr_31, eb_31_0, eb_31_30, jx_ns_r, jx_ns_n, jx_ns_q, jx_ns_i, jx_gl_0, jx_gl_s, if_true, if_false, ite_true, ite_false, eq_self, Bool.false_eq_true, List.length_cons, List.length_nil, Nat.zero_le, Nat.reduceAdd, Nat.reduceSub, Nat.reduceLeDiff, Nat.reduceLT, Nat.reduceEqDiff, Int.reduceToNat, reduceIte, xe_aload, jx_rv_r, jx_rv_n, jx_rv_q, xk_iload, jx_iv_i, ak_I, xe_inv1, jx_cc_i, jx_cc_v, Nat.reduceMod, Nat.reduceDiv, jx_cl9_i, xe_ifeq, xe_i2l, xe_lconst, xl_1, xl_60, xe_sta3, xl_0, xe_ifne, xe_goto_w, xe_iconst, xi_m2, xe_ireturn, xk_getf, jx_gf_i, jx_ov_s, ak_V, xe_pop, jx_2_i, jx_2_l, jx_2_r, jx_2_n, jx_2_q, or_self, xi_m1, xe_istore, xe_inv3, xi_0, xx_0, xe_icmp_ge, xe_icmp_gt, xe_goto, xk_iinc, ak_C, xi_1, jx_s1, List.set_cons_zero, List.set_cons_succ, jx_2_u, jx_2_s, jx_k_i, jx_k_l, jx_k_r, jx_k_n, jx_k_u, jx_k_s, jx_k_q, sw_r, sw_f, sw_s, sw_wo, sw_ro, sw_rp, sw_woo, sw_wor, sw_wpo, sw_wpr, cq_f, cq_s, va_up_s, va_rf_s, va_rf_n, sc_isPerson1, q1]
theorem sc_lay (iv : cq_iv s a day tm pm now) (hn : now ≤ 999) (ht : t < pm) (h1n : 1 ≤ n) (h60 : n ≤ 60) (hk : 0 ≤ k.toInt64 ∧ k.toInt64 ≤ 1) (hlo : sp_lo F ru lo) (hL : sp_lw (D + 2) h lo Lo) :
    ∃ p', jx_cr (d + D + 8) 31 [.ref 48, .int (nI t), .int (nI n), .int k] (sw h (some 49) F (s, a, w) (ps, pa, pw) q z T x ru im tp R) = some (.inl (some (.int (if k = 0 then (sp_ly (sp_rb Lo s a tm t n) tm).1 else (sp_ly (sp_rb Lo s a tm t n) tm).2))), sw h (some 49) F (s, a, w) p' q z T x ru im tp R) := by
  have t6 := iv.2.2.2.2.1; have p6 := iv.2.2.2.2.2.2.1; have es := iv.2.2.2.2.2.1; have et := iv.2.2.2.1; have d12 := iv.2.2.1; have d1 := iv.2.1
  have hpe := sp_q ht (by omega) es
  have hq1 : 1 ≤ (nI n).toInt64 ∧ (nI n).toInt64 ≤ 60 := sp_rg (a := 1) (b := 60) h1n h60 (by omega)
  obtain ⟨g0, hg0, e0⟩ := sp_rankBy (d := d) (F := F) (w := w) (q := q) (z := z) (T := T) (x := x) (im := im) (tp := tp) (R := R) (pw := pw) (k := -1) iv hn ht h60 (.inl rfl) hlo hL (sp_bs_cp (g := pa) t6 p6 d12)
  have key := jx_lp (d := d + D + 7) (y := 31) (L := 60) (n := tm) (γ := cq_C × Value) (ls := fun m g => [.ref 48, .int (nI t), .int (nI n), .int k, .int (sp_ly (sp_rb Lo s a tm t n) m).1, .int (sp_ly (sp_rb Lo s a tm t n) m).2, .int (nI m), g.2]) (H := fun _ g => sw h (some 49) F (s, a, w) g.1 q z T x ru im tp R)
    (I := fun m g => sp_bs tm pm day s g.1.1 a g.1.2.1 ∧ (g.2 = jx_un ∨ ∃ v, g.2 = .int v))
    (G := fun r => ∃ p', r = some (.inl (some (.int (if k = 0 then (sp_ly (sp_rb Lo s a tm t n) tm).1 else (sp_ly (sp_rb Lo s a tm t n) tm).2))), sw h (some 49) F (s, a, w) p' q z T x ru im tp R)) ?_ ?_ tm 0 (g0, jx_un) (by omega) ⟨hg0, .inl rfl⟩
  · obtain ⟨p', e⟩ := key
    refine ⟨p', ?_⟩
    simp only [nI_0, sp_ly] at e
    simp only [cr_31, eb_31_0, eb_31_33, jx_ns_r, jx_ns_n, jx_ns_q, jx_ns_i, jx_gl_0, jx_gl_s, if_true, if_false, ite_true, ite_false, eq_self, Bool.false_eq_true, List.length_cons, List.length_nil, Nat.zero_le, Nat.reduceAdd, Nat.reduceSub, Nat.reduceLeDiff, Nat.reduceLT, Nat.reduceEqDiff, Int.reduceToNat, reduceIte, xe_aload, jx_rv_r, jx_rv_n, jx_rv_q, xk_iload, jx_iv_i, ak_I, xe_inv1, jx_cc_i, jx_cc_v, Nat.reduceMod, Nat.reduceDiv, jx_cl9_i, xe_ifeq, xe_i2l, xe_lconst, xl_1, xl_60, xe_sta3, xl_0, xe_ifne, xe_goto_w, xe_iconst, xi_m2, xe_ireturn, xk_getf, jx_gf_i, jx_ov_s, ak_V, xe_pop, jx_2_i, jx_2_l, jx_2_r, jx_2_n, jx_2_q, or_self, xi_m1, xe_istore, xe_inv3, xi_0, xx_0, xe_icmp_ge, xe_icmp_gt, xe_goto, xk_iinc, ak_C, xi_1, jx_s1, List.set_cons_zero, List.set_cons_succ, jx_2_u, jx_2_s, jx_k_i, jx_k_l, jx_k_r, jx_k_n, jx_k_u, jx_k_s, jx_k_q, sw_r, sw_f, sw_s, sw_wo, sw_ro, sw_rp, sw_woo, sw_wor, sw_wpo, sw_wpr, cq_f, cq_s, va_up_s, va_rf_s, va_rf_n, sc_isPerson1, cq_inL, hpe, hq1, hk, and_self, sp_10, sp_copy, e0]
    exact e
  · rintro m ⟨⟨ps, pa, pw⟩, v⟩ hm ⟨hb, hv⟩
    have h3 : ¬ nI tm ≤ nI m := nI_ge hm (by omega)
    obtain ⟨g, hg, e1⟩ := sp_rankBy (d := d) (F := F) (w := w) (q := q) (z := z) (T := T) (x := x) (im := im) (tp := tp) (R := R) (pw := pw) (k := nI m) iv hn ht h60 (.inr ⟨m, hm, rfl⟩) hlo hL hb
    refine .inr ⟨(g, .int (sp_rb Lo s a tm t n (nI m))), ⟨hg, .inr ⟨_, rfl⟩⟩, ?_⟩
    rw [eb_31_60]
    rcases hv with hv | ⟨v', hv⟩ <;> simp only at hv <;> subst hv <;> by_cases r : (sp_ly (sp_rb Lo s a tm t n) m).2 < sp_rb Lo s a tm t n (nI m) <;> simp only [eb_31_92, eb_31_100, jx_ns_r, jx_ns_n, jx_ns_q, jx_ns_i, jx_gl_0, jx_gl_s, if_true, if_false, ite_true, ite_false, eq_self, Bool.false_eq_true, List.length_cons, List.length_nil, Nat.zero_le, Nat.reduceAdd, Nat.reduceSub, Nat.reduceLeDiff, Nat.reduceLT, Nat.reduceEqDiff, Int.reduceToNat, reduceIte, xe_aload, jx_rv_r, jx_rv_n, jx_rv_q, xk_iload, jx_iv_i, ak_I, xe_inv1, jx_cc_i, jx_cc_v, Nat.reduceMod, Nat.reduceDiv, jx_cl9_i, xe_ifeq, xe_i2l, xe_lconst, xl_1, xl_60, xe_sta3, xl_0, xe_ifne, xe_goto_w, xe_iconst, xi_m2, xe_ireturn, xk_getf, jx_gf_i, jx_ov_s, ak_V, xe_pop, jx_2_i, jx_2_l, jx_2_r, jx_2_n, jx_2_q, or_self, xi_m1, xe_istore, xe_inv3, xi_0, xx_0, xe_icmp_ge, xe_icmp_gt, xe_goto, xk_iinc, ak_C, xi_1, jx_s1, List.set_cons_zero, List.set_cons_succ, jx_2_u, jx_2_s, jx_k_i, jx_k_l, jx_k_r, jx_k_n, jx_k_u, jx_k_s, jx_k_q, sw_r, sw_f, sw_s, sw_wo, sw_ro, sw_rp, sw_woo, sw_wor, sw_wpo, sw_wpr, cq_f, cq_s, va_up_s, va_rf_s, va_rf_n, et, h3, e1, r, nI_1, sp_ly]
  · rintro ⟨⟨ps, pa, pw⟩, v⟩ ⟨hb, hv⟩
    refine ⟨(ps, pa, pw), ?_⟩
    have h3 : nI tm ≤ nI tm := (nI_leI (by omega) (by omega)).mpr (Nat.le_refl _)
    by_cases r : k = 0 <;> simp only [eb_31_60, eb_31_106, eb_31_115, eb_31_117, jx_ns_r, jx_ns_n, jx_ns_q, jx_ns_i, jx_gl_0, jx_gl_s, if_true, if_false, ite_true, ite_false, eq_self, Bool.false_eq_true, List.length_cons, List.length_nil, Nat.zero_le, Nat.reduceAdd, Nat.reduceSub, Nat.reduceLeDiff, Nat.reduceLT, Nat.reduceEqDiff, Int.reduceToNat, reduceIte, xe_aload, jx_rv_r, jx_rv_n, jx_rv_q, xk_iload, jx_iv_i, ak_I, xe_inv1, jx_cc_i, jx_cc_v, Nat.reduceMod, Nat.reduceDiv, jx_cl9_i, xe_ifeq, xe_i2l, xe_lconst, xl_1, xl_60, xe_sta3, xl_0, xe_ifne, xe_goto_w, xe_iconst, xi_m2, xe_ireturn, xk_getf, jx_gf_i, jx_ov_s, ak_V, xe_pop, jx_2_i, jx_2_l, jx_2_r, jx_2_n, jx_2_q, or_self, xi_m1, xe_istore, xe_inv3, xi_0, xx_0, xe_icmp_ge, xe_icmp_gt, xe_goto, xk_iinc, ak_C, xi_1, jx_s1, List.set_cons_zero, List.set_cons_succ, jx_2_u, jx_2_s, jx_k_i, jx_k_l, jx_k_r, jx_k_n, jx_k_u, jx_k_s, jx_k_q, sw_r, sw_f, sw_s, sw_wo, sw_ro, sw_rp, sw_woo, sw_wor, sw_wpo, sw_wpr, cq_f, cq_s, va_up_s, va_rf_s, va_rf_n, et, h3, r]
end SO
