/-! SpoonCourt: held -/
set_option maxRecDepth 100000
/-- the things never held meanwhile -/
def sp_hm (A a : Nat → Int32) : Nat → Int32
  | 0 => 0
  | n + 1 => sp_hm A a n ||| (if A n = a n then (1 : Int32) <<< (nI n &&& 31) else 0)
theorem sp_hm_c {A A' a : Nat → Int32} {n : Nat} (e : ∀ k, k < n → A k = A' k) : sp_hm A a n = sp_hm A' a n := by
  induction n with
  | zero => rfl
  | succ n ih => rw [sp_hm, sp_hm, ih (fun k hk => e k (by omega)), e n (by omega)]
section SH
variable {d : Nat} {h : jx_H} {cu : Option Nat} {F : Nat → Int32} {o p q z : cq_C} {T : List Value} {x : Int32 × Int32} {ru im : Nat → Option Nat} {tp : Nat → Int32} {R : Nat → Nat → Int32} {s : Nat → Int32} {a : Nat → Nat → Int32} {w : Nat → Int64}
variable {i k : Int32} {t tm pm day um now D n : Nat} {lo : Option Nat} {Lo : Option ((Nat → Int64) → Int64)}
theorem sc_held0 {j : Int32} : jx_cr (d + 2) 32 [.ref 48, .int j, .int k] (sw h none F o p q z T x ru im tp R) = some (.inl (some (.int (-1))), (sw h none F o p q z T x ru im tp R)) := by
  simp only [cr_32, eb_32_0, eb_32_33, jx_ns_r, jx_ns_n, jx_ns_q, jx_ns_i, jx_gl_0, jx_gl_s, if_true, if_false, ite_true, ite_false, eq_self, Bool.false_eq_true, List.length_cons, List.length_nil, Nat.zero_le, Nat.reduceAdd, Nat.reduceSub, Nat.reduceLeDiff, Nat.reduceLT, Nat.reduceEqDiff, Int.reduceToNat, reduceIte, xe_aload, jx_rv_r, jx_rv_n, jx_rv_q, xk_getf, jx_gf_i, jx_ov_s, ak_V, xe_ifnull_n, xe_ifnull_r, xk_iload, jx_iv_i, ak_I, xe_i2l, xe_lconst, xl_1, xl_100, xe_sta3, jx_cc_i, jx_cc_v, Nat.reduceMod, Nat.reduceDiv, xe_ifeq, xe_iconst, xi_6, xx_6, xe_icmp_eq, xe_inv1, jx_cl9_i, xe_ifne, xe_goto_w, xi_m1, xe_ireturn, xe_inv0, xe_inv2, xe_pop, jx_2_i, jx_2_l, jx_2_r, jx_2_n, jx_2_q, or_self, xe_icmp_ge, xk_iald, ja_ia, ak_A, true_or, or_true, xe_isub, xi_0, xx_0, xe_istore, xe_icmp_ne, xi_1, xx_1, xe_ishl, xe_goto, xe_ior, xk_iinc, ak_C, jx_s1, List.set_cons_zero, List.set_cons_succ, jx_2_u, jx_2_s, jx_k_i, jx_k_l, jx_k_r, jx_k_n, jx_k_u, jx_k_s, jx_k_q, sw_r, sw_f, sw_s, sw_wo, sw_ro, sw_rp, sw_woo, sw_wor, sw_wpo, sw_wpr, cq_f, cq_s, va_up_s, va_rf_s, va_rf_n]
theorem sc_held1 {j : Int32} (hq : ¬ ((1 ≤ j.toInt64 ∧ j.toInt64 ≤ 100) ∧ (k = 6 ∨ 0 ≤ k ∧ k < s 2))) : jx_cr (d + 2) 32 [.ref 48, .int j, .int k] (sw h (some 49) F (s, a, w) p q z T x ru im tp R) = some (.inl (some (.int (-1))), (sw h (some 49) F (s, a, w) p q z T x ru im tp R)) := by
  by_cases q1 : 1 ≤ j.toInt64 ∧ j.toInt64 ≤ 100
  · have q3 : ¬ k = 6 := fun r => hq ⟨q1, .inl r⟩
    have q4 : ¬ (0 ≤ k ∧ k < s 2) := fun r => hq ⟨q1, .inr r⟩
    simp only [cr_32, eb_32_0, eb_32_33, jx_ns_r, jx_ns_n, jx_ns_q, jx_ns_i, jx_gl_0, jx_gl_s, if_true, if_false, ite_true, ite_false, eq_self, Bool.false_eq_true, List.length_cons, List.length_nil, Nat.zero_le, Nat.reduceAdd, Nat.reduceSub, Nat.reduceLeDiff, Nat.reduceLT, Nat.reduceEqDiff, Int.reduceToNat, reduceIte, xe_aload, jx_rv_r, jx_rv_n, jx_rv_q, xk_getf, jx_gf_i, jx_ov_s, ak_V, xe_ifnull_n, xe_ifnull_r, xk_iload, jx_iv_i, ak_I, xe_i2l, xe_lconst, xl_1, xl_100, xe_sta3, jx_cc_i, jx_cc_v, Nat.reduceMod, Nat.reduceDiv, xe_ifeq, xe_iconst, xi_6, xx_6, xe_icmp_eq, xe_inv1, jx_cl9_i, xe_ifne, xe_goto_w, xi_m1, xe_ireturn, xe_inv0, xe_inv2, xe_pop, jx_2_i, jx_2_l, jx_2_r, jx_2_n, jx_2_q, or_self, xe_icmp_ge, xk_iald, ja_ia, ak_A, true_or, or_true, xe_isub, xi_0, xx_0, xe_istore, xe_icmp_ne, xi_1, xx_1, xe_ishl, xe_goto, xe_ior, xk_iinc, ak_C, jx_s1, List.set_cons_zero, List.set_cons_succ, jx_2_u, jx_2_s, jx_k_i, jx_k_l, jx_k_r, jx_k_n, jx_k_u, jx_k_s, jx_k_q, sw_r, sw_f, sw_s, sw_wo, sw_ro, sw_rp, sw_woo, sw_wor, sw_wpo, sw_wpr, cq_f, cq_s, va_up_s, va_rf_s, va_rf_n, cq_inL, sc_isThing1, q1, q3, q4, and_self, sp_10]
  · simp only [cr_32, eb_32_0, eb_32_33, jx_ns_r, jx_ns_n, jx_ns_q, jx_ns_i, jx_gl_0, jx_gl_s, if_true, if_false, ite_true, ite_false, eq_self, Bool.false_eq_true, List.length_cons, List.length_nil, Nat.zero_le, Nat.reduceAdd, Nat.reduceSub, Nat.reduceLeDiff, Nat.reduceLT, Nat.reduceEqDiff, Int.reduceToNat, reduceIte, xe_aload, jx_rv_r, jx_rv_n, jx_rv_q, xk_getf, jx_gf_i, jx_ov_s, ak_V, xe_ifnull_n, xe_ifnull_r, xk_iload, jx_iv_i, ak_I, xe_i2l, xe_lconst, xl_1, xl_100, xe_sta3, jx_cc_i, jx_cc_v, Nat.reduceMod, Nat.reduceDiv, xe_ifeq, xe_iconst, xi_6, xx_6, xe_icmp_eq, xe_inv1, jx_cl9_i, xe_ifne, xe_goto_w, xi_m1, xe_ireturn, xe_inv0, xe_inv2, xe_pop, jx_2_i, jx_2_l, jx_2_r, jx_2_n, jx_2_q, or_self, xe_icmp_ge, xk_iald, ja_ia, ak_A, true_or, or_true, xe_isub, xi_0, xx_0, xe_istore, xe_icmp_ne, xi_1, xx_1, xe_ishl, xe_goto, xe_ior, xk_iinc, ak_C, jx_s1, List.set_cons_zero, List.set_cons_succ, jx_2_u, jx_2_s, jx_k_i, jx_k_l, jx_k_r, jx_k_n, jx_k_u, jx_k_s, jx_k_q, sw_r, sw_f, sw_s, sw_wo, sw_ro, sw_rp, sw_woo, sw_wor, sw_wpo, sw_wpr, cq_f, cq_s, va_up_s, va_rf_s, va_rf_n, cq_inL, q1]
theorem sc_held {ps : Nat → Int32} {pa : Nat → Nat → Int32} {pw : Nat → Int64} (iv : cq_iv s a day tm pm now) (hn : now ≤ 999) (h1n : 1 ≤ n) (h100 : n ≤ 100) (ht : t < tm) (hlo : sp_lo F ru lo) (hL : sp_lw (D + 2) h lo Lo) :
    ∃ p', jx_cr (d + D + 7) 32 [.ref 48, .int (nI n), .int (nI t)] (sw h (some 49) F (s, a, w) (ps, pa, pw) q z T x ru im tp R) = some (.inl (some (.int ((cq_gn Lo n (s, a)).2 6 t - a 6 t))), sw h (some 49) F (s, a, w) p' q z T x ru im tp R) := by
  have t6 := iv.2.2.2.2.1
  have p6 := iv.2.2.2.2.2.2.1
  have et := iv.2.2.2.1
  have ce : cq_eq tm pm day s s a (sp_cp a pa) := sp_cp_e t6 p6 iv.2.2.1
  have iv2 := cq_iv_c iv ce
  have gc := cq_gn_c (n := n) (Lo := Lo) iv (by omega) ce
  have hq1 : 1 ≤ (nI n).toInt64 ∧ (nI n).toInt64 ≤ 100 := ⟨sp_l64.mpr (show nI 1 ≤ nI n from nI_le h1n (by omega)), sp_l64.mpr (show nI n ≤ nI 100 from nI_le h100 (by omega))⟩
  obtain ⟨w1, e1⟩ := sp_goesOn (d := d) (n := n) (cu := some 49) (F := F) (o := (s, a, w)) (pw := pw) (q := q) (z := z) (T := T) (x := x) (ru := ru) (im := im) (tp := tp) (R := R) iv2 (by omega) hL
  have hl := fun (d : Nat) (p : cq_C) => sc_law (d := d) (h := h) (cu := some 49) (F := F) (o := (s, a, w)) (p := p) (q := q) (z := z) (T := T) (x := x) (ru := ru) (im := im) (tp := tp) (R := R) hlo
  have hc := fun (d : Nat) => sp_copy (d := d) (h := h) (cu := some 49) (F := F) (s := s) (a := a) (w := w) (ps := ps) (pa := pa) (pw := pw) (q := q) (z := z) (T := T) (x := x) (ru := ru) (im := im) (tp := tp) (R := R)
  have hpe : 0 ≤ nI t ∧ nI t < s 2 := by rw [et]; exact ⟨nI_pos' (by omega), nI_lt ht (by omega)⟩
  have i1 : jx_ix (nI t) 6 = some t := by rw [jx_ix_n (by omega), if_pos (by omega)]
  have n6 : ¬ nI t = 6 := by
    intro r
    have := (nI_eq (by omega) (by omega)).mp (show nI t = nI 6 from r)
    omega
  have l6 : ¬ (6 : Int32) ≤ nI t := nI_ge (a := t) (b := 6) (by omega) (by omega)
  have g := (gc.2.1 t ht).2.2
  exact ⟨_, (show _ = some (Sum.inl (some (Value.int ((cq_gn Lo n (s, a)).2 6 t - a 6 t))), sw h (some 49) F (s, a, w) ((cq_gn Lo n (s, sp_cp a pa)).1, (cq_gn Lo n (s, sp_cp a pa)).2, w1) q z T x ru im tp R) from by
    simp only [cr_32, eb_32_0, eb_32_35, jx_ns_r, jx_ns_n, jx_ns_q, jx_ns_i, jx_gl_0, jx_gl_s, if_true, if_false, ite_true, ite_false, eq_self, Bool.false_eq_true, List.length_cons, List.length_nil, Nat.zero_le, Nat.reduceAdd, Nat.reduceSub, Nat.reduceLeDiff, Nat.reduceLT, Nat.reduceEqDiff, Int.reduceToNat, reduceIte, xe_aload, jx_rv_r, jx_rv_n, jx_rv_q, xk_getf, jx_gf_i, jx_ov_s, ak_V, xe_ifnull_n, xe_ifnull_r, xk_iload, jx_iv_i, ak_I, xe_i2l, xe_lconst, xl_1, xl_100, xe_sta3, jx_cc_i, jx_cc_v, Nat.reduceMod, Nat.reduceDiv, xe_ifeq, xe_iconst, xi_6, xx_6, xe_icmp_eq, xe_inv1, jx_cl9_i, xe_ifne, xe_goto_w, xi_m1, xe_ireturn, xe_inv0, xe_inv2, xe_pop, jx_2_i, jx_2_l, jx_2_r, jx_2_n, jx_2_q, or_self, xe_icmp_ge, xk_iald, ja_ia, ak_A, true_or, or_true, xe_isub, xi_0, xx_0, xe_istore, xe_icmp_ne, xi_1, xx_1, xe_ishl, xe_goto, xe_ior, xk_iinc, ak_C, jx_s1, List.set_cons_zero, List.set_cons_succ, jx_2_u, jx_2_s, jx_k_i, jx_k_l, jx_k_r, jx_k_n, jx_k_u, jx_k_s, jx_k_q, sw_r, sw_f, sw_s, sw_wo, sw_ro, sw_rp, sw_woo, sw_wor, sw_wpo, sw_wpr, cq_f, cq_s, va_up_s, va_rf_s, va_rf_n, cq_inL, hq1, and_self, sp_10, n6, l6, sc_isThing1, hpe, hc, hl, e1, i1, g])⟩
theorem sc_held6 {ps : Nat → Int32} {pa : Nat → Nat → Int32} {pw : Nat → Int64} (iv : cq_iv s a day tm pm now) (hn : now ≤ 999) (h1n : 1 ≤ n) (h100 : n ≤ 100) (hlo : sp_lo F ru lo) (hL : sp_lw (D + 2) h lo Lo) :
    ∃ p', jx_cr (d + D + 7) 32 [.ref 48, .int (nI n), .int 6] (sw h (some 49) F (s, a, w) (ps, pa, pw) q z T x ru im tp R) = some (.inl (some (.int (sp_hm ((cq_gn Lo n (s, a)).2 6) (a 6) tm))), sw h (some 49) F (s, a, w) p' q z T x ru im tp R) := by
  have t6 := iv.2.2.2.2.1
  have p6 := iv.2.2.2.2.2.2.1
  have et := iv.2.2.2.1
  have ce : cq_eq tm pm day s s a (sp_cp a pa) := sp_cp_e t6 p6 iv.2.2.1
  have iv2 := cq_iv_c iv ce
  have gc := cq_gn_c (n := n) (Lo := Lo) iv (by omega) ce
  have hq1 : 1 ≤ (nI n).toInt64 ∧ (nI n).toInt64 ≤ 100 := ⟨sp_l64.mpr (show nI 1 ≤ nI n from nI_le h1n (by omega)), sp_l64.mpr (show nI n ≤ nI 100 from nI_le h100 (by omega))⟩
  obtain ⟨w1, e1⟩ := sp_goesOn (d := d) (n := n) (cu := some 49) (F := F) (o := (s, a, w)) (pw := pw) (q := q) (z := z) (T := T) (x := x) (ru := ru) (im := im) (tp := tp) (R := R) iv2 (by omega) hL
  have hl := fun (d : Nat) (p : cq_C) => sc_law (d := d) (h := h) (cu := some 49) (F := F) (o := (s, a, w)) (p := p) (q := q) (z := z) (T := T) (x := x) (ru := ru) (im := im) (tp := tp) (R := R) hlo
  have hc := fun (d : Nat) => sp_copy (d := d) (h := h) (cu := some 49) (F := F) (s := s) (a := a) (w := w) (ps := ps) (pa := pa) (pw := pw) (q := q) (z := z) (T := T) (x := x) (ru := ru) (im := im) (tp := tp) (R := R)
  rw [sp_hm_c (fun k hk => (gc.2.1 k hk).2.2)]
  generalize (cq_gn Lo n (s, sp_cp a pa)) = G at e1
  have loop : ∀ m t, t + m = tm → jx_eb (d + D + 6) 32 86 [.ref 48, .int (nI n), .int 6, .int (sp_hm (G.2 6) (a 6) t), .int (nI t)] [] (sw h (some 49) F (s, a, w) (G.1, G.2, w1) q z T x ru im tp R) = some (.inl (some (.int (sp_hm (G.2 6) (a 6) tm))), sw h (some 49) F (s, a, w) (G.1, G.2, w1) q z T x ru im tp R) := by
    intro m
    induction m with
    | zero =>
      intro t ht
      have : t = tm := by omega
      subst this
      simp only [eb_32_86, eb_32_138, jx_ns_r, jx_ns_n, jx_ns_q, jx_ns_i, jx_gl_0, jx_gl_s, if_true, if_false, ite_true, ite_false, eq_self, Bool.false_eq_true, List.length_cons, List.length_nil, Nat.zero_le, Nat.reduceAdd, Nat.reduceSub, Nat.reduceLeDiff, Nat.reduceLT, Nat.reduceEqDiff, Int.reduceToNat, reduceIte, xe_aload, jx_rv_r, jx_rv_n, jx_rv_q, xk_getf, jx_gf_i, jx_ov_s, ak_V, xe_ifnull_n, xe_ifnull_r, xk_iload, jx_iv_i, ak_I, xe_i2l, xe_lconst, xl_1, xl_100, xe_sta3, jx_cc_i, jx_cc_v, Nat.reduceMod, Nat.reduceDiv, xe_ifeq, xe_iconst, xi_6, xx_6, xe_icmp_eq, xe_inv1, jx_cl9_i, xe_ifne, xe_goto_w, xi_m1, xe_ireturn, xe_inv0, xe_inv2, xe_pop, jx_2_i, jx_2_l, jx_2_r, jx_2_n, jx_2_q, or_self, xe_icmp_ge, xk_iald, ja_ia, ak_A, true_or, or_true, xe_isub, xi_0, xx_0, xe_istore, xe_icmp_ne, xi_1, xx_1, xe_ishl, xe_goto, xe_ior, xk_iinc, ak_C, jx_s1, List.set_cons_zero, List.set_cons_succ, jx_2_u, jx_2_s, jx_k_i, jx_k_l, jx_k_r, jx_k_n, jx_k_u, jx_k_s, jx_k_q, sw_r, sw_f, sw_s, sw_wo, sw_ro, sw_rp, sw_woo, sw_wor, sw_wpo, sw_wpr, cq_f, cq_s, va_up_s, va_rf_s, va_rf_n, et, nI_leI (show t < 2 ^ 31 by omega) (show t < 2 ^ 31 by omega), Nat.le_refl]
    | succ m ih =>
      intro t ht
      have i1 : jx_ix (nI t) 6 = some t := by rw [jx_ix_n (by omega), if_pos (by omega)]
      have h3 : ¬ nI tm ≤ nI t := nI_ge (by omega) (by omega)
      rw [← ih (t + 1) (by omega), eb_32_86]
      by_cases r : G.2 6 t = a 6 t <;> simp only [eb_32_129, eb_32_130, jx_ns_r, jx_ns_n, jx_ns_q, jx_ns_i, jx_gl_0, jx_gl_s, if_true, if_false, ite_true, ite_false, eq_self, Bool.false_eq_true, List.length_cons, List.length_nil, Nat.zero_le, Nat.reduceAdd, Nat.reduceSub, Nat.reduceLeDiff, Nat.reduceLT, Nat.reduceEqDiff, Int.reduceToNat, reduceIte, xe_aload, jx_rv_r, jx_rv_n, jx_rv_q, xk_getf, jx_gf_i, jx_ov_s, ak_V, xe_ifnull_n, xe_ifnull_r, xk_iload, jx_iv_i, ak_I, xe_i2l, xe_lconst, xl_1, xl_100, xe_sta3, jx_cc_i, jx_cc_v, Nat.reduceMod, Nat.reduceDiv, xe_ifeq, xe_iconst, xi_6, xx_6, xe_icmp_eq, xe_inv1, jx_cl9_i, xe_ifne, xe_goto_w, xi_m1, xe_ireturn, xe_inv0, xe_inv2, xe_pop, jx_2_i, jx_2_l, jx_2_r, jx_2_n, jx_2_q, or_self, xe_icmp_ge, xk_iald, ja_ia, ak_A, true_or, or_true, xe_isub, xi_0, xx_0, xe_istore, xe_icmp_ne, xi_1, xx_1, xe_ishl, xe_goto, xe_ior, xk_iinc, ak_C, jx_s1, List.set_cons_zero, List.set_cons_succ, jx_2_u, jx_2_s, jx_k_i, jx_k_l, jx_k_r, jx_k_n, jx_k_u, jx_k_s, jx_k_q, sw_r, sw_f, sw_s, sw_wo, sw_ro, sw_rp, sw_woo, sw_wor, sw_wpo, sw_wpr, cq_f, cq_s, va_up_s, va_rf_s, va_rf_n, et, h3, i1, r, sp_hm, nI_1]
  have := loop tm 0 (by omega)
  simp only [sp_hm, nI_0] at this
  exact ⟨_, (show _ = some (Sum.inl (some (Value.int (sp_hm (G.2 6) (a 6) tm))), sw h (some 49) F (s, a, w) (G.1, G.2, w1) q z T x ru im tp R) from by
    have l6 : (6 : Int32) ≤ 6 := by decide
    simp only [cr_32, eb_32_0, eb_32_35, eb_32_81, jx_ns_r, jx_ns_n, jx_ns_q, jx_ns_i, jx_gl_0, jx_gl_s, if_true, if_false, ite_true, ite_false, eq_self, Bool.false_eq_true, List.length_cons, List.length_nil, Nat.zero_le, Nat.reduceAdd, Nat.reduceSub, Nat.reduceLeDiff, Nat.reduceLT, Nat.reduceEqDiff, Int.reduceToNat, reduceIte, xe_aload, jx_rv_r, jx_rv_n, jx_rv_q, xk_getf, jx_gf_i, jx_ov_s, ak_V, xe_ifnull_n, xe_ifnull_r, xk_iload, jx_iv_i, ak_I, xe_i2l, xe_lconst, xl_1, xl_100, xe_sta3, jx_cc_i, jx_cc_v, Nat.reduceMod, Nat.reduceDiv, xe_ifeq, xe_iconst, xi_6, xx_6, xe_icmp_eq, xe_inv1, jx_cl9_i, xe_ifne, xe_goto_w, xi_m1, xe_ireturn, xe_inv0, xe_inv2, xe_pop, jx_2_i, jx_2_l, jx_2_r, jx_2_n, jx_2_q, or_self, xe_icmp_ge, xk_iald, ja_ia, ak_A, true_or, or_true, xe_isub, xi_0, xx_0, xe_istore, xe_icmp_ne, xi_1, xx_1, xe_ishl, xe_goto, xe_ior, xk_iinc, ak_C, jx_s1, List.set_cons_zero, List.set_cons_succ, jx_2_u, jx_2_s, jx_k_i, jx_k_l, jx_k_r, jx_k_n, jx_k_u, jx_k_s, jx_k_q, sw_r, sw_f, sw_s, sw_wo, sw_ro, sw_rp, sw_woo, sw_wor, sw_wpo, sw_wpr, cq_f, cq_s, va_up_s, va_rf_s, va_rf_n, cq_inL, hq1, and_self, sp_10, l6, hc, hl, e1]
    exact this)⟩
end SH
