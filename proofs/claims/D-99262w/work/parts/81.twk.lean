/-! THE TWIN: held, rests -/
set_option maxRecDepth 100000
section TK
variable {d : Nat} {h : jx_H} {s : Nat → Int32} {a : Nat → Nat → Int32} {E N : Nat → Int32} {Q : Nat → Nat → Int32} {W : Nat → Nat → Int64} {i k : Int32} {t u v tm pm day now D n m : Nat} {Lo : Option ((Nat → Int64) → Int64)}
theorem tq_keep2 : ∃ N' Q', tq_nf N N' ∧ tq_qf Q Q' ∧ tq_kp s a E Q' ∧ (∀ f, ¬ f = 49 → Q' f = Q f) ∧ jx_cr (d + 3) 126 [.ref 113] (tw h s a E N Q W) = some (.inl none, tw h s a E N' Q' W) := by
  obtain ⟨N', hN, e⟩ := tm_keepsAll (d := d) (h := h) (s := s) (a := a) (E := E) (N := N) (Q := Q) (W := W)
  refine ⟨N', _, hN, ⟨fun f h1 h2 => va_up_nj (by omega), va_up_nj (by omega), fun k hk => ?_⟩, fun k hk => ?_, fun f hf => va_up_nj hf, e⟩
  · show tq_im (Q 49) 4 s a E 35 k = _
    rw [tq_im, if_neg (by omega)]
  · show tq_im (Q 49) 4 s a E 35 (2800 + k) = _
    rw [tq_im, if_pos (by omega)]
    congr 1
    omega
theorem tm_held0 (et : s 2 = nI tm) (htm : tm ≤ 6) (hq : ¬ (0 < s 0 ∧ (1 ≤ i.toInt64 ∧ i.toInt64 ≤ 100) ∧ (k = 6 ∨ 0 ≤ k ∧ k < s 2))) : jx_cr (d + 3) 134 [.ref 113, .int i, .int k] (tw h s a E N Q W) = some (.inl (some (.int (-1))), (tw h s a E N Q W)) := by
  by_cases q0 : 0 < s 0
  · by_cases q1 : 1 ≤ i.toInt64 ∧ i.toInt64 ≤ 100
    · by_cases q2 : k = 6
      · exact absurd ⟨q0, q1, .inl q2⟩ hq
      · have q3 : ¬ (0 ≤ k ∧ k < s 2) := fun r => hq ⟨q0, q1, .inr r⟩
        simp only [cr_134, eb_134_0, eb_134_33, jx_ns_r, jx_ns_n, jx_ns_q, jx_ns_i, jx_gl_0, jx_gl_s, if_true, if_false, ite_true, ite_false, eq_self, Bool.false_eq_true, List.length_cons, List.length_nil, Nat.zero_le, Nat.reduceAdd, Nat.reduceSub, Nat.reduceLeDiff, Nat.reduceLT, Nat.reduceEqDiff, Int.reduceToNat, reduceIte, xe_aload, jx_rv_r, jx_rv_n, jx_rv_q, xe_inv0, jx_cc_i, jx_cc_v, Nat.reduceMod, Nat.reduceDiv, jx_cl9_i, xe_ifeq, xk_iload, jx_iv_i, ak_I, xe_i2l, xe_lconst, xl_1, xl_100, xe_sta3, xe_iconst, xi_6, xx_6, xe_icmp_eq, xe_inv1, xe_ifne, xe_goto_w, xi_m1, xe_ireturn, xi_0, xx_0, xe_istore, xe_icmp_ge, xk_getf, jx_gf_i, jx_ov_s, ak_V, xk_iast, ja_is, ak_S, ak_P, xk_iinc, ak_C, xi_1, xe_goto, xe_pop, jx_2_i, jx_2_l, jx_2_r, jx_2_n, jx_2_q, or_self, xi_5, xx_5, xk_iald, ja_ia, ak_A, true_or, or_true, xe_dup2, xx_1, xe_iadd, xi_2, xx_2, xe_ishl, xe_ior, xe_icmp_ne, jx_s1, List.set_cons_zero, List.set_cons_succ, jx_2_u, jx_2_s, jx_k_i, jx_k_l, jx_k_r, jx_k_n, jx_k_u, jx_k_s, jx_k_q, tw_r, tw_f, tq_r, va_up_s, tm_isCourt, q0, tm_isThing et htm, tq_inL, q1, q2, q3, and_self, sp_10]
    · simp only [cr_134, eb_134_0, eb_134_33, jx_ns_r, jx_ns_n, jx_ns_q, jx_ns_i, jx_gl_0, jx_gl_s, if_true, if_false, ite_true, ite_false, eq_self, Bool.false_eq_true, List.length_cons, List.length_nil, Nat.zero_le, Nat.reduceAdd, Nat.reduceSub, Nat.reduceLeDiff, Nat.reduceLT, Nat.reduceEqDiff, Int.reduceToNat, reduceIte, xe_aload, jx_rv_r, jx_rv_n, jx_rv_q, xe_inv0, jx_cc_i, jx_cc_v, Nat.reduceMod, Nat.reduceDiv, jx_cl9_i, xe_ifeq, xk_iload, jx_iv_i, ak_I, xe_i2l, xe_lconst, xl_1, xl_100, xe_sta3, xe_iconst, xi_6, xx_6, xe_icmp_eq, xe_inv1, xe_ifne, xe_goto_w, xi_m1, xe_ireturn, xi_0, xx_0, xe_istore, xe_icmp_ge, xk_getf, jx_gf_i, jx_ov_s, ak_V, xk_iast, ja_is, ak_S, ak_P, xk_iinc, ak_C, xi_1, xe_goto, xe_pop, jx_2_i, jx_2_l, jx_2_r, jx_2_n, jx_2_q, or_self, xi_5, xx_5, xk_iald, ja_ia, ak_A, true_or, or_true, xe_dup2, xx_1, xe_iadd, xi_2, xx_2, xe_ishl, xe_ior, xe_icmp_ne, jx_s1, List.set_cons_zero, List.set_cons_succ, jx_2_u, jx_2_s, jx_k_i, jx_k_l, jx_k_r, jx_k_n, jx_k_u, jx_k_s, jx_k_q, tw_r, tw_f, tq_r, va_up_s, tm_isCourt, q0, tq_inL, q1, sp_10]
  · simp only [cr_134, eb_134_0, eb_134_33, jx_ns_r, jx_ns_n, jx_ns_q, jx_ns_i, jx_gl_0, jx_gl_s, if_true, if_false, ite_true, ite_false, eq_self, Bool.false_eq_true, List.length_cons, List.length_nil, Nat.zero_le, Nat.reduceAdd, Nat.reduceSub, Nat.reduceLeDiff, Nat.reduceLT, Nat.reduceEqDiff, Int.reduceToNat, reduceIte, xe_aload, jx_rv_r, jx_rv_n, jx_rv_q, xe_inv0, jx_cc_i, jx_cc_v, Nat.reduceMod, Nat.reduceDiv, jx_cl9_i, xe_ifeq, xk_iload, jx_iv_i, ak_I, xe_i2l, xe_lconst, xl_1, xl_100, xe_sta3, xe_iconst, xi_6, xx_6, xe_icmp_eq, xe_inv1, xe_ifne, xe_goto_w, xi_m1, xe_ireturn, xi_0, xx_0, xe_istore, xe_icmp_ge, xk_getf, jx_gf_i, jx_ov_s, ak_V, xk_iast, ja_is, ak_S, ak_P, xk_iinc, ak_C, xi_1, xe_goto, xe_pop, jx_2_i, jx_2_l, jx_2_r, jx_2_n, jx_2_q, or_self, xi_5, xx_5, xk_iald, ja_ia, ak_A, true_or, or_true, xe_dup2, xx_1, xe_iadd, xi_2, xx_2, xe_ishl, xe_ior, xe_icmp_ne, jx_s1, List.set_cons_zero, List.set_cons_succ, jx_2_u, jx_2_s, jx_k_i, jx_k_l, jx_k_r, jx_k_n, jx_k_u, jx_k_s, jx_k_q, tw_r, tw_f, tq_r, va_up_s, tm_isCourt, q0]
theorem tm_held (h0 : 0 < s 0) (iv : cq_iv s a day tm pm now) (hn : now ≤ 999) (h1n : 1 ≤ n) (h100 : n ≤ 100) (hk : k = 6 ∨ (t < tm ∧ k = nI t)) (hL : tq_lw (D + 2) (E 1) Q Lo) :
    tq_fin h s a E N Q (jx_cr (d + D + 7) 134 [.ref 113, .int (nI n), .int k] (tw h s a E N Q W)) (if k = 6 then sp_hm ((cq_gn Lo n (s, a)).2 6) (a 6) tm else (cq_gn Lo n (s, a)).2 6 t - a 6 t) := by
  have t6 := iv.2.2.2.2.1; have p6 := iv.2.2.2.2.2.2.1; have es := iv.2.2.2.2.2.1; have et := iv.2.2.2.1; have d12 := iv.2.2.1; have d1 := iv.2.1
  have hq1 : 1 ≤ (nI n).toInt64 ∧ (nI n).toInt64 ≤ 100 := sp_rg (a := 1) (b := 100) h1n h100 (by omega)
  have k3 : k = 6 ∨ ¬ k = 6 ∧ (0 ≤ k ∧ k < s 2) := by
    rcases hk with r | ⟨r1, r2⟩
    · exact .inl r
    · refine .inr ⟨fun q => ?_, r2 ▸ sp_q r1 (by omega) et⟩
      rw [r2] at q
      have := (nI_eq (by omega) (by omega)).mp (show nI t = nI 6 from q)
      omega
  -- the row of zeros
  have z := jx_lp (d := d + D + 6) (y := 134) (L := 37) (n := 6) (γ := Unit) (ls := fun m _ => [.ref 113, .int (nI n), .int k, .int (nI m), jx_un]) (H := fun m _ => tw h s a E N (va_up Q 44 (cq_fl m (fun _ => 0) (Q 44))) W)
    (I := fun _ _ => True)
    (G := fun r => r = jx_eb (d + D + 6) 134 56 [.ref 113, .int (nI n), .int k, .int (nI 6), jx_un] [] (tw h s a E N (va_up Q 44 (cq_fl 6 (fun _ => 0) (Q 44))) W)) ?_ ?_ 6 0 () (by omega) trivial
  rotate_left
  · intro m _ hm _
    have h3 : ¬ (6 : Int32) ≤ nI m := nI_ge (a := m) (b := 6) hm (by omega)
    have i1 := sp_ix hm (by decide)
    have es := cq_fl_s (n := m) (F := fun _ => 0) (g := Q 44)
    refine .inr ⟨(), trivial, ?_⟩
    rw [eb_134_37]
    simp only [jx_ns_r, jx_ns_n, jx_ns_q, jx_ns_i, jx_gl_0, jx_gl_s, if_true, if_false, ite_true, ite_false, eq_self, Bool.false_eq_true, List.length_cons, List.length_nil, Nat.zero_le, Nat.reduceAdd, Nat.reduceSub, Nat.reduceLeDiff, Nat.reduceLT, Nat.reduceEqDiff, Int.reduceToNat, reduceIte, xe_aload, jx_rv_r, jx_rv_n, jx_rv_q, xe_inv0, jx_cc_i, jx_cc_v, Nat.reduceMod, Nat.reduceDiv, jx_cl9_i, xe_ifeq, xk_iload, jx_iv_i, ak_I, xe_i2l, xe_lconst, xl_1, xl_100, xe_sta3, xe_iconst, xi_6, xx_6, xe_icmp_eq, xe_inv1, xe_ifne, xe_goto_w, xi_m1, xe_ireturn, xi_0, xx_0, xe_istore, xe_icmp_ge, xk_getf, jx_gf_i, jx_ov_s, ak_V, xk_iast, ja_is, ak_S, ak_P, xk_iinc, ak_C, xi_1, xe_goto, xe_pop, jx_2_i, jx_2_l, jx_2_r, jx_2_n, jx_2_q, or_self, xi_5, xx_5, xk_iald, ja_ia, ak_A, true_or, or_true, xe_dup2, xx_1, xe_iadd, xi_2, xx_2, xe_ishl, xe_ior, xe_icmp_ne, jx_s1, List.set_cons_zero, List.set_cons_succ, jx_2_u, jx_2_s, jx_k_i, jx_k_l, jx_k_r, jx_k_n, jx_k_u, jx_k_s, jx_k_q, tw_r, tw_f, tw_s, tq_r, tq_w, tw_wo, tw_wsc, tq_ile_u, tq_ilo_u, va_up_s, tw_w2, tw_w3, tw_w4, tw_w5, tw_w6, tw_w7, tw_w8, tw_w9, tw_w10, tw_w11, tw_w12, tw_w13, tw_w14, tw_w15, tw_w16, tw_w17, tw_w18, tw_w29, tw_w30, tw_w31, tw_w32, tw_w33, tw_w34, tw_w35, tw_w36, tw_w37, tw_w38, tw_w39, tw_w40, tw_w44, tw_w45, tw_w46, tw_w47, tw_w48, tw_w49, tw_w50, reduceIte, h3, i1, va_up_up, es, nI_1]
  · intro _ _
    have h3 : (6 : Int32) ≤ nI 6 := by decide
    simp only [eb_134_37, jx_ns_r, jx_ns_n, jx_ns_q, jx_ns_i, jx_gl_0, jx_gl_s, if_true, if_false, ite_true, ite_false, eq_self, Bool.false_eq_true, List.length_cons, List.length_nil, Nat.zero_le, Nat.reduceAdd, Nat.reduceSub, Nat.reduceLeDiff, Nat.reduceLT, Nat.reduceEqDiff, Int.reduceToNat, reduceIte, xe_aload, jx_rv_r, jx_rv_n, jx_rv_q, xe_inv0, jx_cc_i, jx_cc_v, Nat.reduceMod, Nat.reduceDiv, jx_cl9_i, xe_ifeq, xk_iload, jx_iv_i, ak_I, xe_i2l, xe_lconst, xl_1, xl_100, xe_sta3, xe_iconst, xi_6, xx_6, xe_icmp_eq, xe_inv1, xe_ifne, xe_goto_w, xi_m1, xe_ireturn, xi_0, xx_0, xe_istore, xe_icmp_ge, xk_getf, jx_gf_i, jx_ov_s, ak_V, xk_iast, ja_is, ak_S, ak_P, xk_iinc, ak_C, xi_1, xe_goto, xe_pop, jx_2_i, jx_2_l, jx_2_r, jx_2_n, jx_2_q, or_self, xi_5, xx_5, xk_iald, ja_ia, ak_A, true_or, or_true, xe_dup2, xx_1, xe_iadd, xi_2, xx_2, xe_ishl, xe_ior, xe_icmp_ne, jx_s1, List.set_cons_zero, List.set_cons_succ, jx_2_u, jx_2_s, jx_k_i, jx_k_l, jx_k_r, jx_k_n, jx_k_u, jx_k_s, jx_k_q, tw_r, tw_f, tq_r, va_up_s, h3]
  simp only [nI_0, cq_fl_0, va_up_id] at z
  generalize hQ0 : va_up Q 44 (cq_fl 6 (fun _ => 0) (Q 44)) = Q0 at z
  have qf0 : tq_qf Q Q0 := by rw [← hQ0]; exact tq_qf_up (by omega)
  have z44 : ∀ t, t < 6 → Q0 44 t = 0 := fun t ht => by
    rw [← hQ0]
    show cq_fl 6 (fun _ => 0) (Q 44) t = 0
    exact cq_fl_lt ht
  obtain ⟨N1, Q1, hN1, hQ1, hK, hQ9, e1⟩ := tq_keep2 (d := d + D + 3) (h := h) (s := s) (a := a) (E := E) (N := N) (Q := Q0) (W := W)
  have e44 : ∀ t, t < 6 → Q1 44 t = 0 := fun t ht => by rw [hQ9 44 (by omega)]; exact z44 t ht
  have hL1 := tq_lw_Q hL (tq_qf_l (tq_qf_t qf0 hQ1))
  -- the hours
  have hrs := jx_lp (d := d + D + 6) (y := 134) (L := 62) (n := n) (γ := (Nat → Int32) × (Nat → Nat → Int64)) (ls := fun m _ => [.ref 113, .int (nI n), .int k, .int (nI m), jx_un]) (H := fun m g => tw h (cq_gn Lo m (s, a)).1 (cq_gn Lo m (s, a)).2 E N1 (va_up Q1 44 g.1) g.2)
    (I := fun m g => ∀ t, t < 6 → g.1 t + a 6 t = (cq_gn Lo m (s, a)).2 6 t)
    (G := fun r => ∃ f W', (∀ t, t < 6 → f t + a 6 t = (cq_gn Lo n (s, a)).2 6 t) ∧ r = jx_eb (d + D + 6) 134 103 [.ref 113, .int (nI n), .int k, .int (nI n), jx_un] [] (tw h (cq_gn Lo n (s, a)).1 (cq_gn Lo n (s, a)).2 E N1 (va_up Q1 44 f) W')) ?_ ?_ n 0 (Q1 44, W) (by omega) (fun t ht => by simp only [e44 t ht]; exact Int32.zero_add _)
  · obtain ⟨f, W2, hf, eh⟩ := hrs
    simp only [nI_0, va_up_id, cq_gn] at eh
    obtain ⟨N4, hN4, e4⟩ := tq_lay (d := d + D + 3) (h := h) (s := (cq_gn Lo n (s, a)).1) (a := (cq_gn Lo n (s, a)).2) (E := E) (N := N1) (Q := va_up Q1 44 f) (W := W2) (tq_kp_up hK (by omega)) (fun _ _ => rfl)
    have ob : tq_ob a (cq_gn Lo n (s, a)).2 := tq_ob_gn tq_ob_r
    generalize (cq_gn Lo n (s, a)).2 6 = T at hf
    have c0 : ∀ t, t < 6 → (f t = 0 ↔ T t = a 6 t) := by
      intro t ht
      rw [← hf t ht]
      constructor
      · intro r; rw [r]; exact Int32.zero_add _
      · intro r
        have := congrArg (fun z => z - a 6 t) r
        simp only [Int32.add_sub_cancel, Int32.sub_self] at this
        exact this
    have cv : ∀ t, t < 6 → f t = T t - a 6 t := fun t ht => by rw [← hf t ht, Int32.add_sub_cancel]
    have nn := jx_lp (d := d + D + 6) (y := 134) (L := 112) (n := tm) (γ := Unit) (ls := fun m _ => [.ref 113, .int (nI n), .int k, .int (sp_hm T (a 6) m), .int (nI m)]) (H := fun m _ => tw h s (sp_sa a (cq_gn Lo n (s, a)).2) E N4 (va_up Q1 44 f) W2)
      (I := fun _ _ => True)
      (G := fun r => r = jx_eb (d + D + 6) 134 150 [.ref 113, .int (nI n), .int k, .int (sp_hm T (a 6) tm), .int (nI tm)] [] (tw h s (sp_sa a (cq_gn Lo n (s, a)).2) E N4 (va_up Q1 44 f) W2)) ?_ ?_ tm 0 () (by omega) trivial
    · simp only [nI_0, sp_hm] at nn
      refine ⟨_, _, va_up Q1 44 f, W2, tq_al_sa ob, tq_nf_t hN1 hN4, tq_qf_t (tq_qf_t qf0 hQ1) (tq_qf_up (by omega)), ?_⟩
      rcases hk with r | ⟨r1, r2⟩
      · simp only [cr_134, eb_134_0, eb_134_35, jx_ns_r, jx_ns_n, jx_ns_q, jx_ns_i, jx_gl_0, jx_gl_s, if_true, if_false, ite_true, ite_false, eq_self, Bool.false_eq_true, List.length_cons, List.length_nil, Nat.zero_le, Nat.reduceAdd, Nat.reduceSub, Nat.reduceLeDiff, Nat.reduceLT, Nat.reduceEqDiff, Int.reduceToNat, reduceIte, xe_aload, jx_rv_r, jx_rv_n, jx_rv_q, xe_inv0, jx_cc_i, jx_cc_v, Nat.reduceMod, Nat.reduceDiv, jx_cl9_i, xe_ifeq, xk_iload, jx_iv_i, ak_I, xe_i2l, xe_lconst, xl_1, xl_100, xe_sta3, xe_iconst, xi_6, xx_6, xe_icmp_eq, xe_inv1, xe_ifne, xe_goto_w, xi_m1, xe_ireturn, xi_0, xx_0, xe_istore, xe_icmp_ge, xk_getf, jx_gf_i, jx_ov_s, ak_V, xk_iast, ja_is, ak_S, ak_P, xk_iinc, ak_C, xi_1, xe_goto, xe_pop, jx_2_i, jx_2_l, jx_2_r, jx_2_n, jx_2_q, or_self, xi_5, xx_5, xk_iald, ja_ia, ak_A, true_or, or_true, xe_dup2, xx_1, xe_iadd, xi_2, xx_2, xe_ishl, xe_ior, xe_icmp_ne, jx_s1, List.set_cons_zero, List.set_cons_succ, jx_2_u, jx_2_s, jx_k_i, jx_k_l, jx_k_r, jx_k_n, jx_k_u, jx_k_s, jx_k_q, tw_r, tw_f, tq_r, va_up_s, tm_isCourt, h0, tq_inL, hq1, and_self, sp_10, r] at *
        rw [z]
        simp only [eb_134_56, jx_ns_r, jx_ns_n, jx_ns_q, jx_ns_i, jx_gl_0, jx_gl_s, if_true, if_false, ite_true, ite_false, eq_self, Bool.false_eq_true, List.length_cons, List.length_nil, Nat.zero_le, Nat.reduceAdd, Nat.reduceSub, Nat.reduceLeDiff, Nat.reduceLT, Nat.reduceEqDiff, Int.reduceToNat, reduceIte, xe_aload, jx_rv_r, jx_rv_n, jx_rv_q, xe_inv0, jx_cc_i, jx_cc_v, Nat.reduceMod, Nat.reduceDiv, jx_cl9_i, xe_ifeq, xk_iload, jx_iv_i, ak_I, xe_i2l, xe_lconst, xl_1, xl_100, xe_sta3, xe_iconst, xi_6, xx_6, xe_icmp_eq, xe_inv1, xe_ifne, xe_goto_w, xi_m1, xe_ireturn, xi_0, xx_0, xe_istore, xe_icmp_ge, xk_getf, jx_gf_i, jx_ov_s, ak_V, xk_iast, ja_is, ak_S, ak_P, xk_iinc, ak_C, xi_1, xe_goto, xe_pop, jx_2_i, jx_2_l, jx_2_r, jx_2_n, jx_2_q, or_self, xi_5, xx_5, xk_iald, ja_ia, ak_A, true_or, or_true, xe_dup2, xx_1, xe_iadd, xi_2, xx_2, xe_ishl, xe_ior, xe_icmp_ne, jx_s1, List.set_cons_zero, List.set_cons_succ, jx_2_u, jx_2_s, jx_k_i, jx_k_l, jx_k_r, jx_k_n, jx_k_u, jx_k_s, jx_k_q, tw_r, tw_f, tq_r, va_up_s, e1]
        rw [eh]
        simp only [eb_134_103, jx_ns_r, jx_ns_n, jx_ns_q, jx_ns_i, jx_gl_0, jx_gl_s, if_true, if_false, ite_true, ite_false, eq_self, Bool.false_eq_true, List.length_cons, List.length_nil, Nat.zero_le, Nat.reduceAdd, Nat.reduceSub, Nat.reduceLeDiff, Nat.reduceLT, Nat.reduceEqDiff, Int.reduceToNat, reduceIte, xe_aload, jx_rv_r, jx_rv_n, jx_rv_q, xe_inv0, jx_cc_i, jx_cc_v, Nat.reduceMod, Nat.reduceDiv, jx_cl9_i, xe_ifeq, xk_iload, jx_iv_i, ak_I, xe_i2l, xe_lconst, xl_1, xl_100, xe_sta3, xe_iconst, xi_6, xx_6, xe_icmp_eq, xe_inv1, xe_ifne, xe_goto_w, xi_m1, xe_ireturn, xi_0, xx_0, xe_istore, xe_icmp_ge, xk_getf, jx_gf_i, jx_ov_s, ak_V, xk_iast, ja_is, ak_S, ak_P, xk_iinc, ak_C, xi_1, xe_goto, xe_pop, jx_2_i, jx_2_l, jx_2_r, jx_2_n, jx_2_q, or_self, xi_5, xx_5, xk_iald, ja_ia, ak_A, true_or, or_true, xe_dup2, xx_1, xe_iadd, xi_2, xx_2, xe_ishl, xe_ior, xe_icmp_ne, jx_s1, List.set_cons_zero, List.set_cons_succ, jx_2_u, jx_2_s, jx_k_i, jx_k_l, jx_k_r, jx_k_n, jx_k_u, jx_k_s, jx_k_q, tw_r, tw_f, tq_r, va_up_s, e4]
        rw [nn]
        simp only [eb_134_150, eb_134_166, jx_ns_r, jx_ns_n, jx_ns_q, jx_ns_i, jx_gl_0, jx_gl_s, if_true, if_false, ite_true, ite_false, eq_self, Bool.false_eq_true, List.length_cons, List.length_nil, Nat.zero_le, Nat.reduceAdd, Nat.reduceSub, Nat.reduceLeDiff, Nat.reduceLT, Nat.reduceEqDiff, Int.reduceToNat, reduceIte, xe_aload, jx_rv_r, jx_rv_n, jx_rv_q, xe_inv0, jx_cc_i, jx_cc_v, Nat.reduceMod, Nat.reduceDiv, jx_cl9_i, xe_ifeq, xk_iload, jx_iv_i, ak_I, xe_i2l, xe_lconst, xl_1, xl_100, xe_sta3, xe_iconst, xi_6, xx_6, xe_icmp_eq, xe_inv1, xe_ifne, xe_goto_w, xi_m1, xe_ireturn, xi_0, xx_0, xe_istore, xe_icmp_ge, xk_getf, jx_gf_i, jx_ov_s, ak_V, xk_iast, ja_is, ak_S, ak_P, xk_iinc, ak_C, xi_1, xe_goto, xe_pop, jx_2_i, jx_2_l, jx_2_r, jx_2_n, jx_2_q, or_self, xi_5, xx_5, xk_iald, ja_ia, ak_A, true_or, or_true, xe_dup2, xx_1, xe_iadd, xi_2, xx_2, xe_ishl, xe_ior, xe_icmp_ne, jx_s1, List.set_cons_zero, List.set_cons_succ, jx_2_u, jx_2_s, jx_k_i, jx_k_l, jx_k_r, jx_k_n, jx_k_u, jx_k_s, jx_k_q, tw_r, tw_f, tq_r, va_up_s]
      · have n6 : ¬ nI t = 6 := by
          intro q
          have := (nI_eq (by omega) (by omega)).mp (show nI t = nI 6 from q)
          omega
        have hth := sp_q r1 (by omega) et
        have it := sp_ix (show t < 6 by omega) (by decide)
        have cv := cv t (by omega)
        subst r2
        simp only [cr_134, eb_134_0, eb_134_35, jx_ns_r, jx_ns_n, jx_ns_q, jx_ns_i, jx_gl_0, jx_gl_s, if_true, if_false, ite_true, ite_false, eq_self, Bool.false_eq_true, List.length_cons, List.length_nil, Nat.zero_le, Nat.reduceAdd, Nat.reduceSub, Nat.reduceLeDiff, Nat.reduceLT, Nat.reduceEqDiff, Int.reduceToNat, reduceIte, xe_aload, jx_rv_r, jx_rv_n, jx_rv_q, xe_inv0, jx_cc_i, jx_cc_v, Nat.reduceMod, Nat.reduceDiv, jx_cl9_i, xe_ifeq, xk_iload, jx_iv_i, ak_I, xe_i2l, xe_lconst, xl_1, xl_100, xe_sta3, xe_iconst, xi_6, xx_6, xe_icmp_eq, xe_inv1, xe_ifne, xe_goto_w, xi_m1, xe_ireturn, xi_0, xx_0, xe_istore, xe_icmp_ge, xk_getf, jx_gf_i, jx_ov_s, ak_V, xk_iast, ja_is, ak_S, ak_P, xk_iinc, ak_C, xi_1, xe_goto, xe_pop, jx_2_i, jx_2_l, jx_2_r, jx_2_n, jx_2_q, or_self, xi_5, xx_5, xk_iald, ja_ia, ak_A, true_or, or_true, xe_dup2, xx_1, xe_iadd, xi_2, xx_2, xe_ishl, xe_ior, xe_icmp_ne, jx_s1, List.set_cons_zero, List.set_cons_succ, jx_2_u, jx_2_s, jx_k_i, jx_k_l, jx_k_r, jx_k_n, jx_k_u, jx_k_s, jx_k_q, tw_r, tw_f, tq_r, va_up_s, tm_isCourt, h0, tm_isThing et t6, hth, n6, tq_inL, hq1, and_self, sp_10]
        rw [z]
        simp only [eb_134_56, jx_ns_r, jx_ns_n, jx_ns_q, jx_ns_i, jx_gl_0, jx_gl_s, if_true, if_false, ite_true, ite_false, eq_self, Bool.false_eq_true, List.length_cons, List.length_nil, Nat.zero_le, Nat.reduceAdd, Nat.reduceSub, Nat.reduceLeDiff, Nat.reduceLT, Nat.reduceEqDiff, Int.reduceToNat, reduceIte, xe_aload, jx_rv_r, jx_rv_n, jx_rv_q, xe_inv0, jx_cc_i, jx_cc_v, Nat.reduceMod, Nat.reduceDiv, jx_cl9_i, xe_ifeq, xk_iload, jx_iv_i, ak_I, xe_i2l, xe_lconst, xl_1, xl_100, xe_sta3, xe_iconst, xi_6, xx_6, xe_icmp_eq, xe_inv1, xe_ifne, xe_goto_w, xi_m1, xe_ireturn, xi_0, xx_0, xe_istore, xe_icmp_ge, xk_getf, jx_gf_i, jx_ov_s, ak_V, xk_iast, ja_is, ak_S, ak_P, xk_iinc, ak_C, xi_1, xe_goto, xe_pop, jx_2_i, jx_2_l, jx_2_r, jx_2_n, jx_2_q, or_self, xi_5, xx_5, xk_iald, ja_ia, ak_A, true_or, or_true, xe_dup2, xx_1, xe_iadd, xi_2, xx_2, xe_ishl, xe_ior, xe_icmp_ne, jx_s1, List.set_cons_zero, List.set_cons_succ, jx_2_u, jx_2_s, jx_k_i, jx_k_l, jx_k_r, jx_k_n, jx_k_u, jx_k_s, jx_k_q, tw_r, tw_f, tq_r, va_up_s, e1]
        rw [eh]
        simp only [eb_134_103, jx_ns_r, jx_ns_n, jx_ns_q, jx_ns_i, jx_gl_0, jx_gl_s, if_true, if_false, ite_true, ite_false, eq_self, Bool.false_eq_true, List.length_cons, List.length_nil, Nat.zero_le, Nat.reduceAdd, Nat.reduceSub, Nat.reduceLeDiff, Nat.reduceLT, Nat.reduceEqDiff, Int.reduceToNat, reduceIte, xe_aload, jx_rv_r, jx_rv_n, jx_rv_q, xe_inv0, jx_cc_i, jx_cc_v, Nat.reduceMod, Nat.reduceDiv, jx_cl9_i, xe_ifeq, xk_iload, jx_iv_i, ak_I, xe_i2l, xe_lconst, xl_1, xl_100, xe_sta3, xe_iconst, xi_6, xx_6, xe_icmp_eq, xe_inv1, xe_ifne, xe_goto_w, xi_m1, xe_ireturn, xi_0, xx_0, xe_istore, xe_icmp_ge, xk_getf, jx_gf_i, jx_ov_s, ak_V, xk_iast, ja_is, ak_S, ak_P, xk_iinc, ak_C, xi_1, xe_goto, xe_pop, jx_2_i, jx_2_l, jx_2_r, jx_2_n, jx_2_q, or_self, xi_5, xx_5, xk_iald, ja_ia, ak_A, true_or, or_true, xe_dup2, xx_1, xe_iadd, xi_2, xx_2, xe_ishl, xe_ior, xe_icmp_ne, jx_s1, List.set_cons_zero, List.set_cons_succ, jx_2_u, jx_2_s, jx_k_i, jx_k_l, jx_k_r, jx_k_n, jx_k_u, jx_k_s, jx_k_q, tw_r, tw_f, tq_r, va_up_s, e4]
        rw [nn]
        simp only [eb_134_150, eb_134_160, eb_134_166, jx_ns_r, jx_ns_n, jx_ns_q, jx_ns_i, jx_gl_0, jx_gl_s, if_true, if_false, ite_true, ite_false, eq_self, Bool.false_eq_true, List.length_cons, List.length_nil, Nat.zero_le, Nat.reduceAdd, Nat.reduceSub, Nat.reduceLeDiff, Nat.reduceLT, Nat.reduceEqDiff, Int.reduceToNat, reduceIte, xe_aload, jx_rv_r, jx_rv_n, jx_rv_q, xe_inv0, jx_cc_i, jx_cc_v, Nat.reduceMod, Nat.reduceDiv, jx_cl9_i, xe_ifeq, xk_iload, jx_iv_i, ak_I, xe_i2l, xe_lconst, xl_1, xl_100, xe_sta3, xe_iconst, xi_6, xx_6, xe_icmp_eq, xe_inv1, xe_ifne, xe_goto_w, xi_m1, xe_ireturn, xi_0, xx_0, xe_istore, xe_icmp_ge, xk_getf, jx_gf_i, jx_ov_s, ak_V, xk_iast, ja_is, ak_S, ak_P, xk_iinc, ak_C, xi_1, xe_goto, xe_pop, jx_2_i, jx_2_l, jx_2_r, jx_2_n, jx_2_q, or_self, xi_5, xx_5, xk_iald, ja_ia, ak_A, true_or, or_true, xe_dup2, xx_1, xe_iadd, xi_2, xx_2, xe_ishl, xe_ior, xe_icmp_ne, jx_s1, List.set_cons_zero, List.set_cons_succ, jx_2_u, jx_2_s, jx_k_i, jx_k_l, jx_k_r, jx_k_n, jx_k_u, jx_k_s, jx_k_q, tw_r, tw_f, tq_r, va_up_s, n6, it, reduceIte, cv]
    · intro m _ hm _
      have h3 : ¬ nI tm ≤ nI m := nI_ge hm (by omega)
      have im := sp_ix (show m < 6 by omega) (by decide)
      have c0 := c0 m (by omega)
      refine .inr ⟨(), trivial, ?_⟩
      rw [sp_hm, eb_134_112]
      by_cases r : f m = 0
      · simp only [eb_134_142, jx_ns_r, jx_ns_n, jx_ns_q, jx_ns_i, jx_gl_0, jx_gl_s, if_true, if_false, ite_true, ite_false, eq_self, Bool.false_eq_true, List.length_cons, List.length_nil, Nat.zero_le, Nat.reduceAdd, Nat.reduceSub, Nat.reduceLeDiff, Nat.reduceLT, Nat.reduceEqDiff, Int.reduceToNat, reduceIte, xe_aload, jx_rv_r, jx_rv_n, jx_rv_q, xe_inv0, jx_cc_i, jx_cc_v, Nat.reduceMod, Nat.reduceDiv, jx_cl9_i, xe_ifeq, xk_iload, jx_iv_i, ak_I, xe_i2l, xe_lconst, xl_1, xl_100, xe_sta3, xe_iconst, xi_6, xx_6, xe_icmp_eq, xe_inv1, xe_ifne, xe_goto_w, xi_m1, xe_ireturn, xi_0, xx_0, xe_istore, xe_icmp_ge, xk_getf, jx_gf_i, jx_ov_s, ak_V, xk_iast, ja_is, ak_S, ak_P, xk_iinc, ak_C, xi_1, xe_goto, xe_pop, jx_2_i, jx_2_l, jx_2_r, jx_2_n, jx_2_q, or_self, xi_5, xx_5, xk_iald, ja_ia, ak_A, true_or, or_true, xe_dup2, xx_1, xe_iadd, xi_2, xx_2, xe_ishl, xe_ior, xe_icmp_ne, jx_s1, List.set_cons_zero, List.set_cons_succ, jx_2_u, jx_2_s, jx_k_i, jx_k_l, jx_k_r, jx_k_n, jx_k_u, jx_k_s, jx_k_q, tw_r, tw_f, tq_r, va_up_s, et, h3, im, reduceIte, r, c0.mp r, nI_1]
      · simp only [eb_134_141, eb_134_142, jx_ns_r, jx_ns_n, jx_ns_q, jx_ns_i, jx_gl_0, jx_gl_s, if_true, if_false, ite_true, ite_false, eq_self, Bool.false_eq_true, List.length_cons, List.length_nil, Nat.zero_le, Nat.reduceAdd, Nat.reduceSub, Nat.reduceLeDiff, Nat.reduceLT, Nat.reduceEqDiff, Int.reduceToNat, reduceIte, xe_aload, jx_rv_r, jx_rv_n, jx_rv_q, xe_inv0, jx_cc_i, jx_cc_v, Nat.reduceMod, Nat.reduceDiv, jx_cl9_i, xe_ifeq, xk_iload, jx_iv_i, ak_I, xe_i2l, xe_lconst, xl_1, xl_100, xe_sta3, xe_iconst, xi_6, xx_6, xe_icmp_eq, xe_inv1, xe_ifne, xe_goto_w, xi_m1, xe_ireturn, xi_0, xx_0, xe_istore, xe_icmp_ge, xk_getf, jx_gf_i, jx_ov_s, ak_V, xk_iast, ja_is, ak_S, ak_P, xk_iinc, ak_C, xi_1, xe_goto, xe_pop, jx_2_i, jx_2_l, jx_2_r, jx_2_n, jx_2_q, or_self, xi_5, xx_5, xk_iald, ja_ia, ak_A, true_or, or_true, xe_dup2, xx_1, xe_iadd, xi_2, xx_2, xe_ishl, xe_ior, xe_icmp_ne, jx_s1, List.set_cons_zero, List.set_cons_succ, jx_2_u, jx_2_s, jx_k_i, jx_k_l, jx_k_r, jx_k_n, jx_k_u, jx_k_s, jx_k_q, tw_r, tw_f, tq_r, va_up_s, et, h3, im, reduceIte, r, mt c0.mpr r, nI_1]
    · intro _ _
      have h3 : nI tm ≤ nI tm := (nI_leI (by omega) (by omega)).mpr (Nat.le_refl _)
      simp only [eb_134_112, jx_ns_r, jx_ns_n, jx_ns_q, jx_ns_i, jx_gl_0, jx_gl_s, if_true, if_false, ite_true, ite_false, eq_self, Bool.false_eq_true, List.length_cons, List.length_nil, Nat.zero_le, Nat.reduceAdd, Nat.reduceSub, Nat.reduceLeDiff, Nat.reduceLT, Nat.reduceEqDiff, Int.reduceToNat, reduceIte, xe_aload, jx_rv_r, jx_rv_n, jx_rv_q, xe_inv0, jx_cc_i, jx_cc_v, Nat.reduceMod, Nat.reduceDiv, jx_cl9_i, xe_ifeq, xk_iload, jx_iv_i, ak_I, xe_i2l, xe_lconst, xl_1, xl_100, xe_sta3, xe_iconst, xi_6, xx_6, xe_icmp_eq, xe_inv1, xe_ifne, xe_goto_w, xi_m1, xe_ireturn, xi_0, xx_0, xe_istore, xe_icmp_ge, xk_getf, jx_gf_i, jx_ov_s, ak_V, xk_iast, ja_is, ak_S, ak_P, xk_iinc, ak_C, xi_1, xe_goto, xe_pop, jx_2_i, jx_2_l, jx_2_r, jx_2_n, jx_2_q, or_self, xi_5, xx_5, xk_iald, ja_ia, ak_A, true_or, or_true, xe_dup2, xx_1, xe_iadd, xi_2, xx_2, xe_ishl, xe_ior, xe_icmp_ne, jx_s1, List.set_cons_zero, List.set_cons_succ, jx_2_u, jx_2_s, jx_k_i, jx_k_l, jx_k_r, jx_k_n, jx_k_u, jx_k_s, jx_k_q, tw_r, tw_f, tq_r, va_up_s, et, h3]
  · rintro m ⟨f, W1⟩ hm hf
    simp only at hf
    have h3 : ¬ nI n ≤ nI m := nI_ge hm (by omega)
    have ivm := cq_iv_gn (n := m) (Lo := Lo) iv (by omega)
    obtain ⟨W2, e2⟩ := tm_goes (d := d + 1) (h := h) (E := E) (N := N1) (Q := va_up Q1 44 f) (W := W1) ivm (by omega) (tq_lw_Q hL1 (fun f h1 h2 => va_up_nj (by omega)))
    rw [show d + 1 + D + 5 = d + D + 6 by omega] at e2
    have e8 : (cq_go Lo ((cq_gn Lo m (s, a)).1, (cq_gn Lo m (s, a)).2)).1 8 = cq_pk Lo (cq_gn Lo m (s, a)).1 (cq_gn Lo m (s, a)).2 := rfl
    have e6 : (cq_gn Lo (m + 1) (s, a)).2 6 = if cq_pk Lo (cq_gn Lo m (s, a)).1 (cq_gn Lo m (s, a)).2 = -1 then (cq_gn Lo m (s, a)).2 6 else upd ((cq_gn Lo m (s, a)).2 6) (cq_pk Lo (cq_gn Lo m (s, a)).1 (cq_gn Lo m (s, a)).2).toNatClampNeg ((cq_gn Lo m (s, a)).2 6 (cq_pk Lo (cq_gn Lo m (s, a)).1 (cq_gn Lo m (s, a)).2).toNatClampNeg + 1) := rfl
    have hp := cq_pt_6 (cq_pk_pt (Lo := Lo) ivm (by omega)) t6
    rcases hp with hp | ⟨u, hu, hp⟩
    · rw [hp] at e6 e8
      rw [if_pos rfl] at e6
      refine .inr ⟨(f, W2), by rw [e6]; exact hf, ?_⟩
      rw [eb_134_62]
      simp only [eb_134_97, jx_ns_r, jx_ns_n, jx_ns_q, jx_ns_i, jx_gl_0, jx_gl_s, if_true, if_false, ite_true, ite_false, eq_self, Bool.false_eq_true, List.length_cons, List.length_nil, Nat.zero_le, Nat.reduceAdd, Nat.reduceSub, Nat.reduceLeDiff, Nat.reduceLT, Nat.reduceEqDiff, Int.reduceToNat, reduceIte, xe_aload, jx_rv_r, jx_rv_n, jx_rv_q, xe_inv0, jx_cc_i, jx_cc_v, Nat.reduceMod, Nat.reduceDiv, jx_cl9_i, xe_ifeq, xk_iload, jx_iv_i, ak_I, xe_i2l, xe_lconst, xl_1, xl_100, xe_sta3, xe_iconst, xi_6, xx_6, xe_icmp_eq, xe_inv1, xe_ifne, xe_goto_w, xi_m1, xe_ireturn, xi_0, xx_0, xe_istore, xe_icmp_ge, xk_getf, jx_gf_i, jx_ov_s, ak_V, xk_iast, ja_is, ak_S, ak_P, xk_iinc, ak_C, xi_1, xe_goto, xe_pop, jx_2_i, jx_2_l, jx_2_r, jx_2_n, jx_2_q, or_self, xi_5, xx_5, xk_iald, ja_ia, ak_A, true_or, or_true, xe_dup2, xx_1, xe_iadd, xi_2, xx_2, xe_ishl, xe_ior, xe_icmp_ne, jx_s1, List.set_cons_zero, List.set_cons_succ, jx_2_u, jx_2_s, jx_k_i, jx_k_l, jx_k_r, jx_k_n, jx_k_u, jx_k_s, jx_k_q, tw_r, tw_f, tq_r, va_up_s, h3, e2, e8, nI_1]
      rfl
    · have nu : ¬ nI u = -1 := by
        intro q
        have := congrArg Int32.toInt q
        rw [nI_toInt (by omega)] at this
        have h2 : (-1 : Int32).toInt = -1 := rfl
        omega
      have iu := sp_ix hu (by decide)
      rw [hp] at e6 e8
      rw [if_neg nu, nI_clamp (by omega)] at e6
      refine .inr ⟨(upd f u (f u + 1), W2), fun t ht => ?_, ?_⟩
      · rw [e6]
        simp only [upd]
        by_cases r : t = u
        · subst r
          rw [if_pos rfl, if_pos rfl, ← hf t ht, Int32.add_assoc, Int32.add_assoc, Int32.add_comm 1]
        · rw [if_neg r, if_neg r]; exact hf t ht
      · rw [eb_134_62]
        simp only [eb_134_97, jx_ns_r, jx_ns_n, jx_ns_q, jx_ns_i, jx_gl_0, jx_gl_s, if_true, if_false, ite_true, ite_false, eq_self, Bool.false_eq_true, List.length_cons, List.length_nil, Nat.zero_le, Nat.reduceAdd, Nat.reduceSub, Nat.reduceLeDiff, Nat.reduceLT, Nat.reduceEqDiff, Int.reduceToNat, reduceIte, xe_aload, jx_rv_r, jx_rv_n, jx_rv_q, xe_inv0, jx_cc_i, jx_cc_v, Nat.reduceMod, Nat.reduceDiv, jx_cl9_i, xe_ifeq, xk_iload, jx_iv_i, ak_I, xe_i2l, xe_lconst, xl_1, xl_100, xe_sta3, xe_iconst, xi_6, xx_6, xe_icmp_eq, xe_inv1, xe_ifne, xe_goto_w, xi_m1, xe_ireturn, xi_0, xx_0, xe_istore, xe_icmp_ge, xk_getf, jx_gf_i, jx_ov_s, ak_V, xk_iast, ja_is, ak_S, ak_P, xk_iinc, ak_C, xi_1, xe_goto, xe_pop, jx_2_i, jx_2_l, jx_2_r, jx_2_n, jx_2_q, or_self, xi_5, xx_5, xk_iald, ja_ia, ak_A, true_or, or_true, xe_dup2, xx_1, xe_iadd, xi_2, xx_2, xe_ishl, xe_ior, xe_icmp_ne, jx_s1, List.set_cons_zero, List.set_cons_succ, jx_2_u, jx_2_s, jx_k_i, jx_k_l, jx_k_r, jx_k_n, jx_k_u, jx_k_s, jx_k_q, tw_r, tw_f, tw_s, tq_r, tq_w, tw_wo, tw_wsc, tq_ile_u, tq_ilo_u, va_up_s, tw_w2, tw_w3, tw_w4, tw_w5, tw_w6, tw_w7, tw_w8, tw_w9, tw_w10, tw_w11, tw_w12, tw_w13, tw_w14, tw_w15, tw_w16, tw_w17, tw_w18, tw_w29, tw_w30, tw_w31, tw_w32, tw_w33, tw_w34, tw_w35, tw_w36, tw_w37, tw_w38, tw_w39, tw_w40, tw_w44, tw_w45, tw_w46, tw_w47, tw_w48, tw_w49, tw_w50, h3, e2, e8, nu, iu, reduceIte, va_up_up, nI_1]
        rfl
  · rintro ⟨f, W1⟩ hf
    have h3 : nI n ≤ nI n := (nI_leI (by omega) (by omega)).mpr (Nat.le_refl _)
    exact ⟨f, W1, hf, by simp only [eb_134_62, jx_ns_r, jx_ns_n, jx_ns_q, jx_ns_i, jx_gl_0, jx_gl_s, if_true, if_false, ite_true, ite_false, eq_self, Bool.false_eq_true, List.length_cons, List.length_nil, Nat.zero_le, Nat.reduceAdd, Nat.reduceSub, Nat.reduceLeDiff, Nat.reduceLT, Nat.reduceEqDiff, Int.reduceToNat, reduceIte, xe_aload, jx_rv_r, jx_rv_n, jx_rv_q, xe_inv0, jx_cc_i, jx_cc_v, Nat.reduceMod, Nat.reduceDiv, jx_cl9_i, xe_ifeq, xk_iload, jx_iv_i, ak_I, xe_i2l, xe_lconst, xl_1, xl_100, xe_sta3, xe_iconst, xi_6, xx_6, xe_icmp_eq, xe_inv1, xe_ifne, xe_goto_w, xi_m1, xe_ireturn, xi_0, xx_0, xe_istore, xe_icmp_ge, xk_getf, jx_gf_i, jx_ov_s, ak_V, xk_iast, ja_is, ak_S, ak_P, xk_iinc, ak_C, xi_1, xe_goto, xe_pop, jx_2_i, jx_2_l, jx_2_r, jx_2_n, jx_2_q, or_self, xi_5, xx_5, xk_iald, ja_ia, ak_A, true_or, or_true, xe_dup2, xx_1, xe_iadd, xi_2, xx_2, xe_ishl, xe_ior, xe_icmp_ne, jx_s1, List.set_cons_zero, List.set_cons_succ, jx_2_u, jx_2_s, jx_k_i, jx_k_l, jx_k_r, jx_k_n, jx_k_u, jx_k_s, jx_k_q, h3]⟩
end TK
