/-! THE TWIN: rests -/
set_option maxRecDepth 100000
section TL
variable {d : Nat} {h : jx_H} {s : Nat → Int32} {a : Nat → Nat → Int32} {E N : Nat → Int32} {Q : Nat → Nat → Int32} {W : Nat → Nat → Int64} {i k : Int32} {t u v tm pm day now D n m : Nat} {Lo : Option ((Nat → Int64) → Int64)}
theorem tm_laysDeeds (iv : cq_iv s a day tm pm now) (hn : now ≤ 999) (ht : t < pm) (hu : u < pm) (h20 : n ≤ 20) (hL : tq_lw (D + 2) (E 1) Q Lo) :
    ∃ a' N' Q' W', tq_al a a' ∧ tq_nf N N' ∧ tq_qf Q Q' ∧ (∀ c, c < 25 → Q' 45 c = sp_rf Lo s a tm t u n c) ∧ (∀ c, c < 25 → Q' 46 c = sp_rg2 Lo s a tm t u n c) ∧ jx_cr (d + D + 7) 140 [.ref 113, .int (nI t), .int (nI u), .int (nI n)] (tw h s a E N Q W) = some (.inl none, tw h s a' E N' Q' W') := by
  have t6 := iv.2.2.2.2.1; have p6 := iv.2.2.2.2.2.2.1; have es := iv.2.2.2.2.2.1; have et := iv.2.2.2.1; have d12 := iv.2.2.1; have d1 := iv.2.1
  have it := sp_ix (show t < 6 by omega) (by decide)
  have iu := sp_ix (show u < 6 by omega) (by decide)
  obtain ⟨N1, Q1, hN1, hQ1, hK, e1⟩ := tq_keep (d := d + D + 3) (h := h) (s := s) (a := a) (E := E) (N := N) (Q := Q) (W := W)
  have hL1 := tq_lw_Q hL (tq_qf_l hQ1)
  have key := jx_lp (d := d + D + 6) (y := 140) (L := 7) (n := 25) (γ := (Nat → Nat → Int32) × (Nat → Int32) × (Nat → Nat → Int64)) (ls := fun m _ => [.ref 113, .int (nI t), .int (nI u), .int (nI n), .int (nI m)]) (H := fun m g => tw h s g.1 E g.2.1 (va_up (va_up Q1 45 (cq_fl m (sp_rf Lo s a tm t u n) (Q1 45))) 46 (cq_fl m (sp_rg2 Lo s a tm t u n) (Q1 46))) g.2.2)
    (I := fun m g => tq_al a g.1 ∧ tq_nf N g.2.1)
    (G := fun r => ∃ a' N' W', tq_al a a' ∧ tq_nf N N' ∧ r = some (.inl none, tw h s a' E N' (va_up (va_up Q1 45 (cq_fl 25 (sp_rf Lo s a tm t u n) (Q1 45))) 46 (cq_fl 25 (sp_rg2 Lo s a tm t u n) (Q1 46))) W')) ?_ ?_ 25 0 (a, N1, W) (by omega) ⟨tq_al_r, hN1⟩
  · obtain ⟨a', N', W', h1, h2, e⟩ := key
    have eQ : va_up (va_up Q1 45 (Q1 45)) 46 (Q1 46) = Q1 := by rw [va_up_id]; exact va_up_id
    simp only [nI_0, cq_fl_0, eQ] at e
    refine ⟨a', N', va_up (va_up Q1 45 (cq_fl 25 (sp_rf Lo s a tm t u n) (Q1 45))) 46 (cq_fl 25 (sp_rg2 Lo s a tm t u n) (Q1 46)), W', h1, h2, tq_qf_t hQ1 (tq_qf_t (tq_qf_up (by omega)) (tq_qf_up (by omega))), fun c hc => ?_, fun c hc => ?_, ?_⟩
    · show cq_fl 25 (sp_rf Lo s a tm t u n) (Q1 45) c = _
      exact cq_fl_lt hc
    · show cq_fl 25 (sp_rg2 Lo s a tm t u n) (Q1 46) c = _
      exact cq_fl_lt hc
    · simp only [cr_140, eb_140_0, jx_ns_r, jx_ns_n, jx_ns_q, jx_ns_i, jx_gl_0, jx_gl_s, if_true, if_false, ite_true, ite_false, eq_self, Bool.false_eq_true, List.length_cons, List.length_nil, Nat.zero_le, Nat.reduceAdd, Nat.reduceSub, Nat.reduceLeDiff, Nat.reduceLT, Nat.reduceEqDiff, Int.reduceToNat, reduceIte, xe_aload, jx_rv_r, jx_rv_n, jx_rv_q, xe_inv0, jx_cc_i, jx_cc_v, Nat.reduceMod, Nat.reduceDiv, jx_cl9_i, xe_iconst, xi_0, xx_0, xe_istore, xe_goto_w, xk_iload, jx_iv_i, ak_I, xi_25, xx_25, xe_icmp_ge, xk_getf, jx_gf_i, jx_ov_s, ak_V, xk_iald, ja_ia, ak_A, true_or, or_true, xi_10, xx_10, xi_5, xx_5, xe_idiv, xe_imul, xe_iadd, xi_999, xe_sta2, xk_iast, ja_is, ak_S, ak_P, xe_irem, xe_inv1, xe_isub, xk_iinc, ak_C, xi_1, xe_goto, xe_return, jx_s1, List.set_cons_zero, List.set_cons_succ, jx_2_i, jx_2_l, jx_2_r, jx_2_n, jx_2_u, jx_2_s, jx_2_q, jx_k_i, jx_k_l, jx_k_r, jx_k_n, jx_k_u, jx_k_s, jx_k_q, tw_r, tw_f, tq_r, va_up_s, e1]
      exact e
  · rintro m ⟨a1, N2, W1⟩ hm ⟨al, hN2⟩
    simp only at al hN2
    have h3 : ¬ (25 : Int32) ≤ nI m := nI_ge (a := m) (b := 25) hm (by omega)
    have ixm := sp_ix hm (by decide)
    have d5 := sp_d5 hm
    generalize hQ2 : va_up (va_up Q1 45 (cq_fl m (sp_rf Lo s a tm t u n) (Q1 45))) 46 (cq_fl m (sp_rg2 Lo s a tm t u n) (Q1 46)) = Q2
    have hK2 : tq_kp s a E Q2 := by rw [← hQ2]; exact tq_kp_up (tq_kp_up hK (by omega)) (by omega)
    have q45 : Q2 45 = cq_fl m (sp_rf Lo s a tm t u n) (Q1 45) := by rw [← hQ2]; rfl
    have q46 : Q2 46 = cq_fl m (sp_rg2 Lo s a tm t u n) (Q1 46) := by rw [← hQ2]; rfl
    have hL2 : tq_lw (D + 2) (E 1) Q2 Lo := tq_lw_Q hL1 (fun f h1 h2 => by rw [← hQ2, va_up_nj (by omega), va_up_nj (by omega)])
    have ce := cq_eq_tk (k := nI (10 * (m % 5))) (cq_eq_tk (k := nI (10 * (m / 5))) (tq_al_e (s := s) (day := day) t6 p6 al) ht) hu
    have iv2 := cq_iv_c (cq_iv_tk (t := u) (k := nI (10 * (m % 5))) (cq_iv_tk (t := t) (k := nI (10 * (m / 5))) iv)) ce
    have gc := cq_gn_c (n := n) (Lo := Lo) (cq_iv_tk (t := u) (k := nI (10 * (m % 5))) (cq_iv_tk (t := t) (k := nI (10 * (m / 5))) iv)) (by omega) ce
    obtain ⟨W2, e2⟩ := tm_goFor (d := d) (h := h) (E := E) (N := N2) (Q := Q2) (W := W1) (n := n) iv2 (by omega) hL2
    generalize eG : cq_gn Lo n (s, sp_tk (sp_tk a1 t (nI (10 * (m / 5)))) u (nI (10 * (m % 5)))) = G1 at e2 gc
    have ob : tq_ob a G1.2 := by rw [← eG]; exact tq_ob_gn (tq_ob_tk (tq_ob_tk al.1))
    have et2 : G1.1 2 = nI tm := by rw [← eG, cq_gn_2 (by omega)]; exact et
    have er : ∀ v, v < pm → cq_rk (G1.2 8 v) (G1.2 0) tm = sp_rs1 Lo s a tm t u n v m := by
      intro v hv
      rw [sp_rs1, (gc.2.2.2 v hv).2.2.2.1, ob 0 (by omega)]
    have e3 := er t ht
    have e4 := er u hu
    have hr := fun (d v : Nat) (hv : v < 6) (Q : Nat → Nat → Int32) => tm_rankOf (d := d) (h := h) (s := G1.1) (a := G1.2) (E := E) (N := N2) (Q := Q) (W := W2) (t := v) hv t6 et2
    have hr1 := fun d Q => hr d t (by omega) Q
    have hr2 := fun d Q => hr d u (by omega) Q
    simp only [e3, e4] at hr1 hr2
    generalize hQ3 : va_up (va_up Q1 45 (cq_fl (m + 1) (sp_rf Lo s a tm t u n) (Q1 45))) 46 (cq_fl (m + 1) (sp_rg2 Lo s a tm t u n) (Q1 46)) = Q3
    have hK3 : tq_kp s a E Q3 := by rw [← hQ3]; exact tq_kp_up (tq_kp_up hK (by omega)) (by omega)
    obtain ⟨N4, hN4, e5⟩ := tq_lay (d := d + D + 3) (h := h) (s := G1.1) (a := G1.2) (E := E) (N := N2) (Q := Q3) (W := W2) hK3 (fun _ _ => rfl)
    have eF : upd (cq_fl m (sp_rf Lo s a tm t u n) (Q1 45)) m (sp_rs1 Lo s a tm t u n t m - nI (m / 5)) = cq_fl (m + 1) (sp_rf Lo s a tm t u n) (Q1 45) := cq_fl_s
    have eH : upd (cq_fl m (sp_rg2 Lo s a tm t u n) (Q1 46)) m (sp_rs1 Lo s a tm t u n u m - nI (m % 5)) = cq_fl (m + 1) (sp_rg2 Lo s a tm t u n) (Q1 46) := cq_fl_s
    have eQ3 : va_up (va_up Q2 45 (cq_fl (m + 1) (sp_rf Lo s a tm t u n) (Q1 45))) 46 (cq_fl (m + 1) (sp_rg2 Lo s a tm t u n) (Q1 46)) = Q3 := by
      rw [← hQ3, ← hQ2]
      funext j
      simp only [va_up]
      by_cases j1 : j = 46
      · simp only [j1, if_true]
      · by_cases j0 : j = 45
        · simp only [j0, reduceIte, Nat.reduceEqDiff]
        · simp only [j1, j0, if_false]
    have k1 : ∀ f, va_up Q2 45 f 46 = Q2 46 := fun f => va_up_nj (by omega)
    have t1 : va_up a1 7 (upd (a1 7) t (cq_mn (a1 7 t + nI (10 * (m / 5))))) = sp_tk a1 t (nI (10 * (m / 5))) := rfl
    have t2 : ∀ b : Nat → Nat → Int32, va_up b 7 (upd (b 7) u (cq_mn (b 7 u + nI (10 * (m % 5))))) = sp_tk b u (nI (10 * (m % 5))) := fun b => rfl
    refine .inr ⟨(sp_sa a G1.2, N4, W2), ⟨tq_al_sa ob, tq_nf_t hN2 hN4⟩, ?_⟩
    rw [eb_140_7]
    simp only [jx_ns_r, jx_ns_n, jx_ns_q, jx_ns_i, jx_gl_0, jx_gl_s, if_true, if_false, ite_true, ite_false, eq_self, Bool.false_eq_true, List.length_cons, List.length_nil, Nat.zero_le, Nat.reduceAdd, Nat.reduceSub, Nat.reduceLeDiff, Nat.reduceLT, Nat.reduceEqDiff, Int.reduceToNat, reduceIte, xe_aload, jx_rv_r, jx_rv_n, jx_rv_q, xe_inv0, jx_cc_i, jx_cc_v, Nat.reduceMod, Nat.reduceDiv, jx_cl9_i, xe_iconst, xi_0, xx_0, xe_istore, xe_goto_w, xk_iload, jx_iv_i, ak_I, xi_25, xx_25, xe_icmp_ge, xk_getf, jx_gf_i, jx_ov_s, ak_V, xk_iald, ja_ia, ak_A, true_or, or_true, xi_10, xx_10, xi_5, xx_5, xe_idiv, xe_imul, xe_iadd, xi_999, xe_sta2, xk_iast, ja_is, ak_S, ak_P, xe_irem, xe_inv1, xe_isub, xk_iinc, ak_C, xi_1, xe_goto, xe_return, jx_s1, List.set_cons_zero, List.set_cons_succ, jx_2_i, jx_2_l, jx_2_r, jx_2_n, jx_2_u, jx_2_s, jx_2_q, jx_k_i, jx_k_l, jx_k_r, jx_k_n, jx_k_u, jx_k_s, jx_k_q, tw_r, tw_f, tw_w6, tw_w45, tw_w46, h3, it, iu, ixm, d5, sp_50, sp_m10, tq_upTo, tq_mn, t1, t2, e2, hr1, hr2, q45, q46, k1, eF, eH, eQ3, e5, nI_1]
  · rintro ⟨a1, N2, W1⟩ ⟨al, hN2⟩
    have h3 : (25 : Int32) ≤ nI 25 := by decide
    exact ⟨a1, N2, W1, al, hN2, by simp only [eb_140_7, eb_140_115, jx_ns_r, jx_ns_n, jx_ns_q, jx_ns_i, jx_gl_0, jx_gl_s, if_true, if_false, ite_true, ite_false, eq_self, Bool.false_eq_true, List.length_cons, List.length_nil, Nat.zero_le, Nat.reduceAdd, Nat.reduceSub, Nat.reduceLeDiff, Nat.reduceLT, Nat.reduceEqDiff, Int.reduceToNat, reduceIte, xe_aload, jx_rv_r, jx_rv_n, jx_rv_q, xe_inv0, jx_cc_i, jx_cc_v, Nat.reduceMod, Nat.reduceDiv, jx_cl9_i, xe_iconst, xi_0, xx_0, xe_istore, xe_goto_w, xk_iload, jx_iv_i, ak_I, xi_25, xx_25, xe_icmp_ge, xk_getf, jx_gf_i, jx_ov_s, ak_V, xk_iald, ja_ia, ak_A, true_or, or_true, xi_10, xx_10, xi_5, xx_5, xe_idiv, xe_imul, xe_iadd, xi_999, xe_sta2, xk_iast, ja_is, ak_S, ak_P, xe_irem, xe_inv1, xe_isub, xk_iinc, ak_C, xi_1, xe_goto, xe_return, jx_s1, List.set_cons_zero, List.set_cons_succ, jx_2_i, jx_2_l, jx_2_r, jx_2_n, jx_2_u, jx_2_s, jx_2_q, jx_k_i, jx_k_l, jx_k_r, jx_k_n, jx_k_u, jx_k_s, jx_k_q, h3]⟩
theorem tm_isRest {c : Nat} (hc : c < 25) : jx_cr (d + 1) 141 [.ref 113, .int (nI c)] (tw h s a E N Q W) = some (.inl (some (.int (sp_bl (sp_rst (Q 45) (Q 46) (c / 5) (c % 5))))), (tw h s a E N Q W)) := by
  have d5 := sp_d5 hc
  have e5 : nI c - nI c / 5 * 5 = nI (c % 5) := by rw [d5.1]; exact d5.2
  have ec : 5 * (c / 5) + c % 5 = c := by omega
  have ic := sp_ix hc (by decide)
  have key := jx_lp (d := d) (y := 141) (L := 2) (n := 5) (γ := Unit) (ls := fun m _ => [.ref 113, .int (nI c), .int (nI m)]) (H := fun _ _ => (tw h s a E N Q W))
    (I := fun m _ => ∀ k, k < m → ¬ (Q 45 (5 * (c / 5) + c % 5) < Q 45 (5 * k + c % 5) ∨ Q 46 (5 * (c / 5) + c % 5) < Q 46 (5 * (c / 5) + k)))
    (G := fun r => r = some (.inl (some (.int (sp_bl (sp_rst (Q 45) (Q 46) (c / 5) (c % 5))))), (tw h s a E N Q W))) ?_ ?_ 5 0 () (by omega) (fun t ht => absurd ht (by omega))
  · rw [nI_0] at key
    simp only [cr_141, eb_141_0, jx_ns_r, jx_ns_n, jx_ns_q, jx_ns_i, jx_gl_0, jx_gl_s, if_true, if_false, ite_true, ite_false, eq_self, Bool.false_eq_true, List.length_cons, List.length_nil, Nat.zero_le, Nat.reduceAdd, Nat.reduceSub, Nat.reduceLeDiff, Nat.reduceLT, Nat.reduceEqDiff, Int.reduceToNat, reduceIte, xe_iconst, xi_0, xx_0, xe_istore, xe_goto_w, xk_iload, jx_iv_i, ak_I, xi_5, xx_5, xe_icmp_ge, xe_aload, jx_rv_r, jx_rv_n, jx_rv_q, xk_getf, jx_gf_i, jx_ov_s, ak_V, xe_imul, xe_irem, xe_iadd, xk_iald, ja_ia, ak_A, true_or, or_true, xe_icmp_gt, xe_isub, xe_icmp_le, xe_zreturn, xZ, xk_iinc, ak_C, xi_1, xe_goto, xx_1, jx_s1, List.set_cons_zero, List.set_cons_succ, jx_2_i, jx_2_l, jx_2_r, jx_2_n, jx_2_u, jx_2_s, jx_2_q, jx_k_i, jx_k_l, jx_k_r, jx_k_n, jx_k_u, jx_k_s, jx_k_q]
    exact key
  · intro m _ hm hI
    have h3 : ¬ (5 : Int32) ≤ nI m := nI_ge (a := m) (b := 5) hm (by omega)
    have i1 := sp_ix (show 5 * m + c % 5 < 25 by omega) (by decide)
    have i3 := sp_ix (show 5 * (c / 5) + m < 25 by omega) (by decide)
    have ei : nI c - nI (c % 5) + nI m = nI (5 * (c / 5) + m) := by
      rw [pk_sub (by omega), nI_add]; congr 1; omega
    by_cases r1 : Q 45 (5 * (c / 5) + c % 5) < Q 45 (5 * m + c % 5)
    · refine .inl ?_
      rw [sp_bl_f (show ¬ sp_rst (Q 45) (Q 46) (c / 5) (c % 5) from fun q => q m hm (.inl r1))]
      rw [ec] at r1
      simp only [eb_141_2, eb_141_49, jx_ns_r, jx_ns_n, jx_ns_q, jx_ns_i, jx_gl_0, jx_gl_s, if_true, if_false, ite_true, ite_false, eq_self, Bool.false_eq_true, List.length_cons, List.length_nil, Nat.zero_le, Nat.reduceAdd, Nat.reduceSub, Nat.reduceLeDiff, Nat.reduceLT, Nat.reduceEqDiff, Int.reduceToNat, reduceIte, xe_iconst, xi_0, xx_0, xe_istore, xe_goto_w, xk_iload, jx_iv_i, ak_I, xi_5, xx_5, xe_icmp_ge, xe_aload, jx_rv_r, jx_rv_n, jx_rv_q, xk_getf, jx_gf_i, jx_ov_s, ak_V, xe_imul, xe_irem, xe_iadd, xk_iald, ja_ia, ak_A, true_or, or_true, xe_icmp_gt, xe_isub, xe_icmp_le, xe_zreturn, xZ, xk_iinc, ak_C, xi_1, xe_goto, xx_1, jx_s1, List.set_cons_zero, List.set_cons_succ, jx_2_i, jx_2_l, jx_2_r, jx_2_n, jx_2_u, jx_2_s, jx_2_q, jx_k_i, jx_k_l, jx_k_r, jx_k_n, jx_k_u, jx_k_s, jx_k_q, tw_r, tw_f, tq_r, va_up_s, h3, sp_50, d5.1, d5.2, sp_m5, i1, ic, r1]
    · by_cases r2 : Q 46 (5 * (c / 5) + c % 5) < Q 46 (5 * (c / 5) + m)
      · refine .inl ?_
        rw [sp_bl_f (show ¬ sp_rst (Q 45) (Q 46) (c / 5) (c % 5) from fun q => q m hm (.inr r2))]
        rw [ec] at r1 r2
        have r2' : ¬ Q 46 (5 * (c / 5) + m) ≤ Q 46 c := Int32.not_le.mpr r2
        simp only [eb_141_2, eb_141_49, jx_ns_r, jx_ns_n, jx_ns_q, jx_ns_i, jx_gl_0, jx_gl_s, if_true, if_false, ite_true, ite_false, eq_self, Bool.false_eq_true, List.length_cons, List.length_nil, Nat.zero_le, Nat.reduceAdd, Nat.reduceSub, Nat.reduceLeDiff, Nat.reduceLT, Nat.reduceEqDiff, Int.reduceToNat, reduceIte, xe_iconst, xi_0, xx_0, xe_istore, xe_goto_w, xk_iload, jx_iv_i, ak_I, xi_5, xx_5, xe_icmp_ge, xe_aload, jx_rv_r, jx_rv_n, jx_rv_q, xk_getf, jx_gf_i, jx_ov_s, ak_V, xe_imul, xe_irem, xe_iadd, xk_iald, ja_ia, ak_A, true_or, or_true, xe_icmp_gt, xe_isub, xe_icmp_le, xe_zreturn, xZ, xk_iinc, ak_C, xi_1, xe_goto, xx_1, jx_s1, List.set_cons_zero, List.set_cons_succ, jx_2_i, jx_2_l, jx_2_r, jx_2_n, jx_2_u, jx_2_s, jx_2_q, jx_k_i, jx_k_l, jx_k_r, jx_k_n, jx_k_u, jx_k_s, jx_k_q, tw_r, tw_f, tq_r, va_up_s, h3, sp_50, d5.1, d5.2, sp_m5, ei, i1, i3, ic, r1, r2']
      · refine .inr ⟨(), fun k hk => ?_, ?_⟩
        · rcases (show k < m ∨ k = m by omega) with r | r
          · exact hI k r
          · subst r; exact fun q => q.elim r1 r2
        · rw [ec] at r1 r2
          have r2' : Q 46 (5 * (c / 5) + m) ≤ Q 46 c := Int32.not_lt.mp r2
          rw [eb_141_2]
          simp only [eb_141_51, jx_ns_r, jx_ns_n, jx_ns_q, jx_ns_i, jx_gl_0, jx_gl_s, if_true, if_false, ite_true, ite_false, eq_self, Bool.false_eq_true, List.length_cons, List.length_nil, Nat.zero_le, Nat.reduceAdd, Nat.reduceSub, Nat.reduceLeDiff, Nat.reduceLT, Nat.reduceEqDiff, Int.reduceToNat, reduceIte, xe_iconst, xi_0, xx_0, xe_istore, xe_goto_w, xk_iload, jx_iv_i, ak_I, xi_5, xx_5, xe_icmp_ge, xe_aload, jx_rv_r, jx_rv_n, jx_rv_q, xk_getf, jx_gf_i, jx_ov_s, ak_V, xe_imul, xe_irem, xe_iadd, xk_iald, ja_ia, ak_A, true_or, or_true, xe_icmp_gt, xe_isub, xe_icmp_le, xe_zreturn, xZ, xk_iinc, ak_C, xi_1, xe_goto, xx_1, jx_s1, List.set_cons_zero, List.set_cons_succ, jx_2_i, jx_2_l, jx_2_r, jx_2_n, jx_2_u, jx_2_s, jx_2_q, jx_k_i, jx_k_l, jx_k_r, jx_k_n, jx_k_u, jx_k_s, jx_k_q, tw_r, tw_f, tq_r, va_up_s, h3, sp_50, d5.1, d5.2, sp_m5, ei, i1, i3, ic, r1, r2', nI_1]
  · intro _ hI
    have h3 : (5 : Int32) ≤ nI 5 := by decide
    rw [sp_bl_t (show sp_rst (Q 45) (Q 46) (c / 5) (c % 5) from hI)]
    simp only [eb_141_2, eb_141_57, jx_ns_r, jx_ns_n, jx_ns_q, jx_ns_i, jx_gl_0, jx_gl_s, if_true, if_false, ite_true, ite_false, eq_self, Bool.false_eq_true, List.length_cons, List.length_nil, Nat.zero_le, Nat.reduceAdd, Nat.reduceSub, Nat.reduceLeDiff, Nat.reduceLT, Nat.reduceEqDiff, Int.reduceToNat, reduceIte, xe_iconst, xi_0, xx_0, xe_istore, xe_goto_w, xk_iload, jx_iv_i, ak_I, xi_5, xx_5, xe_icmp_ge, xe_aload, jx_rv_r, jx_rv_n, jx_rv_q, xk_getf, jx_gf_i, jx_ov_s, ak_V, xe_imul, xe_irem, xe_iadd, xk_iald, ja_ia, ak_A, true_or, or_true, xe_icmp_gt, xe_isub, xe_icmp_le, xe_zreturn, xZ, xk_iinc, ak_C, xi_1, xe_goto, xx_1, jx_s1, List.set_cons_zero, List.set_cons_succ, jx_2_i, jx_2_l, jx_2_r, jx_2_n, jx_2_u, jx_2_s, jx_2_q, jx_k_i, jx_k_l, jx_k_r, jx_k_n, jx_k_u, jx_k_s, jx_k_q, h3]
theorem ct_n {P : Nat → Bool} : ∀ m i, m ≤ 100 → ∃ c, c ≤ m ∧ ct P m i = nI c ∧ (c = 0 ↔ fd P m i = none) := by
  intro m
  induction m with
  | zero => intro i _; exact ⟨0, Nat.le_refl _, rfl, fun _ => rfl, fun _ => rfl⟩
  | succ m ih =>
    intro i hm
    obtain ⟨c, hc, e, hz⟩ := ih (i + 1) (by omega)
    rw [ct, fd, e]
    by_cases r : P i = true
    · rw [if_pos r, if_pos r, nI_1]
      exact ⟨c + 1, by omega, rfl, fun q => absurd q (by omega), fun q => by cases q⟩
    · rw [if_neg r, if_neg r, Int32.add_zero]
      exact ⟨c, by omega, rfl, hz⟩
theorem fd_e {P : Nat → Bool} : ∀ m i, fd P (m + 1) i = match fd P m i with | some c => some c | none => if P (i + m) = true then some (i + m) else none := by
  intro m
  induction m with
  | zero => intro i; simp only [fd, Nat.add_zero]
  | succ m ih =>
    intro i
    rw [fd, ih (i + 1), fd, show i + 1 + m = i + (m + 1) by omega]
    by_cases r : P i = true
    · rw [if_pos r, if_pos r]
    · rw [if_neg r, if_neg r]
theorem tm_rests2 (f g : Nat → Int32) (hf : ∀ c, c < 25 → Q 45 c = f c) (hg : ∀ c, c < 25 → Q 46 c = g c) : jx_eb (d + 2) 142 64 [.ref 113, .int (nI t), .int (nI u), .int (nI n), .int k, .int 0, .int (-1), .int (nI 0)] [] (tw h s a E N Q W) = some (.inl (some (.int (sp_rsv (sp_rsb f g) k))), (tw h s a E N Q W)) := by
  have hr : ∀ c, c < 25 → (sp_rst (Q 45) (Q 46) (c / 5) (c % 5) ↔ sp_rsb f g c = true) := by
    intro c hc
    have : sp_rst (Q 45) (Q 46) (c / 5) (c % 5) ↔ sp_rst f g (c / 5) (c % 5) := by
      simp only [sp_rst]
      refine forall_congr' fun k => forall_congr' fun hk => ?_
      rw [hf _ (by omega), hf _ (by omega), hg _ (by omega), hg _ (by omega)]
    rw [this]
    unfold sp_rsb
    rw [dc_iff]
  generalize sp_rsb f g = P at hr
  refine jx_lp (d := d + 2) (y := 142) (L := 64) (n := 25) (γ := Unit) (ls := fun m _ => [.ref 113, .int (nI t), .int (nI u), .int (nI n), .int k, .int (ct P m 0), .int (match fd P m 0 with | none => -1 | some c => nI c), .int (nI m)]) (H := fun _ _ => (tw h s a E N Q W))
    (I := fun _ _ => True)
    (G := fun r => r = some (.inl (some (.int (sp_rsv P k))), (tw h s a E N Q W))) ?_ ?_ 25 0 () (by omega) trivial
  · intro m _ hm _
    have h3 : ¬ (25 : Int32) ≤ nI m := nI_ge (a := m) (b := 25) hm (by omega)
    have hi := fun (d : Nat) => tm_isRest (d := d) (h := h) (s := s) (a := a) (E := E) (N := N) (Q := Q) (W := W) hm
    have hr := hr m hm
    obtain ⟨c, hc, ec, hz⟩ := ct_n (P := P) m 0 (by omega)
    refine .inr ⟨(), trivial, ?_⟩
    rw [ct_e, fd_e, Nat.zero_add, eb_142_64]
    by_cases r : P m = true
    · have hi := fun d => (hi d).trans (by rw [sp_bl_t (hr.mpr r)])
      rw [ec]
      cases ef : fd P m 0 with
      | none =>
        have c0 : c = 0 := hz.mpr ef
        have e0 : nI c = 0 := by rw [c0]; rfl
        simp only [eb_142_92, eb_142_97, jx_ns_r, jx_ns_n, jx_ns_q, jx_ns_i, jx_gl_0, jx_gl_s, if_true, if_false, ite_true, ite_false, eq_self, Bool.false_eq_true, List.length_cons, List.length_nil, Nat.zero_le, Nat.reduceAdd, Nat.reduceSub, Nat.reduceLeDiff, Nat.reduceLT, Nat.reduceEqDiff, Int.reduceToNat, reduceIte, xe_aload, jx_rv_r, jx_rv_n, jx_rv_q, xk_iload, jx_iv_i, ak_I, xe_inv1, jx_cc_i, jx_cc_v, Nat.reduceMod, Nat.reduceDiv, jx_cl9_i, xe_ifeq, xe_icmp_eq, xe_i2l, xe_lconst, xl_1, xl_20, xe_sta3, xl_0, xl_2, xe_ifne, xe_goto_w, xe_iconst, xi_m1, xe_ireturn, xe_inv3, xi_0, xx_0, xe_istore, xi_25, xx_25, xe_icmp_ge, xe_goto, xk_iinc, ak_C, xi_1, xe_icmp_ne, xi_m2, xi_10, xx_10, xx_1, xi_5, xx_5, xe_idiv, xe_irem, xe_imul, jx_s1, List.set_cons_zero, List.set_cons_succ, jx_2_i, jx_2_l, jx_2_r, jx_2_n, jx_2_u, jx_2_s, jx_2_q, jx_k_i, jx_k_l, jx_k_r, jx_k_n, jx_k_u, jx_k_s, jx_k_q, h3, tw_r, tw_f, tq_r, va_up_s, hi, sp_10, e0, r, nI_1]
      | some z =>
        have c0 : ¬ nI c = 0 := nI_ne0 (by
          rcases Nat.eq_zero_or_pos c with q | q
          · rw [hz.mp q] at ef; cases ef
          · exact q) (by omega)
        simp only [eb_142_90, eb_142_92, eb_142_97, jx_ns_r, jx_ns_n, jx_ns_q, jx_ns_i, jx_gl_0, jx_gl_s, if_true, if_false, ite_true, ite_false, eq_self, Bool.false_eq_true, List.length_cons, List.length_nil, Nat.zero_le, Nat.reduceAdd, Nat.reduceSub, Nat.reduceLeDiff, Nat.reduceLT, Nat.reduceEqDiff, Int.reduceToNat, reduceIte, xe_aload, jx_rv_r, jx_rv_n, jx_rv_q, xk_iload, jx_iv_i, ak_I, xe_inv1, jx_cc_i, jx_cc_v, Nat.reduceMod, Nat.reduceDiv, jx_cl9_i, xe_ifeq, xe_icmp_eq, xe_i2l, xe_lconst, xl_1, xl_20, xe_sta3, xl_0, xl_2, xe_ifne, xe_goto_w, xe_iconst, xi_m1, xe_ireturn, xe_inv3, xi_0, xx_0, xe_istore, xi_25, xx_25, xe_icmp_ge, xe_goto, xk_iinc, ak_C, xi_1, xe_icmp_ne, xi_m2, xi_10, xx_10, xx_1, xi_5, xx_5, xe_idiv, xe_irem, xe_imul, jx_s1, List.set_cons_zero, List.set_cons_succ, jx_2_i, jx_2_l, jx_2_r, jx_2_n, jx_2_u, jx_2_s, jx_2_q, jx_k_i, jx_k_l, jx_k_r, jx_k_n, jx_k_u, jx_k_s, jx_k_q, h3, tw_r, tw_f, tq_r, va_up_s, hi, sp_10, c0, r, nI_1]
    · have hi := fun d => (hi d).trans (by rw [sp_bl_f (fun q => r (hr.mp q))])
      have a0 : ∀ y : Int32, y + 0 = y := Int32.add_zero
      cases ef : fd P m 0 with
      | none => simp only [eb_142_97, jx_ns_r, jx_ns_n, jx_ns_q, jx_ns_i, jx_gl_0, jx_gl_s, if_true, if_false, ite_true, ite_false, eq_self, Bool.false_eq_true, List.length_cons, List.length_nil, Nat.zero_le, Nat.reduceAdd, Nat.reduceSub, Nat.reduceLeDiff, Nat.reduceLT, Nat.reduceEqDiff, Int.reduceToNat, reduceIte, xe_aload, jx_rv_r, jx_rv_n, jx_rv_q, xk_iload, jx_iv_i, ak_I, xe_inv1, jx_cc_i, jx_cc_v, Nat.reduceMod, Nat.reduceDiv, jx_cl9_i, xe_ifeq, xe_icmp_eq, xe_i2l, xe_lconst, xl_1, xl_20, xe_sta3, xl_0, xl_2, xe_ifne, xe_goto_w, xe_iconst, xi_m1, xe_ireturn, xe_inv3, xi_0, xx_0, xe_istore, xi_25, xx_25, xe_icmp_ge, xe_goto, xk_iinc, ak_C, xi_1, xe_icmp_ne, xi_m2, xi_10, xx_10, xx_1, xi_5, xx_5, xe_idiv, xe_irem, xe_imul, jx_s1, List.set_cons_zero, List.set_cons_succ, jx_2_i, jx_2_l, jx_2_r, jx_2_n, jx_2_u, jx_2_s, jx_2_q, jx_k_i, jx_k_l, jx_k_r, jx_k_n, jx_k_u, jx_k_s, jx_k_q, h3, tw_r, tw_f, tq_r, va_up_s, hi, r, a0, nI_1, Bool.false_eq_true]
      | some z => simp only [eb_142_97, jx_ns_r, jx_ns_n, jx_ns_q, jx_ns_i, jx_gl_0, jx_gl_s, if_true, if_false, ite_true, ite_false, eq_self, Bool.false_eq_true, List.length_cons, List.length_nil, Nat.zero_le, Nat.reduceAdd, Nat.reduceSub, Nat.reduceLeDiff, Nat.reduceLT, Nat.reduceEqDiff, Int.reduceToNat, reduceIte, xe_aload, jx_rv_r, jx_rv_n, jx_rv_q, xk_iload, jx_iv_i, ak_I, xe_inv1, jx_cc_i, jx_cc_v, Nat.reduceMod, Nat.reduceDiv, jx_cl9_i, xe_ifeq, xe_icmp_eq, xe_i2l, xe_lconst, xl_1, xl_20, xe_sta3, xl_0, xl_2, xe_ifne, xe_goto_w, xe_iconst, xi_m1, xe_ireturn, xe_inv3, xi_0, xx_0, xe_istore, xi_25, xx_25, xe_icmp_ge, xe_goto, xk_iinc, ak_C, xi_1, xe_icmp_ne, xi_m2, xi_10, xx_10, xx_1, xi_5, xx_5, xe_idiv, xe_irem, xe_imul, jx_s1, List.set_cons_zero, List.set_cons_succ, jx_2_i, jx_2_l, jx_2_r, jx_2_n, jx_2_u, jx_2_s, jx_2_q, jx_k_i, jx_k_l, jx_k_r, jx_k_n, jx_k_u, jx_k_s, jx_k_q, h3, tw_r, tw_f, tq_r, va_up_s, hi, r, a0, nI_1, Bool.false_eq_true]
  · intro _ _
    have h3 : (25 : Int32) ≤ nI 25 := by decide
    by_cases r : k = 0
    · simp only [eb_142_64, eb_142_103, jx_ns_r, jx_ns_n, jx_ns_q, jx_ns_i, jx_gl_0, jx_gl_s, if_true, if_false, ite_true, ite_false, eq_self, Bool.false_eq_true, List.length_cons, List.length_nil, Nat.zero_le, Nat.reduceAdd, Nat.reduceSub, Nat.reduceLeDiff, Nat.reduceLT, Nat.reduceEqDiff, Int.reduceToNat, reduceIte, xe_aload, jx_rv_r, jx_rv_n, jx_rv_q, xk_iload, jx_iv_i, ak_I, xe_inv1, jx_cc_i, jx_cc_v, Nat.reduceMod, Nat.reduceDiv, jx_cl9_i, xe_ifeq, xe_icmp_eq, xe_i2l, xe_lconst, xl_1, xl_20, xe_sta3, xl_0, xl_2, xe_ifne, xe_goto_w, xe_iconst, xi_m1, xe_ireturn, xe_inv3, xi_0, xx_0, xe_istore, xi_25, xx_25, xe_icmp_ge, xe_goto, xk_iinc, ak_C, xi_1, xe_icmp_ne, xi_m2, xi_10, xx_10, xx_1, xi_5, xx_5, xe_idiv, xe_irem, xe_imul, jx_s1, List.set_cons_zero, List.set_cons_succ, jx_2_i, jx_2_l, jx_2_r, jx_2_n, jx_2_u, jx_2_s, jx_2_q, jx_k_i, jx_k_l, jx_k_r, jx_k_n, jx_k_u, jx_k_s, jx_k_q, h3, r, sp_rsv]
    · rw [sp_rsv, if_neg r]
      cases ef : fd P 25 0 with
      | none => simp only [eb_142_64, eb_142_103, eb_142_111, eb_142_142, jx_ns_r, jx_ns_n, jx_ns_q, jx_ns_i, jx_gl_0, jx_gl_s, if_true, if_false, ite_true, ite_false, eq_self, Bool.false_eq_true, List.length_cons, List.length_nil, Nat.zero_le, Nat.reduceAdd, Nat.reduceSub, Nat.reduceLeDiff, Nat.reduceLT, Nat.reduceEqDiff, Int.reduceToNat, reduceIte, xe_aload, jx_rv_r, jx_rv_n, jx_rv_q, xk_iload, jx_iv_i, ak_I, xe_inv1, jx_cc_i, jx_cc_v, Nat.reduceMod, Nat.reduceDiv, jx_cl9_i, xe_ifeq, xe_icmp_eq, xe_i2l, xe_lconst, xl_1, xl_20, xe_sta3, xl_0, xl_2, xe_ifne, xe_goto_w, xe_iconst, xi_m1, xe_ireturn, xe_inv3, xi_0, xx_0, xe_istore, xi_25, xx_25, xe_icmp_ge, xe_goto, xk_iinc, ak_C, xi_1, xe_icmp_ne, xi_m2, xi_10, xx_10, xx_1, xi_5, xx_5, xe_idiv, xe_irem, xe_imul, jx_s1, List.set_cons_zero, List.set_cons_succ, jx_2_i, jx_2_l, jx_2_r, jx_2_n, jx_2_u, jx_2_s, jx_2_q, jx_k_i, jx_k_l, jx_k_r, jx_k_n, jx_k_u, jx_k_s, jx_k_q, h3, r]
      | some c =>
        have hc : c < 25 := by
          have : ∀ m i c, fd P m i = some c → c < i + m := by
            intro m
            induction m with
            | zero => intro i c e; cases e
            | succ m ih =>
              intro i c e
              rw [fd] at e
              split at e
              · cases e; omega
              · have := ih _ _ e; omega
          have := this _ _ _ ef; omega
        have d5 := sp_d5 hc
        have n1 : ¬ nI c = -1 := by
          intro e
          have := congrArg Int32.toInt e
          rw [nI_toInt (by omega)] at this
          have h2 : (-1 : Int32).toInt = -1 := rfl
          omega
        by_cases r1 : k = 1 <;> simp only [eb_142_64, eb_142_103, eb_142_111, eb_142_122, eb_142_137, eb_142_141, eb_142_142, jx_ns_r, jx_ns_n, jx_ns_q, jx_ns_i, jx_gl_0, jx_gl_s, if_true, if_false, ite_true, ite_false, eq_self, Bool.false_eq_true, List.length_cons, List.length_nil, Nat.zero_le, Nat.reduceAdd, Nat.reduceSub, Nat.reduceLeDiff, Nat.reduceLT, Nat.reduceEqDiff, Int.reduceToNat, reduceIte, xe_aload, jx_rv_r, jx_rv_n, jx_rv_q, xk_iload, jx_iv_i, ak_I, xe_inv1, jx_cc_i, jx_cc_v, Nat.reduceMod, Nat.reduceDiv, jx_cl9_i, xe_ifeq, xe_icmp_eq, xe_i2l, xe_lconst, xl_1, xl_20, xe_sta3, xl_0, xl_2, xe_ifne, xe_goto_w, xe_iconst, xi_m1, xe_ireturn, xe_inv3, xi_0, xx_0, xe_istore, xi_25, xx_25, xe_icmp_ge, xe_goto, xk_iinc, ak_C, xi_1, xe_icmp_ne, xi_m2, xi_10, xx_10, xx_1, xi_5, xx_5, xe_idiv, xe_irem, xe_imul, jx_s1, List.set_cons_zero, List.set_cons_succ, jx_2_i, jx_2_l, jx_2_r, jx_2_n, jx_2_u, jx_2_s, jx_2_q, jx_k_i, jx_k_l, jx_k_r, jx_k_n, jx_k_u, jx_k_s, jx_k_q, h3, r, r1, n1, d5, sp_50, sp_10, sp_m10]
theorem tm_rests0 {j l : Int32} (es : s 3 = nI pm) (hpm : pm ≤ 6) (hq : ¬ ((0 ≤ i ∧ i < s 3) ∧ (0 ≤ j ∧ j < s 3) ∧ ¬ i = j ∧ (1 ≤ l.toInt64 ∧ l.toInt64 ≤ 20) ∧ 0 ≤ k.toInt64 ∧ k.toInt64 ≤ 2)) : jx_cr (d + 3) 142 [.ref 113, .int i, .int j, .int l, .int k] (tw h s a E N Q W) = some (.inl (some (.int (-1))), (tw h s a E N Q W)) := by
  by_cases q1 : 0 ≤ i ∧ i < s 3
  · by_cases q2 : 0 ≤ j ∧ j < s 3
    · by_cases q3 : i = j
      · subst q3
        simp only [cr_142, eb_142_0, eb_142_46, jx_ns_r, jx_ns_n, jx_ns_q, jx_ns_i, jx_gl_0, jx_gl_s, if_true, if_false, ite_true, ite_false, eq_self, Bool.false_eq_true, List.length_cons, List.length_nil, Nat.zero_le, Nat.reduceAdd, Nat.reduceSub, Nat.reduceLeDiff, Nat.reduceLT, Nat.reduceEqDiff, Int.reduceToNat, reduceIte, xe_aload, jx_rv_r, jx_rv_n, jx_rv_q, xk_iload, jx_iv_i, ak_I, xe_inv1, jx_cc_i, jx_cc_v, Nat.reduceMod, Nat.reduceDiv, jx_cl9_i, xe_ifeq, xe_icmp_eq, xe_i2l, xe_lconst, xl_1, xl_20, xe_sta3, xl_0, xl_2, xe_ifne, xe_goto_w, xe_iconst, xi_m1, xe_ireturn, xe_inv3, xi_0, xx_0, xe_istore, xi_25, xx_25, xe_icmp_ge, xe_goto, xk_iinc, ak_C, xi_1, xe_icmp_ne, xi_m2, xi_10, xx_10, xx_1, xi_5, xx_5, xe_idiv, xe_irem, xe_imul, jx_s1, List.set_cons_zero, List.set_cons_succ, jx_2_i, jx_2_l, jx_2_r, jx_2_n, jx_2_u, jx_2_s, jx_2_q, jx_k_i, jx_k_l, jx_k_r, jx_k_n, jx_k_u, jx_k_s, jx_k_q, tw_r, tw_f, tq_r, va_up_s, tm_isPerson es hpm, q1, and_self, sp_10]
      · by_cases q4 : 1 ≤ l.toInt64 ∧ l.toInt64 ≤ 20
        · have q5 : ¬ (0 ≤ k.toInt64 ∧ k.toInt64 ≤ 2) := fun r => hq ⟨q1, q2, q3, q4, r⟩
          simp only [cr_142, eb_142_0, eb_142_46, jx_ns_r, jx_ns_n, jx_ns_q, jx_ns_i, jx_gl_0, jx_gl_s, if_true, if_false, ite_true, ite_false, eq_self, Bool.false_eq_true, List.length_cons, List.length_nil, Nat.zero_le, Nat.reduceAdd, Nat.reduceSub, Nat.reduceLeDiff, Nat.reduceLT, Nat.reduceEqDiff, Int.reduceToNat, reduceIte, xe_aload, jx_rv_r, jx_rv_n, jx_rv_q, xk_iload, jx_iv_i, ak_I, xe_inv1, jx_cc_i, jx_cc_v, Nat.reduceMod, Nat.reduceDiv, jx_cl9_i, xe_ifeq, xe_icmp_eq, xe_i2l, xe_lconst, xl_1, xl_20, xe_sta3, xl_0, xl_2, xe_ifne, xe_goto_w, xe_iconst, xi_m1, xe_ireturn, xe_inv3, xi_0, xx_0, xe_istore, xi_25, xx_25, xe_icmp_ge, xe_goto, xk_iinc, ak_C, xi_1, xe_icmp_ne, xi_m2, xi_10, xx_10, xx_1, xi_5, xx_5, xe_idiv, xe_irem, xe_imul, jx_s1, List.set_cons_zero, List.set_cons_succ, jx_2_i, jx_2_l, jx_2_r, jx_2_n, jx_2_u, jx_2_s, jx_2_q, jx_k_i, jx_k_l, jx_k_r, jx_k_n, jx_k_u, jx_k_s, jx_k_q, tw_r, tw_f, tq_r, va_up_s, tm_isPerson es hpm, tq_inL, q1, q2, q3, q4, q5, and_self, sp_10]
        · simp only [cr_142, eb_142_0, eb_142_46, jx_ns_r, jx_ns_n, jx_ns_q, jx_ns_i, jx_gl_0, jx_gl_s, if_true, if_false, ite_true, ite_false, eq_self, Bool.false_eq_true, List.length_cons, List.length_nil, Nat.zero_le, Nat.reduceAdd, Nat.reduceSub, Nat.reduceLeDiff, Nat.reduceLT, Nat.reduceEqDiff, Int.reduceToNat, reduceIte, xe_aload, jx_rv_r, jx_rv_n, jx_rv_q, xk_iload, jx_iv_i, ak_I, xe_inv1, jx_cc_i, jx_cc_v, Nat.reduceMod, Nat.reduceDiv, jx_cl9_i, xe_ifeq, xe_icmp_eq, xe_i2l, xe_lconst, xl_1, xl_20, xe_sta3, xl_0, xl_2, xe_ifne, xe_goto_w, xe_iconst, xi_m1, xe_ireturn, xe_inv3, xi_0, xx_0, xe_istore, xi_25, xx_25, xe_icmp_ge, xe_goto, xk_iinc, ak_C, xi_1, xe_icmp_ne, xi_m2, xi_10, xx_10, xx_1, xi_5, xx_5, xe_idiv, xe_irem, xe_imul, jx_s1, List.set_cons_zero, List.set_cons_succ, jx_2_i, jx_2_l, jx_2_r, jx_2_n, jx_2_u, jx_2_s, jx_2_q, jx_k_i, jx_k_l, jx_k_r, jx_k_n, jx_k_u, jx_k_s, jx_k_q, tw_r, tw_f, tq_r, va_up_s, tm_isPerson es hpm, tq_inL, q1, q2, q3, q4, and_self, sp_10]
    · simp only [cr_142, eb_142_0, eb_142_46, jx_ns_r, jx_ns_n, jx_ns_q, jx_ns_i, jx_gl_0, jx_gl_s, if_true, if_false, ite_true, ite_false, eq_self, Bool.false_eq_true, List.length_cons, List.length_nil, Nat.zero_le, Nat.reduceAdd, Nat.reduceSub, Nat.reduceLeDiff, Nat.reduceLT, Nat.reduceEqDiff, Int.reduceToNat, reduceIte, xe_aload, jx_rv_r, jx_rv_n, jx_rv_q, xk_iload, jx_iv_i, ak_I, xe_inv1, jx_cc_i, jx_cc_v, Nat.reduceMod, Nat.reduceDiv, jx_cl9_i, xe_ifeq, xe_icmp_eq, xe_i2l, xe_lconst, xl_1, xl_20, xe_sta3, xl_0, xl_2, xe_ifne, xe_goto_w, xe_iconst, xi_m1, xe_ireturn, xe_inv3, xi_0, xx_0, xe_istore, xi_25, xx_25, xe_icmp_ge, xe_goto, xk_iinc, ak_C, xi_1, xe_icmp_ne, xi_m2, xi_10, xx_10, xx_1, xi_5, xx_5, xe_idiv, xe_irem, xe_imul, jx_s1, List.set_cons_zero, List.set_cons_succ, jx_2_i, jx_2_l, jx_2_r, jx_2_n, jx_2_u, jx_2_s, jx_2_q, jx_k_i, jx_k_l, jx_k_r, jx_k_n, jx_k_u, jx_k_s, jx_k_q, tw_r, tw_f, tq_r, va_up_s, tm_isPerson es hpm, q1, q2, and_self, sp_10]
  · simp only [cr_142, eb_142_0, eb_142_46, jx_ns_r, jx_ns_n, jx_ns_q, jx_ns_i, jx_gl_0, jx_gl_s, if_true, if_false, ite_true, ite_false, eq_self, Bool.false_eq_true, List.length_cons, List.length_nil, Nat.zero_le, Nat.reduceAdd, Nat.reduceSub, Nat.reduceLeDiff, Nat.reduceLT, Nat.reduceEqDiff, Int.reduceToNat, reduceIte, xe_aload, jx_rv_r, jx_rv_n, jx_rv_q, xk_iload, jx_iv_i, ak_I, xe_inv1, jx_cc_i, jx_cc_v, Nat.reduceMod, Nat.reduceDiv, jx_cl9_i, xe_ifeq, xe_icmp_eq, xe_i2l, xe_lconst, xl_1, xl_20, xe_sta3, xl_0, xl_2, xe_ifne, xe_goto_w, xe_iconst, xi_m1, xe_ireturn, xe_inv3, xi_0, xx_0, xe_istore, xi_25, xx_25, xe_icmp_ge, xe_goto, xk_iinc, ak_C, xi_1, xe_icmp_ne, xi_m2, xi_10, xx_10, xx_1, xi_5, xx_5, xe_idiv, xe_irem, xe_imul, jx_s1, List.set_cons_zero, List.set_cons_succ, jx_2_i, jx_2_l, jx_2_r, jx_2_n, jx_2_u, jx_2_s, jx_2_q, jx_k_i, jx_k_l, jx_k_r, jx_k_n, jx_k_u, jx_k_s, jx_k_q, tw_r, tw_f, tq_r, va_up_s, tm_isPerson es hpm, q1]
theorem tm_rests (iv : cq_iv s a day tm pm now) (hn : now ≤ 999) (ht : t < pm) (hu : u < pm) (hne : ¬ t = u) (h1n : 1 ≤ n) (h20 : n ≤ 20) (hk : 0 ≤ k.toInt64 ∧ k.toInt64 ≤ 2) (hL : tq_lw (D + 2) (E 1) Q Lo) :
    tq_fin h s a E N Q (jx_cr (d + D + 8) 142 [.ref 113, .int (nI t), .int (nI u), .int (nI n), .int k] (tw h s a E N Q W)) (sp_rsv (sp_rsb (sp_rf Lo s a tm t u n) (sp_rg2 Lo s a tm t u n)) k) := by
  have t6 := iv.2.2.2.2.1; have p6 := iv.2.2.2.2.2.2.1; have es := iv.2.2.2.2.2.1; have et := iv.2.2.2.1; have d12 := iv.2.2.1; have d1 := iv.2.1
  have hpe := sp_q ht (by omega) es
  have hpu := sp_q hu (by omega) es
  have hq1 : 1 ≤ (nI n).toInt64 ∧ (nI n).toInt64 ≤ 20 := sp_rg (a := 1) (b := 20) h1n h20 (by omega)
  have hne' : ¬ nI t = nI u := fun r => hne ((nI_eq (by omega) (by omega)).mp r)
  obtain ⟨a', N', Q', W', h1, h2, h3, h4, h5, e⟩ := tm_laysDeeds (d := d) (h := h) (s := s) (a := a) (E := E) (N := N) (Q := Q) (W := W) iv hn ht hu h20 hL
  have l := tm_rests2 (d := d + D + 5) (h := h) (s := s) (a := a') (E := E) (N := N') (Q := Q') (W := W') (t := t) (u := u) (n := n) (k := k) _ _ h4 h5
  refine ⟨a', N', Q', W', h1, h2, h3, ?_⟩
  rw [nI_0] at l
  simp only [cr_142, eb_142_0, eb_142_48, jx_ns_r, jx_ns_n, jx_ns_q, jx_ns_i, jx_gl_0, jx_gl_s, if_true, if_false, ite_true, ite_false, eq_self, Bool.false_eq_true, List.length_cons, List.length_nil, Nat.zero_le, Nat.reduceAdd, Nat.reduceSub, Nat.reduceLeDiff, Nat.reduceLT, Nat.reduceEqDiff, Int.reduceToNat, reduceIte, xe_aload, jx_rv_r, jx_rv_n, jx_rv_q, xk_iload, jx_iv_i, ak_I, xe_inv1, jx_cc_i, jx_cc_v, Nat.reduceMod, Nat.reduceDiv, jx_cl9_i, xe_ifeq, xe_icmp_eq, xe_i2l, xe_lconst, xl_1, xl_20, xe_sta3, xl_0, xl_2, xe_ifne, xe_goto_w, xe_iconst, xi_m1, xe_ireturn, xe_inv3, xi_0, xx_0, xe_istore, xi_25, xx_25, xe_icmp_ge, xe_goto, xk_iinc, ak_C, xi_1, xe_icmp_ne, xi_m2, xi_10, xx_10, xx_1, xi_5, xx_5, xe_idiv, xe_irem, xe_imul, jx_s1, List.set_cons_zero, List.set_cons_succ, jx_2_i, jx_2_l, jx_2_r, jx_2_n, jx_2_u, jx_2_s, jx_2_q, jx_k_i, jx_k_l, jx_k_r, jx_k_n, jx_k_u, jx_k_s, jx_k_q, tw_r, tw_f, tq_r, va_up_s, tm_isPerson es p6, tq_inL, hpe, hpu, hne', hq1, hk, and_self, sp_10, e]
  exact l
end TL
