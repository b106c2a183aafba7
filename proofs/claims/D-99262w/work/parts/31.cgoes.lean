/-! court: inHand, passes, goesOn -/
set_option maxRecDepth 100000
section CP
variable {d D : Nat} {h : jx_H} {b r pm tm m t : Nat} {s : Nat → Int32} {a : Nat → Nat → Int32} {w : Nat → Int64} {L : (Nat → Int64) → Int64}
theorem cq_inHand1 (htm : tm ≤ 6) (et : s 2 = nI tm) (hpm : pm ≤ 6) (es : s 3 = nI pm) (h0 : ¬ s 0 = 0) (hm : m < 12) (em : s 7 - s 7 / s 0 * s 0 = nI m) (hL : cq_law (D + 2) r b h L) :
    ∃ w', jx_cr (d + D + 4) 178 [.ref b, .ref r] (cq_put h b (s, a, w)) = some (.inl (some (.int (cq_ih s a (some L) tm pm m))), cq_put h b (s, a, w')) := by
  have hle : s 10 ≤ 0 ↔ ¬ 0 < s 10 := Int32.not_lt.symm
  obtain ⟨hr, ⟨fs, hC⟩, hE, hS⟩ := id hL
  have loop : ∀ n t, t + n = tm → ∀ u v w, ((v = jx_un ∧ u = jx_un) ∨ ∃ x, v = .long x ∧ u = jx_sn) → ∃ w', jx_eb (d + D + 3) 178 48 [.ref b, .ref r, .int (cq_bst (fun t => L (cq_wd s a pm m t)) t).1, .long (cq_bst (fun t => L (cq_wd s a pm m t)) t).2, jx_sn, .int (nI t), v, u] [] (cq_put h b (s, a, w)) = some (.inl (some (.int (cq_bst (fun t => L (cq_wd s a pm m t)) tm).1)), cq_put h b (s, a, w')) := by
    intro n
    induction n with
    | zero =>
      intro t ht u v w hv
      have : t = tm := by omega
      subst this
      exact ⟨w, by simp only [eb_178_48, eb_178_88, jx_ns_r, jx_ns_n, jx_ns_q, jx_ns_i, jx_gl_0, jx_gl_s, if_true, if_false, ite_true, ite_false, eq_self, Bool.false_eq_true, List.length_cons, List.length_nil, Nat.zero_le, Nat.reduceAdd, Nat.reduceSub, Nat.reduceLeDiff, Nat.reduceLT, Nat.reduceEqDiff, Int.reduceToNat, reduceIte, xe_aload, jx_rv_r, jx_rv_n, jx_rv_q, xk_getf, jx_gf_i, jx_ov_s, ak_V, xe_ifle, xe_iconst, xi_m1, xe_ireturn, xe_icmp_eq, xe_ifnonnull_n, xe_ifnonnull_r, xe_irem, xk_iald, ja_ia, ak_A, ak_I, true_or, or_true, xe_istore, xe_lconst, xl_0, xe_lstore, jx_s2, xi_0, xx_0, xe_goto_w, xk_iload, jx_iv_i, xe_icmp_ge, xe_inv2, jx_cc_i, jx_cc_v, Nat.reduceMod, Nat.reduceDiv, jx_cl9_i, xk_lload, jx_lv_l, ak_L, xe_lcmp, xe_ifgt, xe_goto, xk_iinc, ak_C, xi_1, jx_s1, List.set_cons_zero, List.set_cons_succ, jx_2_i, jx_2_l, jx_2_r, jx_2_n, jx_2_u, jx_2_s, jx_2_q, jx_k_i, jx_k_l, jx_k_r, jx_k_n, jx_k_u, jx_k_s, jx_k_q, cq_r, cq_f, et, nI_leI (show t < 2 ^ 31 by omega) (show t < 2 ^ 31 by omega), Nat.le_refl]⟩
    | succ n ih =>
      intro t ht u v w hv
      have h3 : ¬ nI tm ≤ nI t := nI_ge (by omega) (by omega)
      obtain ⟨w1, e1⟩ := cq_sumOf (d := d) (a := a) (w := w) (t := t) hpm es (by omega) h0 hm em hL
      obtain ⟨w2, e2⟩ := ih (t + 1) (by omega) jx_sn (.long (L (cq_wd s a pm m t))) w1 (.inr ⟨_, rfl, rfl⟩)
      refine ⟨w2, ?_⟩
      rw [← e2]
      rw [eb_178_48]
      simp only [cq_bst, ← nI_1]
      rcases hv with ⟨rfl, rfl⟩ | ⟨x, rfl, rfl⟩ <;> by_cases q : (cq_bst (fun t => L (cq_wd s a pm m t)) t).2 < L (cq_wd s a pm m t) <;>
        simp only [eb_178_76, eb_178_82, jx_ns_r, jx_ns_n, jx_ns_q, jx_ns_i, jx_gl_0, jx_gl_s, if_true, if_false, ite_true, ite_false, eq_self, Bool.false_eq_true, List.length_cons, List.length_nil, Nat.zero_le, Nat.reduceAdd, Nat.reduceSub, Nat.reduceLeDiff, Nat.reduceLT, Nat.reduceEqDiff, Int.reduceToNat, reduceIte, xe_aload, jx_rv_r, jx_rv_n, jx_rv_q, xk_getf, jx_gf_i, jx_ov_s, ak_V, xe_ifle, xe_iconst, xi_m1, xe_ireturn, xe_icmp_eq, xe_ifnonnull_n, xe_ifnonnull_r, xe_irem, xk_iald, ja_ia, ak_A, ak_I, true_or, or_true, xe_istore, xe_lconst, xl_0, xe_lstore, jx_s2, xi_0, xx_0, xe_goto_w, xk_iload, jx_iv_i, xe_icmp_ge, xe_inv2, jx_cc_i, jx_cc_v, Nat.reduceMod, Nat.reduceDiv, jx_cl9_i, xk_lload, jx_lv_l, ak_L, xe_lcmp, xe_ifgt, xe_goto, xk_iinc, ak_C, xi_1, jx_s1, List.set_cons_zero, List.set_cons_succ, jx_2_i, jx_2_l, jx_2_r, jx_2_n, jx_2_u, jx_2_s, jx_2_q, jx_k_i, jx_k_l, jx_k_r, jx_k_n, jx_k_u, jx_k_s, jx_k_q, cq_r, cq_f, et, h3, e1, lg_cmp_gt, q]
  simp only [cr_178 jx_ns_r, eb_178_0, eb_178_9, eb_178_22, eb_178_41, jx_ns_r, jx_ns_n, jx_ns_q, jx_ns_i, jx_gl_0, jx_gl_s, if_true, if_false, ite_true, ite_false, eq_self, Bool.false_eq_true, List.length_cons, List.length_nil, Nat.zero_le, Nat.reduceAdd, Nat.reduceSub, Nat.reduceLeDiff, Nat.reduceLT, Nat.reduceEqDiff, Int.reduceToNat, reduceIte, xe_aload, jx_rv_r, jx_rv_n, jx_rv_q, xk_getf, jx_gf_i, jx_ov_s, ak_V, xe_ifle, xe_iconst, xi_m1, xe_ireturn, xe_icmp_eq, xe_ifnonnull_n, xe_ifnonnull_r, xe_irem, xk_iald, ja_ia, ak_A, ak_I, true_or, or_true, xe_istore, xe_lconst, xl_0, xe_lstore, jx_s2, xi_0, xx_0, xe_goto_w, xk_iload, jx_iv_i, xe_icmp_ge, xe_inv2, jx_cc_i, jx_cc_v, Nat.reduceMod, Nat.reduceDiv, jx_cl9_i, xk_lload, jx_lv_l, ak_L, xe_lcmp, xe_ifgt, xe_goto, xk_iinc, ak_C, xi_1, jx_s1, List.set_cons_zero, List.set_cons_succ, jx_2_i, jx_2_l, jx_2_r, jx_2_n, jx_2_u, jx_2_s, jx_2_q, jx_k_i, jx_k_l, jx_k_r, jx_k_n, jx_k_u, jx_k_s, jx_k_q, cq_r, cq_f, cq_ih, hle, hr]
  by_cases q1 : 0 < s 10
  · exact ⟨w, by simp only [q1, not_true, not_false_eq_true, if_true, if_false]⟩
  · by_cases q2 : s 9 = -1
    · obtain ⟨w2, e2⟩ := loop tm 0 (by omega) jx_un jx_un w (.inl ⟨rfl, rfl⟩)
      simp only [cq_bst, nI_0] at e2
      exact ⟨w2, by simp only [q1, q2, not_true, not_false_eq_true, if_true, if_false]; exact e2⟩
    · exact ⟨w, by simp only [q1, q2, not_true, not_false_eq_true, if_true, if_false]⟩
end CP
