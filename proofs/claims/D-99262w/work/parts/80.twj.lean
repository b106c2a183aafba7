/-! THE TWIN: isSpared, spare, lay -/
set_option maxRecDepth 100000
def tq_bs (P : Nat → Bool) (b0 : Int32) : Nat → Int32
  | 0 => b0
  | k + 1 => if cq_bc (nI k) < cq_bc (tq_bs P b0 k) ∧ P k = true then nI k else tq_bs P b0 k
theorem tq_bs_n {P : Nat → Bool} {B n : Nat} (hB : B < 256) (hn : n ≤ 256) : ∃ b, b < 256 ∧ tq_bs P (nI B) n = nI b := by
  induction n with
  | zero => exact ⟨B, hB, rfl⟩
  | succ n ih =>
    rw [tq_bs]
    split
    · exact ⟨n, by omega, rfl⟩
    · exact ih (by omega)
def tq_ly (f : Int32 → Int32) : Nat → Int32 × Int32
  | 0 => (-1, -1)
  | m + 1 => if (tq_ly f m).2 < f (nI m - 1) then (nI m - 1, f (nI m - 1)) else tq_ly f m
section TJ
variable {d : Nat} {h : jx_H} {s : Nat → Int32} {a : Nat → Nat → Int32} {E N : Nat → Int32} {Q : Nat → Nat → Int32} {W : Nat → Nat → Int64} {i k : Int32} {t u v tm pm day now D n m : Nat} {Lo : Option ((Nat → Int64) → Int64)}
theorem tm_isSpared {set : Int32} {a1 : Nat → Nat → Int32} (iv : cq_iv s a day tm pm now) (hn : now ≤ 999) (h60 : n ≤ 60) (al : tq_al a a1) (hK : tq_kp s a E Q) (hL : tq_lw (D + 2) (E 1) Q Lo) :
    ∃ a' N' W', tq_al a a' ∧ tq_nf N N' ∧ jx_cr (d + D + 7) 131 [.ref 113, .int i, .int (nI n), .int set] (tw h s a1 E N Q W) = some (.inl (some (.int (if sp_spd Lo i set n 0 (s, a) = true then 1 else 0))), tw h s a' E N' Q W') := by
  have t6 := iv.2.2.2.2.1; have p6 := iv.2.2.2.2.2.2.1; have es := iv.2.2.2.2.2.1; have et := iv.2.2.2.1; have d12 := iv.2.2.1; have d1 := iv.2.1
  have key := jx_lp (d := d + D + 6) (y := 131) (L := 6) (n := n) (γ := ((Nat → Int32) × (Nat → Nat → Int32)) × Bool × Value × (Nat → Nat → Int64)) (ls := fun m g => [.ref 113, .int i, .int (nI n), .int set, .int (if g.2.1 = true then 1 else 0), .int (nI m), g.2.2.1]) (H := fun _ g => tw h g.1.1 g.1.2 E N Q g.2.2.2)
    (I := fun m g => tq_ob a g.1.2 ∧ cq_iv g.1.1 g.1.2 day tm pm (now + m) ∧ (g.2.2.1 = jx_un ∨ ∃ v, g.2.2.1 = .int v) ∧ sp_spd Lo i set n 0 (s, a) = (g.2.1 && sp_spd Lo i set (n - m) m g.1))
    (G := fun r => ∃ a' N' W', tq_al a a' ∧ tq_nf N N' ∧ r = some (.inl (some (.int (if sp_spd Lo i set n 0 (s, a) = true then 1 else 0))), tw h s a' E N' Q W')) ?_ ?_ n 0 ((s, a1), true, jx_un, W) (by omega) ⟨al.1, cq_iv_c iv (tq_al_e t6 p6 al), .inl rfl, by
      rw [Bool.true_and]; exact sp_spd_c n 0 now _ _ _ _ iv (by omega) (tq_al_e t6 p6 al)⟩
  · obtain ⟨a', N', W', h1, h2, e⟩ := key
    refine ⟨a', N', W', h1, h2, ?_⟩
    simp only [nI_0, if_true] at e
    simp only [cr_131, eb_131_0, jx_ns_r, jx_ns_n, jx_ns_q, jx_ns_i, jx_gl_0, jx_gl_s, if_true, if_false, ite_true, ite_false, eq_self, Bool.false_eq_true, List.length_cons, List.length_nil, Nat.zero_le, Nat.reduceAdd, Nat.reduceSub, Nat.reduceLeDiff, Nat.reduceLT, Nat.reduceEqDiff, Int.reduceToNat, reduceIte, xe_iconst, xi_1, xx_1, xe_istore, xi_0, xx_0, xe_goto_w, xk_iload, jx_iv_i, ak_I, xe_icmp_ge, xe_aload, jx_rv_r, jx_rv_n, jx_rv_q, xk_getf, jx_gf_i, jx_ov_s, ak_V, xi_7, xx_7, xe_sta2, jx_cc_i, jx_cc_v, Nat.reduceMod, Nat.reduceDiv, xe_ifeq, xe_goto, xk_iast, ja_is, ak_S, ak_P, xe_inv0, jx_cl9_i, xi_5, xx_5, xk_iald, ja_ia, ak_A, true_or, or_true, xe_icmp_eq, xk_iinc, ak_C, xe_zreturn, xZ, jx_s1, List.set_cons_zero, List.set_cons_succ, jx_2_i, jx_2_l, jx_2_r, jx_2_n, jx_2_u, jx_2_s, jx_2_q, jx_k_i, jx_k_l, jx_k_r, jx_k_n, jx_k_u, jx_k_s, jx_k_q]
    exact e
  · rintro m ⟨⟨s1, a2⟩, b, v, W1⟩ hm ⟨ob, ivm, hv, hf⟩
    simp only at ob ivm hv hf
    have h3 : ¬ nI n ≤ nI m := nI_ge hm (by omega)
    have iv2 := cq_iv_10 ivm (sp_bit (x := set >>> (nI m &&& 31)))
    obtain ⟨W2, e2⟩ := tm_goes (d := d + 1) (h := h) (E := E) (N := N) (Q := Q) (W := W1) iv2 (by omega) hL
    rw [show d + 1 + D + 5 = d + D + 6 by omega] at e2
    rw [show n - m = (n - (m + 1)) + 1 by omega, sp_spd] at hf
    simp only at hf
    have ehs : (if (set >>> (nI m &&& 31)) &&& 1 = 1 then (1 : Int32) else 0) = (set >>> (nI m &&& 31)) &&& 1 := by
      rcases sp_a1 (set >>> (nI m &&& 31)) with r | r <;> rw [r] <;> decide
    generalize hy : cq_go Lo (va_up s1 10 ((set >>> (nI m &&& 31)) &&& 1), a2) = y at e2 hf
    have oby : tq_ob a y.2 := by rw [← hy]; exact tq_ob_go ob
    have ivy : cq_iv y.1 y.2 day tm pm (now + m + 1) := by rw [← hy]; exact cq_iv_go iv2 (by omega)
    -- the block up to the flag
    have st : ∀ any : Int32, any = (if cq_ws (va_up s1 10 ((set >>> (nI m &&& 31)) &&& 1)) a2 = 0 then 0 else 1) → jx_eb (d + D + 6) 131 6 [.ref 113, .int i, .int (nI n), .int set, .int (if b = true then 1 else 0), .int (nI m), v] [] (tw h s1 a2 E N Q W1) = jx_eb (d + D + 6) 131 45 [.ref 113, .int i, .int (nI n), .int set, .int (if b = true then 1 else 0), .int (nI m), v] [.int any] (tw h y.1 y.2 E N Q W2) := by
      intro any hany
      subst hany
      rw [eb_131_6]
      by_cases r0 : (set >>> (nI m &&& 31)) &&& 1 = 1
      · rw [r0] at e2 ⊢
        by_cases r1 : cq_ws (va_up s1 10 1) a2 = 0 <;> simp only [eb_131_31, eb_131_32, eb_131_44, jx_ns_r, jx_ns_n, jx_ns_q, jx_ns_i, jx_gl_0, jx_gl_s, if_true, if_false, ite_true, ite_false, eq_self, Bool.false_eq_true, List.length_cons, List.length_nil, Nat.zero_le, Nat.reduceAdd, Nat.reduceSub, Nat.reduceLeDiff, Nat.reduceLT, Nat.reduceEqDiff, Int.reduceToNat, reduceIte, xe_iconst, xi_1, xx_1, xe_istore, xi_0, xx_0, xe_goto_w, xk_iload, jx_iv_i, ak_I, xe_icmp_ge, xe_aload, jx_rv_r, jx_rv_n, jx_rv_q, xk_getf, jx_gf_i, jx_ov_s, ak_V, xi_7, xx_7, xe_sta2, jx_cc_i, jx_cc_v, Nat.reduceMod, Nat.reduceDiv, xe_ifeq, xe_goto, xk_iast, ja_is, ak_S, ak_P, xe_inv0, jx_cl9_i, xi_5, xx_5, xk_iald, ja_ia, ak_A, true_or, or_true, xe_icmp_eq, xk_iinc, ak_C, xe_zreturn, xZ, jx_s1, List.set_cons_zero, List.set_cons_succ, jx_2_i, jx_2_l, jx_2_r, jx_2_n, jx_2_u, jx_2_s, jx_2_q, jx_k_i, jx_k_l, jx_k_r, jx_k_n, jx_k_u, jx_k_s, jx_k_q, tw_r, tw_f, tw_s, tq_r, tq_w, tw_wo, tw_wsc, tq_ile_u, tq_ilo_u, va_up_s, tw_w2, tw_w3, tw_w4, tw_w5, tw_w6, tw_w7, tw_w8, tw_w9, tw_w10, tw_w11, tw_w12, tw_w13, tw_w14, tw_w15, tw_w16, tw_w17, tw_w18, tw_w29, tw_w30, tw_w31, tw_w32, tw_w33, tw_w34, tw_w35, tw_w36, tw_w37, tw_w38, tw_w39, tw_w40, tw_w44, tw_w45, tw_w46, tw_w47, tw_w48, tw_w49, tw_w50, h3, tq_has, r0, sp_10, e2, r1]
      · have r0' : (set >>> (nI m &&& 31)) &&& 1 = 0 := (sp_a1 _).resolve_right r0
        have r9 : ¬ (0 : Int32) = 1 := by decide
        rw [r0'] at e2 ⊢
        by_cases r1 : cq_ws (va_up s1 10 0) a2 = 0 <;> simp only [eb_131_31, eb_131_32, eb_131_44, jx_ns_r, jx_ns_n, jx_ns_q, jx_ns_i, jx_gl_0, jx_gl_s, if_true, if_false, ite_true, ite_false, eq_self, Bool.false_eq_true, List.length_cons, List.length_nil, Nat.zero_le, Nat.reduceAdd, Nat.reduceSub, Nat.reduceLeDiff, Nat.reduceLT, Nat.reduceEqDiff, Int.reduceToNat, reduceIte, xe_iconst, xi_1, xx_1, xe_istore, xi_0, xx_0, xe_goto_w, xk_iload, jx_iv_i, ak_I, xe_icmp_ge, xe_aload, jx_rv_r, jx_rv_n, jx_rv_q, xk_getf, jx_gf_i, jx_ov_s, ak_V, xi_7, xx_7, xe_sta2, jx_cc_i, jx_cc_v, Nat.reduceMod, Nat.reduceDiv, xe_ifeq, xe_goto, xk_iast, ja_is, ak_S, ak_P, xe_inv0, jx_cl9_i, xi_5, xx_5, xk_iald, ja_ia, ak_A, true_or, or_true, xe_icmp_eq, xk_iinc, ak_C, xe_zreturn, xZ, jx_s1, List.set_cons_zero, List.set_cons_succ, jx_2_i, jx_2_l, jx_2_r, jx_2_n, jx_2_u, jx_2_s, jx_2_q, jx_k_i, jx_k_l, jx_k_r, jx_k_n, jx_k_u, jx_k_s, jx_k_q, tw_r, tw_f, tw_s, tq_r, tq_w, tw_wo, tw_wsc, tq_ile_u, tq_ilo_u, va_up_s, tw_w2, tw_w3, tw_w4, tw_w5, tw_w6, tw_w7, tw_w8, tw_w9, tw_w10, tw_w11, tw_w12, tw_w13, tw_w14, tw_w15, tw_w16, tw_w17, tw_w18, tw_w29, tw_w30, tw_w31, tw_w32, tw_w33, tw_w34, tw_w35, tw_w36, tw_w37, tw_w38, tw_w39, tw_w40, tw_w44, tw_w45, tw_w46, tw_w47, tw_w48, tw_w49, tw_w50, h3, tq_has, r0', r9, e2, r1]
    by_cases r1 : cq_ws (va_up s1 10 ((set >>> (nI m &&& 31)) &&& 1)) a2 = 0
    · rw [if_neg (fun r => r.1 r1)] at hf
      have st := st 0 (by rw [if_pos r1])
      refine .inr ⟨(y, b, .int 0, W2), ⟨oby, ivy, .inr ⟨_, rfl⟩, hf⟩, ?_⟩
      refine st.trans ?_
      rcases hv with hv | ⟨v', hv⟩ <;> subst hv <;> cases b <;> simp only [eb_131_45, eb_131_67, eb_131_71, eb_131_72, jx_ns_r, jx_ns_n, jx_ns_q, jx_ns_i, jx_gl_0, jx_gl_s, if_true, if_false, ite_true, ite_false, eq_self, Bool.false_eq_true, List.length_cons, List.length_nil, Nat.zero_le, Nat.reduceAdd, Nat.reduceSub, Nat.reduceLeDiff, Nat.reduceLT, Nat.reduceEqDiff, Int.reduceToNat, reduceIte, xe_iconst, xi_1, xx_1, xe_istore, xi_0, xx_0, xe_goto_w, xk_iload, jx_iv_i, ak_I, xe_icmp_ge, xe_aload, jx_rv_r, jx_rv_n, jx_rv_q, xk_getf, jx_gf_i, jx_ov_s, ak_V, xi_7, xx_7, xe_sta2, jx_cc_i, jx_cc_v, Nat.reduceMod, Nat.reduceDiv, xe_ifeq, xe_goto, xk_iast, ja_is, ak_S, ak_P, xe_inv0, jx_cl9_i, xi_5, xx_5, xk_iald, ja_ia, ak_A, true_or, or_true, xe_icmp_eq, xk_iinc, ak_C, xe_zreturn, xZ, jx_s1, List.set_cons_zero, List.set_cons_succ, jx_2_i, jx_2_l, jx_2_r, jx_2_n, jx_2_u, jx_2_s, jx_2_q, jx_k_i, jx_k_l, jx_k_r, jx_k_n, jx_k_u, jx_k_s, jx_k_q, tw_r, tw_f, tq_r, va_up_s, sp_10, nI_1]
    · have st := st 1 (by rw [if_neg r1])
      by_cases r2 : y.1 8 = i
      · rw [if_pos ⟨r1, r2⟩, Bool.and_false] at hf
        refine .inr ⟨(y, false, .int 1, W2), ⟨oby, ivy, .inr ⟨_, rfl⟩, by rw [hf]; rfl⟩, ?_⟩
        refine st.trans ?_
        rcases hv with hv | ⟨v', hv⟩ <;> subst hv <;> cases b <;> simp only [eb_131_45, eb_131_67, eb_131_71, eb_131_72, jx_ns_r, jx_ns_n, jx_ns_q, jx_ns_i, jx_gl_0, jx_gl_s, if_true, if_false, ite_true, ite_false, eq_self, Bool.false_eq_true, List.length_cons, List.length_nil, Nat.zero_le, Nat.reduceAdd, Nat.reduceSub, Nat.reduceLeDiff, Nat.reduceLT, Nat.reduceEqDiff, Int.reduceToNat, reduceIte, xe_iconst, xi_1, xx_1, xe_istore, xi_0, xx_0, xe_goto_w, xk_iload, jx_iv_i, ak_I, xe_icmp_ge, xe_aload, jx_rv_r, jx_rv_n, jx_rv_q, xk_getf, jx_gf_i, jx_ov_s, ak_V, xi_7, xx_7, xe_sta2, jx_cc_i, jx_cc_v, Nat.reduceMod, Nat.reduceDiv, xe_ifeq, xe_goto, xk_iast, ja_is, ak_S, ak_P, xe_inv0, jx_cl9_i, xi_5, xx_5, xk_iald, ja_ia, ak_A, true_or, or_true, xe_icmp_eq, xk_iinc, ak_C, xe_zreturn, xZ, jx_s1, List.set_cons_zero, List.set_cons_succ, jx_2_i, jx_2_l, jx_2_r, jx_2_n, jx_2_u, jx_2_s, jx_2_q, jx_k_i, jx_k_l, jx_k_r, jx_k_n, jx_k_u, jx_k_s, jx_k_q, tw_r, tw_f, tq_r, va_up_s, sp_10, nI_1, r2]
      · rw [if_neg (fun r => r2 r.2)] at hf
        refine .inr ⟨(y, b, .int 1, W2), ⟨oby, ivy, .inr ⟨_, rfl⟩, hf⟩, ?_⟩
        refine st.trans ?_
        rcases hv with hv | ⟨v', hv⟩ <;> subst hv <;> cases b <;> simp only [eb_131_45, eb_131_67, eb_131_71, eb_131_72, jx_ns_r, jx_ns_n, jx_ns_q, jx_ns_i, jx_gl_0, jx_gl_s, if_true, if_false, ite_true, ite_false, eq_self, Bool.false_eq_true, List.length_cons, List.length_nil, Nat.zero_le, Nat.reduceAdd, Nat.reduceSub, Nat.reduceLeDiff, Nat.reduceLT, Nat.reduceEqDiff, Int.reduceToNat, reduceIte, xe_iconst, xi_1, xx_1, xe_istore, xi_0, xx_0, xe_goto_w, xk_iload, jx_iv_i, ak_I, xe_icmp_ge, xe_aload, jx_rv_r, jx_rv_n, jx_rv_q, xk_getf, jx_gf_i, jx_ov_s, ak_V, xi_7, xx_7, xe_sta2, jx_cc_i, jx_cc_v, Nat.reduceMod, Nat.reduceDiv, xe_ifeq, xe_goto, xk_iast, ja_is, ak_S, ak_P, xe_inv0, jx_cl9_i, xi_5, xx_5, xk_iald, ja_ia, ak_A, true_or, or_true, xe_icmp_eq, xk_iinc, ak_C, xe_zreturn, xZ, jx_s1, List.set_cons_zero, List.set_cons_succ, jx_2_i, jx_2_l, jx_2_r, jx_2_n, jx_2_u, jx_2_s, jx_2_q, jx_k_i, jx_k_l, jx_k_r, jx_k_n, jx_k_u, jx_k_s, jx_k_q, tw_r, tw_f, tq_r, va_up_s, sp_10, nI_1, r2]
  · rintro ⟨⟨s1, a2⟩, b, v, W1⟩ ⟨ob, ivm, hv, hf⟩
    simp only at ob ivm hv hf
    have h3 : nI n ≤ nI n := (nI_leI (by omega) (by omega)).mpr (Nat.le_refl _)
    obtain ⟨N4, hN4, e4⟩ := tq_lay (d := d + D + 3) (h := h) (s := s1) (a := a2) (E := E) (N := N) (Q := Q) (W := W1) hK (fun _ _ => rfl)
    rw [Nat.sub_self, sp_spd, Bool.and_true] at hf
    refine ⟨_, _, W1, tq_al_sa ob, hN4, ?_⟩
    rw [hf]
    cases b <;> simp only [eb_131_6, eb_131_80, jx_ns_r, jx_ns_n, jx_ns_q, jx_ns_i, jx_gl_0, jx_gl_s, if_true, if_false, ite_true, ite_false, eq_self, Bool.false_eq_true, List.length_cons, List.length_nil, Nat.zero_le, Nat.reduceAdd, Nat.reduceSub, Nat.reduceLeDiff, Nat.reduceLT, Nat.reduceEqDiff, Int.reduceToNat, reduceIte, xe_iconst, xi_1, xx_1, xe_istore, xi_0, xx_0, xe_goto_w, xk_iload, jx_iv_i, ak_I, xe_icmp_ge, xe_aload, jx_rv_r, jx_rv_n, jx_rv_q, xk_getf, jx_gf_i, jx_ov_s, ak_V, xi_7, xx_7, xe_sta2, jx_cc_i, jx_cc_v, Nat.reduceMod, Nat.reduceDiv, xe_ifeq, xe_goto, xk_iast, ja_is, ak_S, ak_P, xe_inv0, jx_cl9_i, xi_5, xx_5, xk_iald, ja_ia, ak_A, true_or, or_true, xe_icmp_eq, xk_iinc, ak_C, xe_zreturn, xZ, jx_s1, List.set_cons_zero, List.set_cons_succ, jx_2_i, jx_2_l, jx_2_r, jx_2_n, jx_2_u, jx_2_s, jx_2_q, jx_k_i, jx_k_l, jx_k_r, jx_k_n, jx_k_u, jx_k_s, jx_k_q, tw_r, tw_f, tq_r, va_up_s, h3, e4, xZ]
theorem tm_spare0 {j : Int32} (et : s 2 = nI tm) (htm : tm ≤ 6) (hq : ¬ ((0 ≤ i ∧ i < s 2) ∧ (1 ≤ j.toInt64 ∧ j.toInt64 ≤ 8) ∧ 0 ≤ k.toInt64 ∧ k.toInt64 ≤ 1)) : jx_cr (d + 3) 132 [.ref 113, .int i, .int j, .int k] (tw h s a E N Q W) = some (.inl (some (.int (-1))), (tw h s a E N Q W)) := by
  by_cases q1 : 0 ≤ i ∧ i < s 2
  · by_cases q2 : 1 ≤ j.toInt64 ∧ j.toInt64 ≤ 8
    · have q3 : ¬ (0 ≤ k.toInt64 ∧ k.toInt64 ≤ 1) := fun r => hq ⟨q1, q2, r⟩
      simp only [cr_132, eb_132_0, eb_132_30, jx_ns_r, jx_ns_n, jx_ns_q, jx_ns_i, jx_gl_0, jx_gl_s, if_true, if_false, ite_true, ite_false, eq_self, Bool.false_eq_true, List.length_cons, List.length_nil, Nat.zero_le, Nat.reduceAdd, Nat.reduceSub, Nat.reduceLeDiff, Nat.reduceLT, Nat.reduceEqDiff, Int.reduceToNat, reduceIte, xe_aload, jx_rv_r, jx_rv_n, jx_rv_q, xk_iload, jx_iv_i, ak_I, xe_inv1, jx_cc_i, jx_cc_v, Nat.reduceMod, Nat.reduceDiv, jx_cl9_i, xe_ifeq, xe_i2l, xe_lconst, xl_1, xl_8, xe_sta3, xl_0, xe_ifne, xe_goto_w, xe_iconst, xi_m1, xe_ireturn, xi_1, xx_1, xe_ishl, xe_isub, xe_istore, xe_inv0, xi_0, xx_0, xe_icmp_ge, xe_sta1, xe_inv3, xe_goto, xk_iinc, ak_C, jx_s1, List.set_cons_zero, List.set_cons_succ, jx_2_i, jx_2_l, jx_2_r, jx_2_n, jx_2_u, jx_2_s, jx_2_q, jx_k_i, jx_k_l, jx_k_r, jx_k_n, jx_k_u, jx_k_s, jx_k_q, tw_r, tw_f, tq_r, va_up_s, tm_isThing et htm, tq_inL, q1, q2, q3, and_self, sp_10]
    · simp only [cr_132, eb_132_0, eb_132_30, jx_ns_r, jx_ns_n, jx_ns_q, jx_ns_i, jx_gl_0, jx_gl_s, if_true, if_false, ite_true, ite_false, eq_self, Bool.false_eq_true, List.length_cons, List.length_nil, Nat.zero_le, Nat.reduceAdd, Nat.reduceSub, Nat.reduceLeDiff, Nat.reduceLT, Nat.reduceEqDiff, Int.reduceToNat, reduceIte, xe_aload, jx_rv_r, jx_rv_n, jx_rv_q, xk_iload, jx_iv_i, ak_I, xe_inv1, jx_cc_i, jx_cc_v, Nat.reduceMod, Nat.reduceDiv, jx_cl9_i, xe_ifeq, xe_i2l, xe_lconst, xl_1, xl_8, xe_sta3, xl_0, xe_ifne, xe_goto_w, xe_iconst, xi_m1, xe_ireturn, xi_1, xx_1, xe_ishl, xe_isub, xe_istore, xe_inv0, xi_0, xx_0, xe_icmp_ge, xe_sta1, xe_inv3, xe_goto, xk_iinc, ak_C, jx_s1, List.set_cons_zero, List.set_cons_succ, jx_2_i, jx_2_l, jx_2_r, jx_2_n, jx_2_u, jx_2_s, jx_2_q, jx_k_i, jx_k_l, jx_k_r, jx_k_n, jx_k_u, jx_k_s, jx_k_q, tw_r, tw_f, tq_r, va_up_s, tm_isThing et htm, tq_inL, q1, q2, and_self, sp_10]
  · simp only [cr_132, eb_132_0, eb_132_30, jx_ns_r, jx_ns_n, jx_ns_q, jx_ns_i, jx_gl_0, jx_gl_s, if_true, if_false, ite_true, ite_false, eq_self, Bool.false_eq_true, List.length_cons, List.length_nil, Nat.zero_le, Nat.reduceAdd, Nat.reduceSub, Nat.reduceLeDiff, Nat.reduceLT, Nat.reduceEqDiff, Int.reduceToNat, reduceIte, xe_aload, jx_rv_r, jx_rv_n, jx_rv_q, xk_iload, jx_iv_i, ak_I, xe_inv1, jx_cc_i, jx_cc_v, Nat.reduceMod, Nat.reduceDiv, jx_cl9_i, xe_ifeq, xe_i2l, xe_lconst, xl_1, xl_8, xe_sta3, xl_0, xe_ifne, xe_goto_w, xe_iconst, xi_m1, xe_ireturn, xi_1, xx_1, xe_ishl, xe_isub, xe_istore, xe_inv0, xi_0, xx_0, xe_icmp_ge, xe_sta1, xe_inv3, xe_goto, xk_iinc, ak_C, jx_s1, List.set_cons_zero, List.set_cons_succ, jx_2_i, jx_2_l, jx_2_r, jx_2_n, jx_2_u, jx_2_s, jx_2_q, jx_k_i, jx_k_l, jx_k_r, jx_k_n, jx_k_u, jx_k_s, jx_k_q, tw_r, tw_f, tq_r, va_up_s, tm_isThing et htm, q1]
theorem tm_spare (iv : cq_iv s a day tm pm now) (hn : now ≤ 999) (ht : t < tm) (h1n : 1 ≤ n) (h8 : n ≤ 8) (hk : 0 ≤ k.toInt64 ∧ k.toInt64 ≤ 1) (hL : tq_lw (D + 2) (E 1) Q Lo) :
    tq_fin h s a E N Q (jx_cr (d + D + 8) 132 [.ref 113, .int (nI t), .int (nI n), .int k] (tw h s a E N Q W)) (if k = 0 then cq_bc (tq_bs (fun m => sp_spd Lo (nI t) (nI m) n 0 (s, a)) (nI (2 ^ n - 1)) (2 ^ n)) else tq_bs (fun m => sp_spd Lo (nI t) (nI m) n 0 (s, a)) (nI (2 ^ n - 1)) (2 ^ n)) := by
  have t6 := iv.2.2.2.2.1; have p6 := iv.2.2.2.2.2.2.1; have es := iv.2.2.2.2.2.1; have et := iv.2.2.2.1; have d12 := iv.2.2.1; have d1 := iv.2.1
  have hth := sp_q ht (by omega) et
  have hq1 : 1 ≤ (nI n).toInt64 ∧ (nI n).toInt64 ≤ 8 := sp_rg (a := 1) (b := 8) h1n h8 (by omega)
  have b2 := sp_2b h8
  have e1n := sp_2n h8
  have e2n := sp_2m h8
  obtain ⟨N1, Q1, hN1, hQ1, hK, e1⟩ := tq_keep (d := d + D + 4) (h := h) (s := s) (a := a) (E := E) (N := N) (Q := Q) (W := W)
  have hL1 := tq_lw_Q hL (tq_qf_l hQ1)
  generalize eP : (fun m => sp_spd Lo (nI t) (nI m) n 0 (s, a)) = P
  have hb : ∀ m, m ≤ 2 ^ n → ∃ b, b < 256 ∧ tq_bs P (nI (2 ^ n - 1)) m = nI b := fun m hm => tq_bs_n (by omega) (by omega)
  have key := jx_lp (d := d + D + 7) (y := 132) (L := 46) (n := 2 ^ n) (γ := (Nat → Nat → Int32) × (Nat → Int32) × (Nat → Nat → Int64)) (ls := fun m _ => [.ref 113, .int (nI t), .int (nI n), .int k, .int (tq_bs P (nI (2 ^ n - 1)) m), .int (nI m)]) (H := fun _ g => tw h s g.1 E g.2.1 Q1 g.2.2)
    (I := fun m g => tq_al a g.1 ∧ tq_nf N g.2.1)
    (G := fun r => tq_fin h s a E N Q r (if k = 0 then cq_bc (tq_bs P (nI (2 ^ n - 1)) (2 ^ n)) else tq_bs P (nI (2 ^ n - 1)) (2 ^ n))) ?_ ?_ (2 ^ n) 0 (a, N1, W) (by omega) ⟨tq_al_r, hN1⟩
  · obtain ⟨a', N', Q', W', h1, h2, h3, e⟩ := key
    refine ⟨a', N', Q', W', h1, h2, h3, ?_⟩
    simp only [nI_0, tq_bs] at e
    simp only [cr_132, eb_132_0, eb_132_32, jx_ns_r, jx_ns_n, jx_ns_q, jx_ns_i, jx_gl_0, jx_gl_s, if_true, if_false, ite_true, ite_false, eq_self, Bool.false_eq_true, List.length_cons, List.length_nil, Nat.zero_le, Nat.reduceAdd, Nat.reduceSub, Nat.reduceLeDiff, Nat.reduceLT, Nat.reduceEqDiff, Int.reduceToNat, reduceIte, xe_aload, jx_rv_r, jx_rv_n, jx_rv_q, xk_iload, jx_iv_i, ak_I, xe_inv1, jx_cc_i, jx_cc_v, Nat.reduceMod, Nat.reduceDiv, jx_cl9_i, xe_ifeq, xe_i2l, xe_lconst, xl_1, xl_8, xe_sta3, xl_0, xe_ifne, xe_goto_w, xe_iconst, xi_m1, xe_ireturn, xi_1, xx_1, xe_ishl, xe_isub, xe_istore, xe_inv0, xi_0, xx_0, xe_icmp_ge, xe_sta1, xe_inv3, xe_goto, xk_iinc, ak_C, jx_s1, List.set_cons_zero, List.set_cons_succ, jx_2_i, jx_2_l, jx_2_r, jx_2_n, jx_2_u, jx_2_s, jx_2_q, jx_k_i, jx_k_l, jx_k_r, jx_k_n, jx_k_u, jx_k_s, jx_k_q, tw_r, tw_f, tq_r, va_up_s, tm_isThing et t6, tq_inL, hth, hq1, hk, and_self, sp_10, e1n, e2n, e1]
    exact e
  · rintro m ⟨a1, N2, W1⟩ hm ⟨al, hN2⟩
    simp only at al hN2
    have h3 : ¬ nI (2 ^ n) ≤ nI m := nI_ge hm (by omega)
    obtain ⟨b, hb2, eb⟩ := hb m (by omega)
    have bm := fun (d : Nat) (H : jx_H) => tq_bitsN (d := d) (n := m) (h := H) (by omega)
    have bb := fun (d : Nat) (H : jx_H) => tq_bitsN (d := d) (n := b) (h := H) hb2
    by_cases r1 : cq_bc (nI m) < cq_bc (nI b)
    · have r1' : ¬ cq_bc (nI b) ≤ cq_bc (nI m) := Int32.not_le.mpr r1
      obtain ⟨a', N', W', h1, h2, e⟩ := tm_isSpared (d := d) (h := h) (N := N2) (W := W1) (i := nI t) (set := nI m) iv hn (show n ≤ 60 by omega) al hK hL1
      have eP := congrFun eP m
      rw [eP] at e
      refine .inr ⟨(a', N', W'), ⟨h1, tq_nf_t hN2 h2⟩, ?_⟩
      rw [tq_bs, eb, eb_132_46]
      by_cases r2 : P m = true
      · simp only [eb_132_85, eb_132_87, jx_ns_r, jx_ns_n, jx_ns_q, jx_ns_i, jx_gl_0, jx_gl_s, if_true, if_false, ite_true, ite_false, eq_self, Bool.false_eq_true, List.length_cons, List.length_nil, Nat.zero_le, Nat.reduceAdd, Nat.reduceSub, Nat.reduceLeDiff, Nat.reduceLT, Nat.reduceEqDiff, Int.reduceToNat, reduceIte, xe_aload, jx_rv_r, jx_rv_n, jx_rv_q, xk_iload, jx_iv_i, ak_I, xe_inv1, jx_cc_i, jx_cc_v, Nat.reduceMod, Nat.reduceDiv, jx_cl9_i, xe_ifeq, xe_i2l, xe_lconst, xl_1, xl_8, xe_sta3, xl_0, xe_ifne, xe_goto_w, xe_iconst, xi_m1, xe_ireturn, xi_1, xx_1, xe_ishl, xe_isub, xe_istore, xe_inv0, xi_0, xx_0, xe_icmp_ge, xe_sta1, xe_inv3, xe_goto, xk_iinc, ak_C, jx_s1, List.set_cons_zero, List.set_cons_succ, jx_2_i, jx_2_l, jx_2_r, jx_2_n, jx_2_u, jx_2_s, jx_2_q, jx_k_i, jx_k_l, jx_k_r, jx_k_n, jx_k_u, jx_k_s, jx_k_q, tw_r, tw_f, tq_r, va_up_s, e1n, h3, bm, bb, r1', r1, r2, e, and_self, sp_10, nI_1]
      · simp only [eb_132_83, eb_132_85, eb_132_87, jx_ns_r, jx_ns_n, jx_ns_q, jx_ns_i, jx_gl_0, jx_gl_s, if_true, if_false, ite_true, ite_false, eq_self, Bool.false_eq_true, List.length_cons, List.length_nil, Nat.zero_le, Nat.reduceAdd, Nat.reduceSub, Nat.reduceLeDiff, Nat.reduceLT, Nat.reduceEqDiff, Int.reduceToNat, reduceIte, xe_aload, jx_rv_r, jx_rv_n, jx_rv_q, xk_iload, jx_iv_i, ak_I, xe_inv1, jx_cc_i, jx_cc_v, Nat.reduceMod, Nat.reduceDiv, jx_cl9_i, xe_ifeq, xe_i2l, xe_lconst, xl_1, xl_8, xe_sta3, xl_0, xe_ifne, xe_goto_w, xe_iconst, xi_m1, xe_ireturn, xi_1, xx_1, xe_ishl, xe_isub, xe_istore, xe_inv0, xi_0, xx_0, xe_icmp_ge, xe_sta1, xe_inv3, xe_goto, xk_iinc, ak_C, jx_s1, List.set_cons_zero, List.set_cons_succ, jx_2_i, jx_2_l, jx_2_r, jx_2_n, jx_2_u, jx_2_s, jx_2_q, jx_k_i, jx_k_l, jx_k_r, jx_k_n, jx_k_u, jx_k_s, jx_k_q, tw_r, tw_f, tq_r, va_up_s, e1n, h3, bm, bb, r1', r2, e, and_false, nI_1]
    · have r1' : cq_bc (nI b) ≤ cq_bc (nI m) := Int32.not_lt.mp r1
      refine .inr ⟨(a1, N2, W1), ⟨al, hN2⟩, ?_⟩
      rw [tq_bs, eb, eb_132_46]
      simp only [eb_132_87, jx_ns_r, jx_ns_n, jx_ns_q, jx_ns_i, jx_gl_0, jx_gl_s, if_true, if_false, ite_true, ite_false, eq_self, Bool.false_eq_true, List.length_cons, List.length_nil, Nat.zero_le, Nat.reduceAdd, Nat.reduceSub, Nat.reduceLeDiff, Nat.reduceLT, Nat.reduceEqDiff, Int.reduceToNat, reduceIte, xe_aload, jx_rv_r, jx_rv_n, jx_rv_q, xk_iload, jx_iv_i, ak_I, xe_inv1, jx_cc_i, jx_cc_v, Nat.reduceMod, Nat.reduceDiv, jx_cl9_i, xe_ifeq, xe_i2l, xe_lconst, xl_1, xl_8, xe_sta3, xl_0, xe_ifne, xe_goto_w, xe_iconst, xi_m1, xe_ireturn, xi_1, xx_1, xe_ishl, xe_isub, xe_istore, xe_inv0, xi_0, xx_0, xe_icmp_ge, xe_sta1, xe_inv3, xe_goto, xk_iinc, ak_C, jx_s1, List.set_cons_zero, List.set_cons_succ, jx_2_i, jx_2_l, jx_2_r, jx_2_n, jx_2_u, jx_2_s, jx_2_q, jx_k_i, jx_k_l, jx_k_r, jx_k_n, jx_k_u, jx_k_s, jx_k_q, tw_r, tw_f, tq_r, va_up_s, e1n, h3, bm, bb, r1', r1, false_and, nI_1]
  · rintro ⟨a1, N2, W1⟩ ⟨al, hN2⟩
    obtain ⟨b, hb2, eb⟩ := hb (2 ^ n) (Nat.le_refl _)
    have bb := fun (d : Nat) (H : jx_H) => tq_bitsN (d := d) (n := b) (h := H) hb2
    have h3 : nI (2 ^ n) ≤ nI (2 ^ n) := (nI_leI (by omega) (by omega)).mpr (Nat.le_refl _)
    refine ⟨a1, N2, Q1, W1, al, hN2, hQ1, ?_⟩
    rw [eb]
    by_cases r : k = 0 <;> simp only [eb_132_46, eb_132_93, eb_132_105, eb_132_107, jx_ns_r, jx_ns_n, jx_ns_q, jx_ns_i, jx_gl_0, jx_gl_s, if_true, if_false, ite_true, ite_false, eq_self, Bool.false_eq_true, List.length_cons, List.length_nil, Nat.zero_le, Nat.reduceAdd, Nat.reduceSub, Nat.reduceLeDiff, Nat.reduceLT, Nat.reduceEqDiff, Int.reduceToNat, reduceIte, xe_aload, jx_rv_r, jx_rv_n, jx_rv_q, xk_iload, jx_iv_i, ak_I, xe_inv1, jx_cc_i, jx_cc_v, Nat.reduceMod, Nat.reduceDiv, jx_cl9_i, xe_ifeq, xe_i2l, xe_lconst, xl_1, xl_8, xe_sta3, xl_0, xe_ifne, xe_goto_w, xe_iconst, xi_m1, xe_ireturn, xi_1, xx_1, xe_ishl, xe_isub, xe_istore, xe_inv0, xi_0, xx_0, xe_icmp_ge, xe_sta1, xe_inv3, xe_goto, xk_iinc, ak_C, jx_s1, List.set_cons_zero, List.set_cons_succ, jx_2_i, jx_2_l, jx_2_r, jx_2_n, jx_2_u, jx_2_s, jx_2_q, jx_k_i, jx_k_l, jx_k_r, jx_k_n, jx_k_u, jx_k_s, jx_k_q, tw_r, tw_f, tq_r, va_up_s, e1n, h3, bb, r]
theorem tm_lay0 {j : Int32} (es : s 3 = nI pm) (hpm : pm ≤ 6) (hq : ¬ ((0 ≤ i ∧ i < s 3) ∧ (1 ≤ j.toInt64 ∧ j.toInt64 ≤ 60) ∧ 0 ≤ k.toInt64 ∧ k.toInt64 ≤ 1)) : jx_cr (d + 3) 133 [.ref 113, .int i, .int j, .int k] (tw h s a E N Q W) = some (.inl (some (.int (-2))), (tw h s a E N Q W)) := by
  by_cases q1 : 0 ≤ i ∧ i < s 3
  · by_cases q2 : 1 ≤ j.toInt64 ∧ j.toInt64 ≤ 60
    · have q3 : ¬ (0 ≤ k.toInt64 ∧ k.toInt64 ≤ 1) := fun r => hq ⟨q1, q2, r⟩
      simp only [cr_133, eb_133_0, eb_133_30, jx_ns_r, jx_ns_n, jx_ns_q, jx_ns_i, jx_gl_0, jx_gl_s, if_true, if_false, ite_true, ite_false, eq_self, Bool.false_eq_true, List.length_cons, List.length_nil, Nat.zero_le, Nat.reduceAdd, Nat.reduceSub, Nat.reduceLeDiff, Nat.reduceLT, Nat.reduceEqDiff, Int.reduceToNat, reduceIte, xe_aload, jx_rv_r, jx_rv_n, jx_rv_q, xk_iload, jx_iv_i, ak_I, xe_inv1, jx_cc_i, jx_cc_v, Nat.reduceMod, Nat.reduceDiv, jx_cl9_i, xe_ifeq, xe_i2l, xe_lconst, xl_1, xl_60, xe_sta3, xl_0, xe_ifne, xe_goto_w, xe_iconst, xi_m2, xe_ireturn, xi_m1, xe_istore, xe_inv0, xk_getf, jx_gf_i, jx_ov_s, ak_V, xi_2, xx_2, xk_iald, ja_ia, ak_A, true_or, or_true, xe_icmp_ge, xi_6, xx_6, xk_iast, ja_is, ak_S, ak_P, xe_icmp_le, xk_iinc, ak_C, xi_1, xe_goto, jx_s1, List.set_cons_zero, List.set_cons_succ, jx_2_i, jx_2_l, jx_2_r, jx_2_n, jx_2_u, jx_2_s, jx_2_q, jx_k_i, jx_k_l, jx_k_r, jx_k_n, jx_k_u, jx_k_s, jx_k_q, tw_r, tw_f, tq_r, va_up_s, tm_isPerson es hpm, tq_inL, q1, q2, q3, and_self, sp_10]
    · simp only [cr_133, eb_133_0, eb_133_30, jx_ns_r, jx_ns_n, jx_ns_q, jx_ns_i, jx_gl_0, jx_gl_s, if_true, if_false, ite_true, ite_false, eq_self, Bool.false_eq_true, List.length_cons, List.length_nil, Nat.zero_le, Nat.reduceAdd, Nat.reduceSub, Nat.reduceLeDiff, Nat.reduceLT, Nat.reduceEqDiff, Int.reduceToNat, reduceIte, xe_aload, jx_rv_r, jx_rv_n, jx_rv_q, xk_iload, jx_iv_i, ak_I, xe_inv1, jx_cc_i, jx_cc_v, Nat.reduceMod, Nat.reduceDiv, jx_cl9_i, xe_ifeq, xe_i2l, xe_lconst, xl_1, xl_60, xe_sta3, xl_0, xe_ifne, xe_goto_w, xe_iconst, xi_m2, xe_ireturn, xi_m1, xe_istore, xe_inv0, xk_getf, jx_gf_i, jx_ov_s, ak_V, xi_2, xx_2, xk_iald, ja_ia, ak_A, true_or, or_true, xe_icmp_ge, xi_6, xx_6, xk_iast, ja_is, ak_S, ak_P, xe_icmp_le, xk_iinc, ak_C, xi_1, xe_goto, jx_s1, List.set_cons_zero, List.set_cons_succ, jx_2_i, jx_2_l, jx_2_r, jx_2_n, jx_2_u, jx_2_s, jx_2_q, jx_k_i, jx_k_l, jx_k_r, jx_k_n, jx_k_u, jx_k_s, jx_k_q, tw_r, tw_f, tq_r, va_up_s, tm_isPerson es hpm, tq_inL, q1, q2, and_self, sp_10]
  · simp only [cr_133, eb_133_0, eb_133_30, jx_ns_r, jx_ns_n, jx_ns_q, jx_ns_i, jx_gl_0, jx_gl_s, if_true, if_false, ite_true, ite_false, eq_self, Bool.false_eq_true, List.length_cons, List.length_nil, Nat.zero_le, Nat.reduceAdd, Nat.reduceSub, Nat.reduceLeDiff, Nat.reduceLT, Nat.reduceEqDiff, Int.reduceToNat, reduceIte, xe_aload, jx_rv_r, jx_rv_n, jx_rv_q, xk_iload, jx_iv_i, ak_I, xe_inv1, jx_cc_i, jx_cc_v, Nat.reduceMod, Nat.reduceDiv, jx_cl9_i, xe_ifeq, xe_i2l, xe_lconst, xl_1, xl_60, xe_sta3, xl_0, xe_ifne, xe_goto_w, xe_iconst, xi_m2, xe_ireturn, xi_m1, xe_istore, xe_inv0, xk_getf, jx_gf_i, jx_ov_s, ak_V, xi_2, xx_2, xk_iald, ja_ia, ak_A, true_or, or_true, xe_icmp_ge, xi_6, xx_6, xk_iast, ja_is, ak_S, ak_P, xe_icmp_le, xk_iinc, ak_C, xi_1, xe_goto, jx_s1, List.set_cons_zero, List.set_cons_succ, jx_2_i, jx_2_l, jx_2_r, jx_2_n, jx_2_u, jx_2_s, jx_2_q, jx_k_i, jx_k_l, jx_k_r, jx_k_n, jx_k_u, jx_k_s, jx_k_q, tw_r, tw_f, tq_r, va_up_s, tm_isPerson es hpm, q1]
theorem tm_lay (iv : cq_iv s a day tm pm now) (hn : now ≤ 999) (ht : t < pm) (h1n : 1 ≤ n) (h60 : n ≤ 60) (hk : 0 ≤ k.toInt64 ∧ k.toInt64 ≤ 1) (hL : tq_lw (D + 2) (E 1) Q Lo) :
    tq_fin h s a E N Q (jx_cr (d + D + 8) 133 [.ref 113, .int (nI t), .int (nI n), .int k] (tw h s a E N Q W)) (if k = 0 then (tq_ly (sp_rb Lo s a tm t n) (tm + 1)).1 else (tq_ly (sp_rb Lo s a tm t n) (tm + 1)).2) := by
  have t6 := iv.2.2.2.2.1; have p6 := iv.2.2.2.2.2.2.1; have es := iv.2.2.2.2.2.1; have et := iv.2.2.2.1; have d12 := iv.2.2.1; have d1 := iv.2.1
  have hpe := sp_q ht (by omega) es
  have hq1 : 1 ≤ (nI n).toInt64 ∧ (nI n).toInt64 ≤ 60 := sp_rg (a := 1) (b := 60) h1n h60 (by omega)
  obtain ⟨N1, Q1, hN1, hQ1, hK, e1⟩ := tq_keep (d := d + D + 4) (h := h) (s := s) (a := a) (E := E) (N := N) (Q := Q) (W := W)
  have hL1 := tq_lw_Q hL (tq_qf_l hQ1)
  generalize ef : sp_rb Lo s a tm t n = f
  have key := jx_lp (d := d + D + 7) (y := 133) (L := 46) (n := tm + 1) (γ := (Nat → Nat → Int32) × (Nat → Int32) × (Nat → Nat → Int64)) (ls := fun m _ => [.ref 113, .int (nI t), .int (nI n), .int k, .int (tq_ly f m).1, .int (tq_ly f m).2, .int (nI m - 1)]) (H := fun _ g => tw h s g.1 E g.2.1 Q1 g.2.2)
    (I := fun m g => tq_al a g.1 ∧ tq_nf N g.2.1)
    (G := fun r => tq_fin h s a E N Q r (if k = 0 then (tq_ly f (tm + 1)).1 else (tq_ly f (tm + 1)).2)) ?_ ?_ (tm + 1) 0 (a, N1, W) (by omega) ⟨tq_al_r, hN1⟩
  · obtain ⟨a', N', Q', W', h1, h2, h3, e⟩ := key
    refine ⟨a', N', Q', W', h1, h2, h3, ?_⟩
    have e0 : nI 0 - 1 = -1 := by decide
    simp only [e0, tq_ly] at e
    simp only [cr_133, eb_133_0, eb_133_33, jx_ns_r, jx_ns_n, jx_ns_q, jx_ns_i, jx_gl_0, jx_gl_s, if_true, if_false, ite_true, ite_false, eq_self, Bool.false_eq_true, List.length_cons, List.length_nil, Nat.zero_le, Nat.reduceAdd, Nat.reduceSub, Nat.reduceLeDiff, Nat.reduceLT, Nat.reduceEqDiff, Int.reduceToNat, reduceIte, xe_aload, jx_rv_r, jx_rv_n, jx_rv_q, xk_iload, jx_iv_i, ak_I, xe_inv1, jx_cc_i, jx_cc_v, Nat.reduceMod, Nat.reduceDiv, jx_cl9_i, xe_ifeq, xe_i2l, xe_lconst, xl_1, xl_60, xe_sta3, xl_0, xe_ifne, xe_goto_w, xe_iconst, xi_m2, xe_ireturn, xi_m1, xe_istore, xe_inv0, xk_getf, jx_gf_i, jx_ov_s, ak_V, xi_2, xx_2, xk_iald, ja_ia, ak_A, true_or, or_true, xe_icmp_ge, xi_6, xx_6, xk_iast, ja_is, ak_S, ak_P, xe_icmp_le, xk_iinc, ak_C, xi_1, xe_goto, jx_s1, List.set_cons_zero, List.set_cons_succ, jx_2_i, jx_2_l, jx_2_r, jx_2_n, jx_2_u, jx_2_s, jx_2_q, jx_k_i, jx_k_l, jx_k_r, jx_k_n, jx_k_u, jx_k_s, jx_k_q, tw_r, tw_f, tq_r, va_up_s, tm_isPerson es p6, tq_inL, hpe, hq1, hk, and_self, sp_10, e1]
    exact e
  · rintro m ⟨a1, N2, W1⟩ hm ⟨al, hN2⟩
    simp only at al hN2
    have h3 : ¬ nI tm ≤ nI m - 1 := by
      rw [Int32.not_le, Int32.lt_iff_toInt_lt, nI_toInt (by omega), show (1 : Int32) = nI 1 from rfl, pk_sub_toInt (by omega) (by omega)]
      omega
    have hpt : cq_pt (nI m - 1) tm := by
      rcases Nat.eq_zero_or_pos m with r | r
      · subst r; exact .inl (by decide)
      · refine .inr ⟨m - 1, by omega, ?_⟩
        have := nI_pred (m - 1)
        rwa [Nat.sub_add_cancel r] at this
    have ce := cq_eq_sc (j := 9) (k := nI m - 1) (tq_al_e (s := s) (day := day) t6 p6 al)
    have iv2 := cq_iv_9 iv hpt
    have gc := cq_gn_c (n := n) (Lo := Lo) iv2 (by omega) ce
    obtain ⟨W2, e2⟩ := tm_goFor (d := d + 1) (h := h) (E := E) (N := N2) (Q := Q1) (W := W1) (n := n) (cq_iv_c iv2 ce) (by omega) hL1
    rw [show d + 1 + D + 6 = d + D + 7 by omega] at e2
    generalize eG : cq_gn Lo n (va_up s 9 (nI m - 1), a1) = G1 at e2 gc
    have ob : tq_ob a G1.2 := by rw [← eG]; exact tq_ob_gn al.1
    have et2 : G1.1 2 = nI tm := by rw [← eG, cq_gn_2 (by omega)]; exact et
    obtain ⟨N4, hN4, e4⟩ := tq_lay (d := d + D + 4) (h := h) (s := G1.1) (a := G1.2) (E := E) (N := N2) (Q := Q1) (W := W2) hK (fun _ _ => rfl)
    have er : cq_rk (G1.2 8 t) (G1.2 0) tm = f (nI m - 1) := by
      rw [← ef, sp_rb, (gc.2.2.2 t ht).2.2.2.1, ob 0 (by omega)]
    have hr := fun (d : Nat) => tm_rankOf (d := d) (h := h) (s := G1.1) (a := G1.2) (E := E) (N := N2) (Q := Q1) (W := W2) (t := t) (by omega) t6 et2
    simp only [er] at hr
    have em : nI m - 1 + 1 = nI (m + 1) - 1 := by
      rw [← nI_1, Int32.sub_add_cancel, Int32.add_sub_cancel]
    refine .inr ⟨(sp_sa a G1.2, N4, W2), ⟨tq_al_sa ob, tq_nf_t hN2 hN4⟩, ?_⟩
    have hle : f (nI m - 1) ≤ (tq_ly f m).2 ↔ ¬ (tq_ly f m).2 < f (nI m - 1) := Int32.not_lt.symm
    rw [eb_133_46]
    by_cases r : (tq_ly f m).2 < f (nI m - 1) <;> simp only [eb_133_92, jx_ns_r, jx_ns_n, jx_ns_q, jx_ns_i, jx_gl_0, jx_gl_s, if_true, if_false, ite_true, ite_false, eq_self, Bool.false_eq_true, List.length_cons, List.length_nil, Nat.zero_le, Nat.reduceAdd, Nat.reduceSub, Nat.reduceLeDiff, Nat.reduceLT, Nat.reduceEqDiff, Int.reduceToNat, reduceIte, xe_aload, jx_rv_r, jx_rv_n, jx_rv_q, xk_iload, jx_iv_i, ak_I, xe_inv1, jx_cc_i, jx_cc_v, Nat.reduceMod, Nat.reduceDiv, jx_cl9_i, xe_ifeq, xe_i2l, xe_lconst, xl_1, xl_60, xe_sta3, xl_0, xe_ifne, xe_goto_w, xe_iconst, xi_m2, xe_ireturn, xi_m1, xe_istore, xe_inv0, xk_getf, jx_gf_i, jx_ov_s, ak_V, xi_2, xx_2, xk_iald, ja_ia, ak_A, true_or, or_true, xe_icmp_ge, xi_6, xx_6, xk_iast, ja_is, ak_S, ak_P, xe_icmp_le, xk_iinc, ak_C, xi_1, xe_goto, jx_s1, List.set_cons_zero, List.set_cons_succ, jx_2_i, jx_2_l, jx_2_r, jx_2_n, jx_2_u, jx_2_s, jx_2_q, jx_k_i, jx_k_l, jx_k_r, jx_k_n, jx_k_u, jx_k_s, jx_k_q, tw_r, tw_f, tw_s, tq_r, tq_w, tw_wo, tw_wsc, tq_ile_u, tq_ilo_u, va_up_s, tw_w2, tw_w3, tw_w4, tw_w5, tw_w6, tw_w7, tw_w8, tw_w9, tw_w10, tw_w11, tw_w12, tw_w13, tw_w14, tw_w15, tw_w16, tw_w17, tw_w18, tw_w29, tw_w30, tw_w31, tw_w32, tw_w33, tw_w34, tw_w35, tw_w36, tw_w37, tw_w38, tw_w39, tw_w40, tw_w44, tw_w45, tw_w46, tw_w47, tw_w48, tw_w49, tw_w50, et, h3, e2, hr, hle, r, not_true, not_false_eq_true, e4, em, tq_ly]
  · rintro ⟨a1, N2, W1⟩ ⟨al, hN2⟩
    have h3 : nI tm ≤ nI (tm + 1) - 1 := by
      rw [← nI_1, Int32.add_sub_cancel]
      exact (nI_leI (by omega) (by omega)).mpr (Nat.le_refl _)
    refine ⟨a1, N2, Q1, W1, al, hN2, hQ1, ?_⟩
    by_cases r : k = 0 <;> simp only [eb_133_46, eb_133_102, eb_133_111, eb_133_113, jx_ns_r, jx_ns_n, jx_ns_q, jx_ns_i, jx_gl_0, jx_gl_s, if_true, if_false, ite_true, ite_false, eq_self, Bool.false_eq_true, List.length_cons, List.length_nil, Nat.zero_le, Nat.reduceAdd, Nat.reduceSub, Nat.reduceLeDiff, Nat.reduceLT, Nat.reduceEqDiff, Int.reduceToNat, reduceIte, xe_aload, jx_rv_r, jx_rv_n, jx_rv_q, xk_iload, jx_iv_i, ak_I, xe_inv1, jx_cc_i, jx_cc_v, Nat.reduceMod, Nat.reduceDiv, jx_cl9_i, xe_ifeq, xe_i2l, xe_lconst, xl_1, xl_60, xe_sta3, xl_0, xe_ifne, xe_goto_w, xe_iconst, xi_m2, xe_ireturn, xi_m1, xe_istore, xe_inv0, xk_getf, jx_gf_i, jx_ov_s, ak_V, xi_2, xx_2, xk_iald, ja_ia, ak_A, true_or, or_true, xe_icmp_ge, xi_6, xx_6, xk_iast, ja_is, ak_S, ak_P, xe_icmp_le, xk_iinc, ak_C, xi_1, xe_goto, jx_s1, List.set_cons_zero, List.set_cons_succ, jx_2_i, jx_2_l, jx_2_r, jx_2_n, jx_2_u, jx_2_s, jx_2_q, jx_k_i, jx_k_l, jx_k_r, jx_k_n, jx_k_u, jx_k_s, jx_k_q, tw_r, tw_f, tq_r, va_up_s, et, h3, r]
end TJ
