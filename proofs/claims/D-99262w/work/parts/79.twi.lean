/-! THE TWIN: ahead, dubbed, least -/
set_option maxRecDepth 100000
def tq_ob (a b : Nat → Nat → Int32) : Prop := ∀ j, ¬ (6 ≤ j ∧ j < 10) → b j = a j
def tq_al (a b : Nat → Nat → Int32) : Prop := tq_ob a b ∧ ∀ j, 6 ≤ j → j < 10 → ∀ k, k < 6 → b j k = a j k
def tq_qf (Q Q' : Nat → Nat → Int32) : Prop := (∀ f, f < 44 → ¬ f = 40 → Q' f = Q f) ∧ Q' 50 = Q 50 ∧ ∀ k, k < 2800 → Q' 49 k = Q 49 k
def tq_kp (s : Nat → Int32) (a : Nat → Nat → Int32) (E : Nat → Int32) (Q : Nat → Nat → Int32) : Prop := ∀ k, k < 35 → Q 49 (2800 + k) = tq_si s a E k
theorem tq_qf_r {Q : Nat → Nat → Int32} : tq_qf Q Q := ⟨fun _ _ _ => rfl, rfl, fun _ _ => rfl⟩
theorem tq_qf_t {Q Q' Q'' : Nat → Nat → Int32} (h : tq_qf Q Q') (h2 : tq_qf Q' Q'') : tq_qf Q Q'' := ⟨fun f a b => (h2.1 f a b).trans (h.1 f a b), h2.2.1.trans h.2.1, fun k hk => (h2.2.2 k hk).trans (h.2.2 k hk)⟩
theorem tq_qf_l {Q Q' : Nat → Nat → Int32} (h : tq_qf Q Q') : ∀ f, 30 ≤ f → f < 36 → Q' f = Q f := fun f h1 h2 => h.1 f (by omega) (by omega)
theorem tq_qf_up {Q : Nat → Nat → Int32} {f : Nat} {g : Nat → Int32} (h : 44 ≤ f ∧ f < 49) : tq_qf Q (va_up Q f g) := ⟨fun k a b => va_up_nj (by omega), va_up_nj (by omega), fun k hk => by rw [va_up_nj (by omega)]⟩
theorem tq_kp_up {s : Nat → Int32} {a : Nat → Nat → Int32} {E : Nat → Int32} {Q : Nat → Nat → Int32} {f : Nat} {g : Nat → Int32} (h : tq_kp s a E Q) (hf : f < 49) : tq_kp s a E (va_up Q f g) := fun k hk => by rw [va_up_nj (by omega)]; exact h k hk
theorem tq_ob_r {a : Nat → Nat → Int32} : tq_ob a a := fun _ _ => rfl
theorem tq_al_r {a : Nat → Nat → Int32} : tq_al a a := ⟨fun _ _ => rfl, fun _ _ _ _ _ => rfl⟩
theorem tq_al_sa {a b : Nat → Nat → Int32} (h : tq_ob a b) : tq_al a (sp_sa a b) := by
  refine ⟨fun j hj => ?_, fun j h1 h2 k hk => ?_⟩
  · simp only [sp_sa]; rw [if_neg hj]; exact h j hj
  · simp only [sp_sa]; rw [if_pos ⟨h1, h2⟩, cq_fl_lt hk]
theorem tq_ob_go {a b : Nat → Nat → Int32} {s : Nat → Int32} {Lo : Option ((Nat → Int64) → Int64)} (h : tq_ob a b) : tq_ob a (cq_go Lo (s, b)).2 := by
  intro j hj
  simp only [cq_go, cq_psa]
  rw [if_neg (by omega), if_neg (by omega), if_neg (by omega), if_neg (by omega)]
  exact h j hj
theorem tq_ob_gn {a b : Nat → Nat → Int32} {s : Nat → Int32} {Lo : Option ((Nat → Int64) → Int64)} {n : Nat} (h : tq_ob a b) : tq_ob a (cq_gn Lo n (s, b)).2 := by
  induction n with
  | zero => exact h
  | succ n ih => exact tq_ob_go ih
theorem tq_ob_tk {a b : Nat → Nat → Int32} {t : Nat} {k : Int32} (h : tq_ob a b) : tq_ob a (sp_tk b t k) := fun j hj => by
  simp only [sp_tk]; rw [va_up_nj (by omega)]; exact h j hj
theorem tq_al_e {tm pm day : Nat} {s : Nat → Int32} {a b : Nat → Nat → Int32} (ht : tm ≤ 6) (hp : pm ≤ 6) (h : tq_al a b) : cq_eq tm pm day s s a b :=
  ⟨fun _ _ _ _ _ => rfl, fun k hk => ⟨by rw [h.1 0 (by omega)], by rw [h.1 2 (by omega)], (h.2 6 (by omega) (by omega) k (by omega)).symm⟩, fun k hk => by rw [h.1 1 (by omega)], fun k hk => ⟨by rw [h.1 3 (by omega)], by rw [h.1 4 (by omega)], (h.2 7 (by omega) (by omega) k (by omega)).symm, (h.2 8 (by omega) (by omega) k (by omega)).symm, (h.2 9 (by omega) (by omega) k (by omega)).symm⟩⟩
/-- what a search comes to: the court as it was, below its rows' lengths -/
def tq_fin (h : jx_H) (s : Nat → Int32) (a : Nat → Nat → Int32) (E N : Nat → Int32) (Q : Nat → Nat → Int32) (r : Option jx_R) (v : Int32) : Prop :=
  ∃ a' N' Q' W', tq_al a a' ∧ tq_nf N N' ∧ tq_qf Q Q' ∧ r = some (.inl (some (.int v)), tw h s a' E N' Q' W')
section TI
variable {d : Nat} {h : jx_H} {s : Nat → Int32} {a : Nat → Nat → Int32} {E N : Nat → Int32} {Q : Nat → Nat → Int32} {W : Nat → Nat → Int64} {i k : Int32} {t u v tm pm day now D n m : Nat} {Lo : Option ((Nat → Int64) → Int64)}
theorem tq_keep : ∃ N' Q', tq_nf N N' ∧ tq_qf Q Q' ∧ tq_kp s a E Q' ∧ jx_cr (d + 3) 126 [.ref 113] (tw h s a E N Q W) = some (.inl none, tw h s a E N' Q' W) := by
  obtain ⟨N', hN, e⟩ := tm_keepsAll (d := d) (h := h) (s := s) (a := a) (E := E) (N := N) (Q := Q) (W := W)
  refine ⟨N', _, hN, ⟨fun f h1 h2 => va_up_nj (by omega), va_up_nj (by omega), fun k hk => ?_⟩, fun k hk => ?_, e⟩
  · show tq_im (Q 49) 4 s a E 35 k = _
    rw [tq_im, if_neg (by omega)]
  · show tq_im (Q 49) 4 s a E 35 (2800 + k) = _
    rw [tq_im, if_pos (by omega)]
    congr 1
    omega
theorem tq_lay {s0 E0 : Nat → Int32} {a0 : Nat → Nat → Int32} (hK : tq_kp s0 a0 E0 Q) (hE : ∀ k, 2 ≤ k → E k = E0 k) : ∃ N', tq_nf N N' ∧ jx_cr (d + 3) 127 [.ref 113] (tw h s a E N Q W) = some (.inl none, tw h s0 (sp_sa a0 a) E0 N' Q W) := tm_laysBack hK hE
theorem tm_ahead0 {j : Int32} (es : s 3 = nI pm) (hpm : pm ≤ 6) (hq : ¬ (0 < s 0 ∧ (k = 0 ∨ (1 ≤ k.toInt64 ∧ k.toInt64 ≤ 2) ∧ 0 ≤ i ∧ i < s 3) ∧ 0 ≤ j.toInt64 ∧ j.toInt64 ≤ 100)) : jx_cr (d + 3) 128 [.ref 113, .int i, .int j, .int k] (tw h s a E N Q W) = some (.inl (some (.int (-2))), (tw h s a E N Q W)) := by
  have tl : ∀ v : Int32, (v = 1 ∧ ¬ (0 < s 0 ∧ 0 ≤ j.toInt64 ∧ j.toInt64 ≤ 100)) ∨ v = 0 → jx_eb (d + 2) 128 29 [.ref 113, .int i, .int j, .int k, jx_un, jx_un] [.int v] (tw h s a E N Q W) = some (.inl (some (.int (-2))), (tw h s a E N Q W)) := by
    rintro v (⟨hv, q⟩ | hv)
    · subst hv
      by_cases q1 : 0 < s 0
      · have q2 : ¬ (0 ≤ j.toInt64 ∧ j.toInt64 ≤ 100) := fun r => q ⟨q1, r⟩
        simp only [eb_128_29, eb_128_55, jx_ns_r, jx_ns_n, jx_ns_q, jx_ns_i, jx_gl_0, jx_gl_s, if_true, if_false, ite_true, ite_false, eq_self, Bool.false_eq_true, List.length_cons, List.length_nil, Nat.zero_le, Nat.reduceAdd, Nat.reduceSub, Nat.reduceLeDiff, Nat.reduceLT, Nat.reduceEqDiff, Int.reduceToNat, reduceIte, xk_iload, jx_iv_i, ak_I, xe_ifeq, xe_i2l, xe_lconst, xl_1, xl_2, xe_sta3, jx_cc_i, jx_cc_v, Nat.reduceMod, Nat.reduceDiv, xe_aload, jx_rv_r, jx_rv_n, jx_rv_q, xe_inv1, jx_cl9_i, xe_goto_w, xe_iconst, xi_1, xx_1, xe_goto, xi_0, xx_0, xe_istore, xe_inv0, xl_0, xl_100, xe_ifne, xi_m2, xe_ireturn, xe_icmp_ne, xk_getf, jx_gf_i, jx_ov_s, ak_V, xk_iald, ja_ia, ak_A, true_or, or_true, jx_s1, List.set_cons_zero, List.set_cons_succ, jx_2_i, jx_2_l, jx_2_r, jx_2_n, jx_2_u, jx_2_s, jx_2_q, jx_k_i, jx_k_l, jx_k_r, jx_k_n, jx_k_u, jx_k_s, jx_k_q, tw_r, tm_isCourt, tq_inL, q1, q2, sp_10]
      · simp only [eb_128_29, eb_128_55, jx_ns_r, jx_ns_n, jx_ns_q, jx_ns_i, jx_gl_0, jx_gl_s, if_true, if_false, ite_true, ite_false, eq_self, Bool.false_eq_true, List.length_cons, List.length_nil, Nat.zero_le, Nat.reduceAdd, Nat.reduceSub, Nat.reduceLeDiff, Nat.reduceLT, Nat.reduceEqDiff, Int.reduceToNat, reduceIte, xk_iload, jx_iv_i, ak_I, xe_ifeq, xe_i2l, xe_lconst, xl_1, xl_2, xe_sta3, jx_cc_i, jx_cc_v, Nat.reduceMod, Nat.reduceDiv, xe_aload, jx_rv_r, jx_rv_n, jx_rv_q, xe_inv1, jx_cl9_i, xe_goto_w, xe_iconst, xi_1, xx_1, xe_goto, xi_0, xx_0, xe_istore, xe_inv0, xl_0, xl_100, xe_ifne, xi_m2, xe_ireturn, xe_icmp_ne, xk_getf, jx_gf_i, jx_ov_s, ak_V, xk_iald, ja_ia, ak_A, true_or, or_true, jx_s1, List.set_cons_zero, List.set_cons_succ, jx_2_i, jx_2_l, jx_2_r, jx_2_n, jx_2_u, jx_2_s, jx_2_q, jx_k_i, jx_k_l, jx_k_r, jx_k_n, jx_k_u, jx_k_s, jx_k_q, tw_r, tm_isCourt, q1]
    · subst hv
      by_cases q1 : 0 < s 0
      · simp only [eb_128_29, eb_128_55, jx_ns_r, jx_ns_n, jx_ns_q, jx_ns_i, jx_gl_0, jx_gl_s, if_true, if_false, ite_true, ite_false, eq_self, Bool.false_eq_true, List.length_cons, List.length_nil, Nat.zero_le, Nat.reduceAdd, Nat.reduceSub, Nat.reduceLeDiff, Nat.reduceLT, Nat.reduceEqDiff, Int.reduceToNat, reduceIte, xk_iload, jx_iv_i, ak_I, xe_ifeq, xe_i2l, xe_lconst, xl_1, xl_2, xe_sta3, jx_cc_i, jx_cc_v, Nat.reduceMod, Nat.reduceDiv, xe_aload, jx_rv_r, jx_rv_n, jx_rv_q, xe_inv1, jx_cl9_i, xe_goto_w, xe_iconst, xi_1, xx_1, xe_goto, xi_0, xx_0, xe_istore, xe_inv0, xl_0, xl_100, xe_ifne, xi_m2, xe_ireturn, xe_icmp_ne, xk_getf, jx_gf_i, jx_ov_s, ak_V, xk_iald, ja_ia, ak_A, true_or, or_true, jx_s1, List.set_cons_zero, List.set_cons_succ, jx_2_i, jx_2_l, jx_2_r, jx_2_n, jx_2_u, jx_2_s, jx_2_q, jx_k_i, jx_k_l, jx_k_r, jx_k_n, jx_k_u, jx_k_s, jx_k_q, tw_r, tm_isCourt, q1, sp_10]
      · simp only [eb_128_29, eb_128_55, jx_ns_r, jx_ns_n, jx_ns_q, jx_ns_i, jx_gl_0, jx_gl_s, if_true, if_false, ite_true, ite_false, eq_self, Bool.false_eq_true, List.length_cons, List.length_nil, Nat.zero_le, Nat.reduceAdd, Nat.reduceSub, Nat.reduceLeDiff, Nat.reduceLT, Nat.reduceEqDiff, Int.reduceToNat, reduceIte, xk_iload, jx_iv_i, ak_I, xe_ifeq, xe_i2l, xe_lconst, xl_1, xl_2, xe_sta3, jx_cc_i, jx_cc_v, Nat.reduceMod, Nat.reduceDiv, xe_aload, jx_rv_r, jx_rv_n, jx_rv_q, xe_inv1, jx_cl9_i, xe_goto_w, xe_iconst, xi_1, xx_1, xe_goto, xi_0, xx_0, xe_istore, xe_inv0, xl_0, xl_100, xe_ifne, xi_m2, xe_ireturn, xe_icmp_ne, xk_getf, jx_gf_i, jx_ov_s, ak_V, xk_iald, ja_ia, ak_A, true_or, or_true, jx_s1, List.set_cons_zero, List.set_cons_succ, jx_2_i, jx_2_l, jx_2_r, jx_2_n, jx_2_u, jx_2_s, jx_2_q, jx_k_i, jx_k_l, jx_k_r, jx_k_n, jx_k_u, jx_k_s, jx_k_q, tw_r, tm_isCourt, q1]
  by_cases k0 : k = 0
  · have tl := tl 1 (.inl ⟨rfl, fun r => hq ⟨r.1, .inl k0, r.2⟩⟩)
    simp only [cr_128, eb_128_0, eb_128_24, jx_ns_r, jx_ns_n, jx_ns_q, jx_ns_i, jx_gl_0, jx_gl_s, if_true, if_false, ite_true, ite_false, eq_self, Bool.false_eq_true, List.length_cons, List.length_nil, Nat.zero_le, Nat.reduceAdd, Nat.reduceSub, Nat.reduceLeDiff, Nat.reduceLT, Nat.reduceEqDiff, Int.reduceToNat, reduceIte, xk_iload, jx_iv_i, ak_I, xe_ifeq, xe_i2l, xe_lconst, xl_1, xl_2, xe_sta3, jx_cc_i, jx_cc_v, Nat.reduceMod, Nat.reduceDiv, xe_aload, jx_rv_r, jx_rv_n, jx_rv_q, xe_inv1, jx_cl9_i, xe_goto_w, xe_iconst, xi_1, xx_1, xe_goto, xi_0, xx_0, xe_istore, xe_inv0, xl_0, xl_100, xe_ifne, xi_m2, xe_ireturn, xe_icmp_ne, xk_getf, jx_gf_i, jx_ov_s, ak_V, xk_iald, ja_ia, ak_A, true_or, or_true, jx_s1, List.set_cons_zero, List.set_cons_succ, jx_2_i, jx_2_l, jx_2_r, jx_2_n, jx_2_u, jx_2_s, jx_2_q, jx_k_i, jx_k_l, jx_k_r, jx_k_n, jx_k_u, jx_k_s, jx_k_q, tw_r, k0]
    rw [k0] at tl
    exact tl
  · by_cases k1 : 1 ≤ k.toInt64 ∧ k.toInt64 ≤ 2
    · by_cases k2 : 0 ≤ i ∧ i < s 3
      · have tl := tl 1 (.inl ⟨rfl, fun r => hq ⟨r.1, .inr ⟨k1, k2⟩, r.2⟩⟩)
        simp only [cr_128, eb_128_0, eb_128_24, jx_ns_r, jx_ns_n, jx_ns_q, jx_ns_i, jx_gl_0, jx_gl_s, if_true, if_false, ite_true, ite_false, eq_self, Bool.false_eq_true, List.length_cons, List.length_nil, Nat.zero_le, Nat.reduceAdd, Nat.reduceSub, Nat.reduceLeDiff, Nat.reduceLT, Nat.reduceEqDiff, Int.reduceToNat, reduceIte, xk_iload, jx_iv_i, ak_I, xe_ifeq, xe_i2l, xe_lconst, xl_1, xl_2, xe_sta3, jx_cc_i, jx_cc_v, Nat.reduceMod, Nat.reduceDiv, xe_aload, jx_rv_r, jx_rv_n, jx_rv_q, xe_inv1, jx_cl9_i, xe_goto_w, xe_iconst, xi_1, xx_1, xe_goto, xi_0, xx_0, xe_istore, xe_inv0, xl_0, xl_100, xe_ifne, xi_m2, xe_ireturn, xe_icmp_ne, xk_getf, jx_gf_i, jx_ov_s, ak_V, xk_iald, ja_ia, ak_A, true_or, or_true, jx_s1, List.set_cons_zero, List.set_cons_succ, jx_2_i, jx_2_l, jx_2_r, jx_2_n, jx_2_u, jx_2_s, jx_2_q, jx_k_i, jx_k_l, jx_k_r, jx_k_n, jx_k_u, jx_k_s, jx_k_q, tw_r, k0, tq_inL, k1, tm_isPerson es hpm, k2, and_self, sp_10]
        exact tl
      · have tl := tl 0 (.inr rfl)
        simp only [cr_128, eb_128_0, eb_128_28, jx_ns_r, jx_ns_n, jx_ns_q, jx_ns_i, jx_gl_0, jx_gl_s, if_true, if_false, ite_true, ite_false, eq_self, Bool.false_eq_true, List.length_cons, List.length_nil, Nat.zero_le, Nat.reduceAdd, Nat.reduceSub, Nat.reduceLeDiff, Nat.reduceLT, Nat.reduceEqDiff, Int.reduceToNat, reduceIte, xk_iload, jx_iv_i, ak_I, xe_ifeq, xe_i2l, xe_lconst, xl_1, xl_2, xe_sta3, jx_cc_i, jx_cc_v, Nat.reduceMod, Nat.reduceDiv, xe_aload, jx_rv_r, jx_rv_n, jx_rv_q, xe_inv1, jx_cl9_i, xe_goto_w, xe_iconst, xi_1, xx_1, xe_goto, xi_0, xx_0, xe_istore, xe_inv0, xl_0, xl_100, xe_ifne, xi_m2, xe_ireturn, xe_icmp_ne, xk_getf, jx_gf_i, jx_ov_s, ak_V, xk_iald, ja_ia, ak_A, true_or, or_true, jx_s1, List.set_cons_zero, List.set_cons_succ, jx_2_i, jx_2_l, jx_2_r, jx_2_n, jx_2_u, jx_2_s, jx_2_q, jx_k_i, jx_k_l, jx_k_r, jx_k_n, jx_k_u, jx_k_s, jx_k_q, tw_r, k0, tq_inL, k1, tm_isPerson es hpm, k2, and_self, sp_10]
        exact tl
    · have tl := tl 0 (.inr rfl)
      simp only [cr_128, eb_128_0, eb_128_28, jx_ns_r, jx_ns_n, jx_ns_q, jx_ns_i, jx_gl_0, jx_gl_s, if_true, if_false, ite_true, ite_false, eq_self, Bool.false_eq_true, List.length_cons, List.length_nil, Nat.zero_le, Nat.reduceAdd, Nat.reduceSub, Nat.reduceLeDiff, Nat.reduceLT, Nat.reduceEqDiff, Int.reduceToNat, reduceIte, xk_iload, jx_iv_i, ak_I, xe_ifeq, xe_i2l, xe_lconst, xl_1, xl_2, xe_sta3, jx_cc_i, jx_cc_v, Nat.reduceMod, Nat.reduceDiv, xe_aload, jx_rv_r, jx_rv_n, jx_rv_q, xe_inv1, jx_cl9_i, xe_goto_w, xe_iconst, xi_1, xx_1, xe_goto, xi_0, xx_0, xe_istore, xe_inv0, xl_0, xl_100, xe_ifne, xi_m2, xe_ireturn, xe_icmp_ne, xk_getf, jx_gf_i, jx_ov_s, ak_V, xk_iald, ja_ia, ak_A, true_or, or_true, jx_s1, List.set_cons_zero, List.set_cons_succ, jx_2_i, jx_2_l, jx_2_r, jx_2_n, jx_2_u, jx_2_s, jx_2_q, jx_k_i, jx_k_l, jx_k_r, jx_k_n, jx_k_u, jx_k_s, jx_k_q, tw_r, k0, tq_inL, k1]
      exact tl
theorem tm_ahead (h0 : 0 < s 0) (iv : cq_iv s a day tm pm now) (hn : now ≤ 999) (h100 : n ≤ 100) (hm : m ≤ 2) (hp : m = 0 ∨ (t < pm ∧ i = nI t)) (hL : tq_lw (D + 2) (E 1) Q Lo) :
    tq_fin h s a E N Q (jx_cr (d + D + 7) 128 [.ref 113, .int i, .int (nI n), .int (nI m)] (tw h s a E N Q W)) (sp_ahead Lo s a t n (nI m)) := by
  have t6 := iv.2.2.2.2.1; have p6 := iv.2.2.2.2.2.2.1; have es := iv.2.2.2.2.2.1; have et := iv.2.2.2.1; have d12 := iv.2.2.1; have d1 := iv.2.1
  obtain ⟨N1, Q1, hN1, hQ1, hK, e1⟩ := tq_keep (d := d + D + 3) (h := h) (s := s) (a := a) (E := E) (N := N) (Q := Q) (W := W)
  obtain ⟨W2, e2⟩ := tm_goFor (d := d) (h := h) (E := E) (N := N1) (Q := Q1) (W := W) (n := n) iv (by omega) (tq_lw_Q hL (tq_qf_l hQ1))
  have ob : tq_ob a (cq_gn Lo n (s, a)).2 := tq_ob_gn tq_ob_r
  have hq1 : 0 ≤ (nI n).toInt64 ∧ (nI n).toInt64 ≤ 100 := sp_rg (a := 0) (b := 100) (by omega) h100 (by omega)
  rcases (by omega : m = 0 ∨ m = 1 ∨ m = 2) with r | r | r
  · subst r
    obtain ⟨W3, e3⟩ := tm_holds (d := d + 2) (h := h) (E := E) (N := N1) (Q := Q1) (W := W2) (cq_iv_gn (n := n) (Lo := Lo) iv (by omega)) (by omega) (tq_lw_Q hL (tq_qf_l hQ1))
    rw [show d + 2 + D + 4 = d + D + 6 by omega] at e3
    obtain ⟨N4, hN4, e4⟩ := tq_lay (d := d + D + 3) (h := h) (s := (cq_gn Lo n (s, a)).1) (a := (cq_gn Lo n (s, a)).2) (E := E) (N := N1) (Q := Q1) (W := W3) hK (fun _ _ => rfl)
    refine ⟨_, _, _, W3, tq_al_sa ob, tq_nf_t hN1 hN4, hQ1, ?_⟩
    have k0 : nI 0 = 0 := rfl
    simp only [cr_128, eb_128_0, eb_128_24, eb_128_29, eb_128_58, eb_128_98, jx_ns_r, jx_ns_n, jx_ns_q, jx_ns_i, jx_gl_0, jx_gl_s, if_true, if_false, ite_true, ite_false, eq_self, Bool.false_eq_true, List.length_cons, List.length_nil, Nat.zero_le, Nat.reduceAdd, Nat.reduceSub, Nat.reduceLeDiff, Nat.reduceLT, Nat.reduceEqDiff, Int.reduceToNat, reduceIte, xk_iload, jx_iv_i, ak_I, xe_ifeq, xe_i2l, xe_lconst, xl_1, xl_2, xe_sta3, jx_cc_i, jx_cc_v, Nat.reduceMod, Nat.reduceDiv, xe_aload, jx_rv_r, jx_rv_n, jx_rv_q, xe_inv1, jx_cl9_i, xe_goto_w, xe_iconst, xi_1, xx_1, xe_goto, xi_0, xx_0, xe_istore, xe_inv0, xl_0, xl_100, xe_ifne, xi_m2, xe_ireturn, xe_icmp_ne, xk_getf, jx_gf_i, jx_ov_s, ak_V, xk_iald, ja_ia, ak_A, true_or, or_true, jx_s1, List.set_cons_zero, List.set_cons_succ, jx_2_i, jx_2_l, jx_2_r, jx_2_n, jx_2_u, jx_2_s, jx_2_q, jx_k_i, jx_k_l, jx_k_r, jx_k_n, jx_k_u, jx_k_s, jx_k_q, tw_r, k0, tm_isCourt, h0, tq_inL, hq1, and_self, sp_10, e1, e2, e3, e4, sp_ahead]
  · subst r
    obtain ⟨ht, hi⟩ := hp.resolve_left (by omega)
    obtain ⟨N4, hN4, e4⟩ := tq_lay (d := d + D + 3) (h := h) (s := (cq_gn Lo n (s, a)).1) (a := (cq_gn Lo n (s, a)).2) (E := E) (N := N1) (Q := Q1) (W := W2) hK (fun _ _ => rfl)
    refine ⟨_, _, _, W2, tq_al_sa ob, tq_nf_t hN1 hN4, hQ1, ?_⟩
    have k0 : nI 1 = 1 := rfl
    have k1 : (1 : Int64) ≤ (1 : Int32).toInt64 ∧ (1 : Int32).toInt64 ≤ 2 := by decide
    have hpe := sp_q ht (by omega) es
    have it := sp_ix (show t < 6 by omega) (by decide)
    simp only [cr_128, eb_128_0, eb_128_24, eb_128_29, eb_128_58, eb_128_78, eb_128_98, jx_ns_r, jx_ns_n, jx_ns_q, jx_ns_i, jx_gl_0, jx_gl_s, if_true, if_false, ite_true, ite_false, eq_self, Bool.false_eq_true, List.length_cons, List.length_nil, Nat.zero_le, Nat.reduceAdd, Nat.reduceSub, Nat.reduceLeDiff, Nat.reduceLT, Nat.reduceEqDiff, Int.reduceToNat, reduceIte, xk_iload, jx_iv_i, ak_I, xe_ifeq, xe_i2l, xe_lconst, xl_1, xl_2, xe_sta3, jx_cc_i, jx_cc_v, Nat.reduceMod, Nat.reduceDiv, xe_aload, jx_rv_r, jx_rv_n, jx_rv_q, xe_inv1, jx_cl9_i, xe_goto_w, xe_iconst, xi_1, xx_1, xe_goto, xi_0, xx_0, xe_istore, xe_inv0, xl_0, xl_100, xe_ifne, xi_m2, xe_ireturn, xe_icmp_ne, xk_getf, jx_gf_i, jx_ov_s, ak_V, xk_iald, ja_ia, ak_A, true_or, or_true, jx_s1, List.set_cons_zero, List.set_cons_succ, jx_2_i, jx_2_l, jx_2_r, jx_2_n, jx_2_u, jx_2_s, jx_2_q, jx_k_i, jx_k_l, jx_k_r, jx_k_n, jx_k_u, jx_k_s, jx_k_q, tw_r, tw_f, tq_r, va_up_s, k0, k1, hi, tm_isPerson es p6, hpe, tm_isCourt, h0, tq_inL, hq1, and_self, sp_10, e1, e2, it, e4, sp_ahead]
  · subst r
    obtain ⟨ht, hi⟩ := hp.resolve_left (by omega)
    obtain ⟨N4, hN4, e4⟩ := tq_lay (d := d + D + 3) (h := h) (s := (cq_gn Lo n (s, a)).1) (a := (cq_gn Lo n (s, a)).2) (E := E) (N := N1) (Q := Q1) (W := W2) hK (fun _ _ => rfl)
    refine ⟨_, _, _, W2, tq_al_sa ob, tq_nf_t hN1 hN4, hQ1, ?_⟩
    have k0 : nI 2 = 2 := rfl
    have k1 : (1 : Int64) ≤ (2 : Int32).toInt64 ∧ (2 : Int32).toInt64 ≤ 2 := by decide
    have k2 : ¬ (2 : Int32) = 0 := by decide
    have k3 : ¬ (2 : Int32) = 1 := by decide
    have hpe := sp_q ht (by omega) es
    have it := sp_ix (show t < 6 by omega) (by decide)
    simp only [cr_128, eb_128_0, eb_128_24, eb_128_29, eb_128_58, eb_128_78, eb_128_92, eb_128_98, jx_ns_r, jx_ns_n, jx_ns_q, jx_ns_i, jx_gl_0, jx_gl_s, if_true, if_false, ite_true, ite_false, eq_self, Bool.false_eq_true, List.length_cons, List.length_nil, Nat.zero_le, Nat.reduceAdd, Nat.reduceSub, Nat.reduceLeDiff, Nat.reduceLT, Nat.reduceEqDiff, Int.reduceToNat, reduceIte, xk_iload, jx_iv_i, ak_I, xe_ifeq, xe_i2l, xe_lconst, xl_1, xl_2, xe_sta3, jx_cc_i, jx_cc_v, Nat.reduceMod, Nat.reduceDiv, xe_aload, jx_rv_r, jx_rv_n, jx_rv_q, xe_inv1, jx_cl9_i, xe_goto_w, xe_iconst, xi_1, xx_1, xe_goto, xi_0, xx_0, xe_istore, xe_inv0, xl_0, xl_100, xe_ifne, xi_m2, xe_ireturn, xe_icmp_ne, xk_getf, jx_gf_i, jx_ov_s, ak_V, xk_iald, ja_ia, ak_A, true_or, or_true, jx_s1, List.set_cons_zero, List.set_cons_succ, jx_2_i, jx_2_l, jx_2_r, jx_2_n, jx_2_u, jx_2_s, jx_2_q, jx_k_i, jx_k_l, jx_k_r, jx_k_n, jx_k_u, jx_k_s, jx_k_q, tw_r, tw_f, tq_r, va_up_s, k0, k1, k2, k3, hi, tm_isPerson es p6, hpe, tm_isCourt, h0, tq_inL, hq1, and_self, sp_10, e1, e2, it, e4, sp_ahead]
theorem tm_dubbed0 (es : s 3 = nI pm) (hpm : pm ≤ 6) (hq : ¬ ((0 ≤ i ∧ i < s 3) ∧ 0 ≤ k.toInt64 ∧ k.toInt64 ≤ 1)) : jx_cr (d + 3) 129 [.ref 113, .int i, .int k] (tw h s a E N Q W) = some (.inl (some (.int (-3))), (tw h s a E N Q W)) := by
  by_cases q1 : 0 ≤ i ∧ i < s 3
  · have q2 : ¬ (0 ≤ k.toInt64 ∧ k.toInt64 ≤ 1) := fun r => hq ⟨q1, r⟩
    simp only [cr_129, eb_129_0, eb_129_18, jx_ns_r, jx_ns_n, jx_ns_q, jx_ns_i, jx_gl_0, jx_gl_s, if_true, if_false, ite_true, ite_false, eq_self, Bool.false_eq_true, List.length_cons, List.length_nil, Nat.zero_le, Nat.reduceAdd, Nat.reduceSub, Nat.reduceLeDiff, Nat.reduceLT, Nat.reduceEqDiff, Int.reduceToNat, reduceIte, xe_aload, jx_rv_r, jx_rv_n, jx_rv_q, xk_iload, jx_iv_i, ak_I, xe_inv1, jx_cc_i, jx_cc_v, Nat.reduceMod, Nat.reduceDiv, jx_cl9_i, xe_ifeq, xe_i2l, xe_lconst, xl_0, xl_1, xe_sta3, xe_ifne, xe_goto_w, xe_iconst, xi_m3, xe_ireturn, xe_inv0, xi_m2, xe_istore, xi_0, xx_0, xi_100, xe_icmp_ge, xe_icmp_ne, xe_sta2, xk_getf, jx_gf_i, jx_ov_s, ak_V, xi_4, xx_4, xk_iald, ja_ia, ak_A, true_or, or_true, xi_1, xx_1, xe_isub, xk_iinc, ak_C, xe_goto, xi_5, xx_5, jx_s1, List.set_cons_zero, List.set_cons_succ, jx_2_i, jx_2_l, jx_2_r, jx_2_n, jx_2_u, jx_2_s, jx_2_q, jx_k_i, jx_k_l, jx_k_r, jx_k_n, jx_k_u, jx_k_s, jx_k_q, tw_r, tw_f, tq_r, va_up_s, tm_isPerson es hpm, tq_inL, q1, q2, and_self, sp_10]
  · simp only [cr_129, eb_129_0, eb_129_18, jx_ns_r, jx_ns_n, jx_ns_q, jx_ns_i, jx_gl_0, jx_gl_s, if_true, if_false, ite_true, ite_false, eq_self, Bool.false_eq_true, List.length_cons, List.length_nil, Nat.zero_le, Nat.reduceAdd, Nat.reduceSub, Nat.reduceLeDiff, Nat.reduceLT, Nat.reduceEqDiff, Int.reduceToNat, reduceIte, xe_aload, jx_rv_r, jx_rv_n, jx_rv_q, xk_iload, jx_iv_i, ak_I, xe_inv1, jx_cc_i, jx_cc_v, Nat.reduceMod, Nat.reduceDiv, jx_cl9_i, xe_ifeq, xe_i2l, xe_lconst, xl_0, xl_1, xe_sta3, xe_ifne, xe_goto_w, xe_iconst, xi_m3, xe_ireturn, xe_inv0, xi_m2, xe_istore, xi_0, xx_0, xi_100, xe_icmp_ge, xe_icmp_ne, xe_sta2, xk_getf, jx_gf_i, jx_ov_s, ak_V, xi_4, xx_4, xk_iald, ja_ia, ak_A, true_or, or_true, xi_1, xx_1, xe_isub, xk_iinc, ak_C, xe_goto, xi_5, xx_5, jx_s1, List.set_cons_zero, List.set_cons_succ, jx_2_i, jx_2_l, jx_2_r, jx_2_n, jx_2_u, jx_2_s, jx_2_q, jx_k_i, jx_k_l, jx_k_r, jx_k_n, jx_k_u, jx_k_s, jx_k_q, tw_r, tw_f, tq_r, va_up_s, tm_isPerson es hpm, q1]
theorem tm_dubbed (iv : cq_iv s a day tm pm now) (hn : now ≤ 999) (ht : t < pm) (hk : 0 ≤ k.toInt64 ∧ k.toInt64 ≤ 1) (hL : tq_lw (D + 2) (E 1) Q Lo) :
    tq_fin h s a E N Q (jx_cr (d + D + 7) 129 [.ref 113, .int (nI t), .int k] (tw h s a E N Q W)) (sp_dbv k (sp_db Lo (nI t) 100 (s, a))) := by
  have t6 := iv.2.2.2.2.1; have p6 := iv.2.2.2.2.2.2.1; have es := iv.2.2.2.2.2.1; have et := iv.2.2.2.1; have d12 := iv.2.2.1; have d1 := iv.2.1
  have hpe := sp_q ht (by omega) es
  obtain ⟨N1, Q1, hN1, hQ1, hK, e1⟩ := tq_keep (d := d + D + 3) (h := h) (s := s) (a := a) (E := E) (N := N) (Q := Q) (W := W)
  have hL1 := tq_lw_Q hL (tq_qf_l hQ1)
  generalize eV : sp_db Lo (nI t) 100 (s, a) = V
  -- the end
  have tl : ∀ (y : (Nat → Int32) × (Nat → Nat → Int32)) W (is c : Int32), tq_ob a y.2 → (is = -2 ∧ V = none ∨ ¬ is = -2 ∧ V = some y ∧ is = y.1 7 - 1) → tq_fin h s a E N Q (jx_eb (d + D + 6) 129 70 [.ref 113, .int (nI t), .int k, .int is, .int c] [] (tw h y.1 y.2 E N1 Q1 W)) (sp_dbv k V) := by
    intro y W is c ob hv
    obtain ⟨N4, hN4, e4⟩ := tq_lay (d := d + D + 3) (h := h) (s := y.1) (a := y.2) (E := E) (N := N1) (Q := Q1) (W := W) hK (fun _ _ => rfl)
    refine ⟨_, _, _, W, tq_al_sa ob, tq_nf_t hN1 hN4, hQ1, ?_⟩
    rcases hv with ⟨h1, h2⟩ | ⟨h1, h2, h3⟩
    · rw [h1, h2]
      by_cases r : k = 0 <;> simp only [eb_129_70, eb_129_87, eb_129_101, eb_129_103, jx_ns_r, jx_ns_n, jx_ns_q, jx_ns_i, jx_gl_0, jx_gl_s, if_true, if_false, ite_true, ite_false, eq_self, Bool.false_eq_true, List.length_cons, List.length_nil, Nat.zero_le, Nat.reduceAdd, Nat.reduceSub, Nat.reduceLeDiff, Nat.reduceLT, Nat.reduceEqDiff, Int.reduceToNat, reduceIte, xe_aload, jx_rv_r, jx_rv_n, jx_rv_q, xk_iload, jx_iv_i, ak_I, xe_inv1, jx_cc_i, jx_cc_v, Nat.reduceMod, Nat.reduceDiv, jx_cl9_i, xe_ifeq, xe_i2l, xe_lconst, xl_0, xl_1, xe_sta3, xe_ifne, xe_goto_w, xe_iconst, xi_m3, xe_ireturn, xe_inv0, xi_m2, xe_istore, xi_0, xx_0, xi_100, xe_icmp_ge, xe_icmp_ne, xe_sta2, xk_getf, jx_gf_i, jx_ov_s, ak_V, xi_4, xx_4, xk_iald, ja_ia, ak_A, true_or, or_true, xi_1, xx_1, xe_isub, xk_iinc, ak_C, xe_goto, xi_5, xx_5, jx_s1, List.set_cons_zero, List.set_cons_succ, jx_2_i, jx_2_l, jx_2_r, jx_2_n, jx_2_u, jx_2_s, jx_2_q, jx_k_i, jx_k_l, jx_k_r, jx_k_n, jx_k_u, jx_k_s, jx_k_q, tw_r, tw_f, tq_r, va_up_s, e4, r, sp_dbv]
    · rw [h2]
      by_cases r : k = 0 <;> simp only [eb_129_70, eb_129_81, eb_129_87, eb_129_101, eb_129_103, jx_ns_r, jx_ns_n, jx_ns_q, jx_ns_i, jx_gl_0, jx_gl_s, if_true, if_false, ite_true, ite_false, eq_self, Bool.false_eq_true, List.length_cons, List.length_nil, Nat.zero_le, Nat.reduceAdd, Nat.reduceSub, Nat.reduceLeDiff, Nat.reduceLT, Nat.reduceEqDiff, Int.reduceToNat, reduceIte, xe_aload, jx_rv_r, jx_rv_n, jx_rv_q, xk_iload, jx_iv_i, ak_I, xe_inv1, jx_cc_i, jx_cc_v, Nat.reduceMod, Nat.reduceDiv, jx_cl9_i, xe_ifeq, xe_i2l, xe_lconst, xl_0, xl_1, xe_sta3, xe_ifne, xe_goto_w, xe_iconst, xi_m3, xe_ireturn, xe_inv0, xi_m2, xe_istore, xi_0, xx_0, xi_100, xe_icmp_ge, xe_icmp_ne, xe_sta2, xk_getf, jx_gf_i, jx_ov_s, ak_V, xi_4, xx_4, xk_iald, ja_ia, ak_A, true_or, or_true, xi_1, xx_1, xe_isub, xk_iinc, ak_C, xe_goto, xi_5, xx_5, jx_s1, List.set_cons_zero, List.set_cons_succ, jx_2_i, jx_2_l, jx_2_r, jx_2_n, jx_2_u, jx_2_s, jx_2_q, jx_k_i, jx_k_l, jx_k_r, jx_k_n, jx_k_u, jx_k_s, jx_k_q, tw_r, tw_f, tq_r, va_up_s, h1, e4, r, sp_dbv] <;> rw [h3]
  have key := jx_lp (d := d + D + 6) (y := 129) (L := 31) (n := 100) (γ := ((Nat → Int32) × (Nat → Nat → Int32)) × (Nat → Nat → Int64)) (ls := fun m _ => [.ref 113, .int (nI t), .int k, .int (-2), .int (nI m)]) (H := fun _ g => tw h g.1.1 g.1.2 E N1 Q1 g.2)
    (I := fun m g => tq_ob a g.1.2 ∧ cq_iv g.1.1 g.1.2 day tm pm (now + m) ∧ sp_db Lo (nI t) (100 - m) g.1 = V)
    (G := fun r => tq_fin h s a E N Q r (sp_dbv k V)) ?_ ?_ 100 0 ((s, a), W) (by omega) ⟨tq_ob_r, iv, eV⟩
  · rw [nI_0] at key
    obtain ⟨a', N', Q', W', h1, h2, h3, e⟩ := key
    refine ⟨a', N', Q', W', h1, h2, h3, ?_⟩
    simp only [cr_129, eb_129_0, eb_129_21, jx_ns_r, jx_ns_n, jx_ns_q, jx_ns_i, jx_gl_0, jx_gl_s, if_true, if_false, ite_true, ite_false, eq_self, Bool.false_eq_true, List.length_cons, List.length_nil, Nat.zero_le, Nat.reduceAdd, Nat.reduceSub, Nat.reduceLeDiff, Nat.reduceLT, Nat.reduceEqDiff, Int.reduceToNat, reduceIte, xe_aload, jx_rv_r, jx_rv_n, jx_rv_q, xk_iload, jx_iv_i, ak_I, xe_inv1, jx_cc_i, jx_cc_v, Nat.reduceMod, Nat.reduceDiv, jx_cl9_i, xe_ifeq, xe_i2l, xe_lconst, xl_0, xl_1, xe_sta3, xe_ifne, xe_goto_w, xe_iconst, xi_m3, xe_ireturn, xe_inv0, xi_m2, xe_istore, xi_0, xx_0, xi_100, xe_icmp_ge, xe_icmp_ne, xe_sta2, xk_getf, jx_gf_i, jx_ov_s, ak_V, xi_4, xx_4, xk_iald, ja_ia, ak_A, true_or, or_true, xi_1, xx_1, xe_isub, xk_iinc, ak_C, xe_goto, xi_5, xx_5, jx_s1, List.set_cons_zero, List.set_cons_succ, jx_2_i, jx_2_l, jx_2_r, jx_2_n, jx_2_u, jx_2_s, jx_2_q, jx_k_i, jx_k_l, jx_k_r, jx_k_n, jx_k_u, jx_k_s, jx_k_q, tw_r, tw_f, tq_r, va_up_s, tm_isPerson es p6, tq_inL, hpe, hk, and_self, sp_10, e1]
    exact e
  · rintro m ⟨⟨s1, a1⟩, W1⟩ hm ⟨ob, ivm, hV⟩
    simp only at ob ivm
    have h3 : ¬ (100 : Int32) ≤ nI m := nI_ge (a := m) (b := 100) hm (by omega)
    obtain ⟨W2, e2⟩ := tm_goes (d := d + 1) (h := h) (E := E) (N := N1) (Q := Q1) (W := W1) ivm (by omega) hL1
    rw [show d + 1 + D + 5 = d + D + 6 by omega] at e2
    rw [show 100 - m = (100 - (m + 1)) + 1 by omega, sp_db] at hV
    by_cases r : (cq_ws s1 a1 >>> (nI t &&& 31)) &&& 1 = 1
    · rw [if_pos r] at hV
      have iv2 := cq_iv_go (Lo := Lo) ivm (by omega)
      have e7 : (cq_go Lo (s1, a1)).1 7 - 1 = nI (now + m) := by
        rw [iv2.2.2.2.2.2.2.2.1]; exact nI_pred _
      have ne : ¬ nI (now + m) = -2 := by
        intro q
        have := congrArg Int32.toInt q
        rw [nI_toInt (by omega)] at this
        have h2 : (-2 : Int32).toInt = -2 := rfl
        omega
      have := tl (cq_go Lo (s1, a1)) W2 (nI (now + m)) (nI (m + 1)) (tq_ob_go ob) (.inr ⟨ne, hV.symm, e7.symm⟩)
      refine .inl ?_
      obtain ⟨a', N', Q', W', h1, h2, h4, e⟩ := this
      refine ⟨a', N', Q', W', h1, h2, h4, ?_⟩
      rw [← e]
      rw [eb_129_31]
      simp only [eb_129_64, jx_ns_r, jx_ns_n, jx_ns_q, jx_ns_i, jx_gl_0, jx_gl_s, if_true, if_false, ite_true, ite_false, eq_self, Bool.false_eq_true, List.length_cons, List.length_nil, Nat.zero_le, Nat.reduceAdd, Nat.reduceSub, Nat.reduceLeDiff, Nat.reduceLT, Nat.reduceEqDiff, Int.reduceToNat, reduceIte, xe_aload, jx_rv_r, jx_rv_n, jx_rv_q, xk_iload, jx_iv_i, ak_I, xe_inv1, jx_cc_i, jx_cc_v, Nat.reduceMod, Nat.reduceDiv, jx_cl9_i, xe_ifeq, xe_i2l, xe_lconst, xl_0, xl_1, xe_sta3, xe_ifne, xe_goto_w, xe_iconst, xi_m3, xe_ireturn, xe_inv0, xi_m2, xe_istore, xi_0, xx_0, xi_100, xe_icmp_ge, xe_icmp_ne, xe_sta2, xk_getf, jx_gf_i, jx_ov_s, ak_V, xi_4, xx_4, xk_iald, ja_ia, ak_A, true_or, or_true, xi_1, xx_1, xe_isub, xk_iinc, ak_C, xe_goto, xi_5, xx_5, jx_s1, List.set_cons_zero, List.set_cons_succ, jx_2_i, jx_2_l, jx_2_r, jx_2_n, jx_2_u, jx_2_s, jx_2_q, jx_k_i, jx_k_l, jx_k_r, jx_k_n, jx_k_u, jx_k_s, jx_k_q, tw_r, tw_f, tq_r, va_up_s, h3, e2, tq_has, r, sp_10, e7, nI_1]
      rw [eb_129_31]
      by_cases q : m + 1 = 100
      · have h5 : (100 : Int32) ≤ nI (m + 1) := by rw [q]; decide
        simp only [jx_ns_r, jx_ns_n, jx_ns_q, jx_ns_i, jx_gl_0, jx_gl_s, if_true, if_false, ite_true, ite_false, eq_self, Bool.false_eq_true, List.length_cons, List.length_nil, Nat.zero_le, Nat.reduceAdd, Nat.reduceSub, Nat.reduceLeDiff, Nat.reduceLT, Nat.reduceEqDiff, Int.reduceToNat, reduceIte, xe_aload, jx_rv_r, jx_rv_n, jx_rv_q, xk_iload, jx_iv_i, ak_I, xe_inv1, jx_cc_i, jx_cc_v, Nat.reduceMod, Nat.reduceDiv, jx_cl9_i, xe_ifeq, xe_i2l, xe_lconst, xl_0, xl_1, xe_sta3, xe_ifne, xe_goto_w, xe_iconst, xi_m3, xe_ireturn, xe_inv0, xi_m2, xe_istore, xi_0, xx_0, xi_100, xe_icmp_ge, xe_icmp_ne, xe_sta2, xk_getf, jx_gf_i, jx_ov_s, ak_V, xi_4, xx_4, xk_iald, ja_ia, ak_A, true_or, or_true, xi_1, xx_1, xe_isub, xk_iinc, ak_C, xe_goto, xi_5, xx_5, jx_s1, List.set_cons_zero, List.set_cons_succ, jx_2_i, jx_2_l, jx_2_r, jx_2_n, jx_2_u, jx_2_s, jx_2_q, jx_k_i, jx_k_l, jx_k_r, jx_k_n, jx_k_u, jx_k_s, jx_k_q, h5]
      · have h5 : ¬ (100 : Int32) ≤ nI (m + 1) := nI_ge (a := m + 1) (b := 100) (by omega) (by omega)
        simp only [jx_ns_r, jx_ns_n, jx_ns_q, jx_ns_i, jx_gl_0, jx_gl_s, if_true, if_false, ite_true, ite_false, eq_self, Bool.false_eq_true, List.length_cons, List.length_nil, Nat.zero_le, Nat.reduceAdd, Nat.reduceSub, Nat.reduceLeDiff, Nat.reduceLT, Nat.reduceEqDiff, Int.reduceToNat, reduceIte, xe_aload, jx_rv_r, jx_rv_n, jx_rv_q, xk_iload, jx_iv_i, ak_I, xe_inv1, jx_cc_i, jx_cc_v, Nat.reduceMod, Nat.reduceDiv, jx_cl9_i, xe_ifeq, xe_i2l, xe_lconst, xl_0, xl_1, xe_sta3, xe_ifne, xe_goto_w, xe_iconst, xi_m3, xe_ireturn, xe_inv0, xi_m2, xe_istore, xi_0, xx_0, xi_100, xe_icmp_ge, xe_icmp_ne, xe_sta2, xk_getf, jx_gf_i, jx_ov_s, ak_V, xi_4, xx_4, xk_iald, ja_ia, ak_A, true_or, or_true, xi_1, xx_1, xe_isub, xk_iinc, ak_C, xe_goto, xi_5, xx_5, jx_s1, List.set_cons_zero, List.set_cons_succ, jx_2_i, jx_2_l, jx_2_r, jx_2_n, jx_2_u, jx_2_s, jx_2_q, jx_k_i, jx_k_l, jx_k_r, jx_k_n, jx_k_u, jx_k_s, jx_k_q, h5, ne]
    · rw [if_neg r] at hV
      refine .inr ⟨(cq_go Lo (s1, a1), W2), ⟨tq_ob_go ob, (show cq_iv _ _ day tm pm (now + m + 1) from cq_iv_go ivm (by omega)), hV⟩, ?_⟩
      rw [eb_129_31]
      simp only [eb_129_64, jx_ns_r, jx_ns_n, jx_ns_q, jx_ns_i, jx_gl_0, jx_gl_s, if_true, if_false, ite_true, ite_false, eq_self, Bool.false_eq_true, List.length_cons, List.length_nil, Nat.zero_le, Nat.reduceAdd, Nat.reduceSub, Nat.reduceLeDiff, Nat.reduceLT, Nat.reduceEqDiff, Int.reduceToNat, reduceIte, xe_aload, jx_rv_r, jx_rv_n, jx_rv_q, xk_iload, jx_iv_i, ak_I, xe_inv1, jx_cc_i, jx_cc_v, Nat.reduceMod, Nat.reduceDiv, jx_cl9_i, xe_ifeq, xe_i2l, xe_lconst, xl_0, xl_1, xe_sta3, xe_ifne, xe_goto_w, xe_iconst, xi_m3, xe_ireturn, xe_inv0, xi_m2, xe_istore, xi_0, xx_0, xi_100, xe_icmp_ge, xe_icmp_ne, xe_sta2, xk_getf, jx_gf_i, jx_ov_s, ak_V, xi_4, xx_4, xk_iald, ja_ia, ak_A, true_or, or_true, xi_1, xx_1, xe_isub, xk_iinc, ak_C, xe_goto, xi_5, xx_5, jx_s1, List.set_cons_zero, List.set_cons_succ, jx_2_i, jx_2_l, jx_2_r, jx_2_n, jx_2_u, jx_2_s, jx_2_q, jx_k_i, jx_k_l, jx_k_r, jx_k_n, jx_k_u, jx_k_s, jx_k_q, tw_r, tw_f, tq_r, va_up_s, h3, e2, tq_has, r, nI_1]
  · rintro ⟨⟨s1, a1⟩, W1⟩ ⟨ob, ivm, hV⟩
    have h3 : (100 : Int32) ≤ nI 100 := by decide
    have := tl (s1, a1) W1 (-2) (nI 100) ob (.inl ⟨rfl, hV.symm⟩)
    obtain ⟨a', N', Q', W', h1, h2, h4, e⟩ := this
    refine ⟨a', N', Q', W', h1, h2, h4, ?_⟩
    rw [← e]
    rw [eb_129_31]
    simp only [jx_ns_r, jx_ns_n, jx_ns_q, jx_ns_i, jx_gl_0, jx_gl_s, if_true, if_false, ite_true, ite_false, eq_self, Bool.false_eq_true, List.length_cons, List.length_nil, Nat.zero_le, Nat.reduceAdd, Nat.reduceSub, Nat.reduceLeDiff, Nat.reduceLT, Nat.reduceEqDiff, Int.reduceToNat, reduceIte, xe_aload, jx_rv_r, jx_rv_n, jx_rv_q, xk_iload, jx_iv_i, ak_I, xe_inv1, jx_cc_i, jx_cc_v, Nat.reduceMod, Nat.reduceDiv, jx_cl9_i, xe_ifeq, xe_i2l, xe_lconst, xl_0, xl_1, xe_sta3, xe_ifne, xe_goto_w, xe_iconst, xi_m3, xe_ireturn, xe_inv0, xi_m2, xe_istore, xi_0, xx_0, xi_100, xe_icmp_ge, xe_icmp_ne, xe_sta2, xk_getf, jx_gf_i, jx_ov_s, ak_V, xi_4, xx_4, xk_iald, ja_ia, ak_A, true_or, or_true, xi_1, xx_1, xe_isub, xk_iinc, ak_C, xe_goto, xi_5, xx_5, jx_s1, List.set_cons_zero, List.set_cons_succ, jx_2_i, jx_2_l, jx_2_r, jx_2_n, jx_2_u, jx_2_s, jx_2_q, jx_k_i, jx_k_l, jx_k_r, jx_k_n, jx_k_u, jx_k_s, jx_k_q, h3]
theorem tm_least0 {j : Int32} (es : s 3 = nI pm) (hpm : pm ≤ 6) (et : s 2 = nI tm) (htm : tm ≤ 6) (hq : ¬ ((0 ≤ i ∧ i < s 3) ∧ (0 ≤ j ∧ j < s 2) ∧ 1 ≤ k.toInt64 ∧ k.toInt64 ≤ 60)) : jx_cr (d + 3) 130 [.ref 113, .int i, .int j, .int k] (tw h s a E N Q W) = some (.inl (some (.int (-1))), (tw h s a E N Q W)) := by
  by_cases q1 : 0 ≤ i ∧ i < s 3
  · by_cases q2 : 0 ≤ j ∧ j < s 2
    · have q3 : ¬ (1 ≤ k.toInt64 ∧ k.toInt64 ≤ 60) := fun r => hq ⟨q1, q2, r⟩
      simp only [cr_130, eb_130_0, eb_130_28, jx_ns_r, jx_ns_n, jx_ns_q, jx_ns_i, jx_gl_0, jx_gl_s, if_true, if_false, ite_true, ite_false, eq_self, Bool.false_eq_true, List.length_cons, List.length_nil, Nat.zero_le, Nat.reduceAdd, Nat.reduceSub, Nat.reduceLeDiff, Nat.reduceLT, Nat.reduceEqDiff, Int.reduceToNat, reduceIte, xe_aload, jx_rv_r, jx_rv_n, jx_rv_q, xk_iload, jx_iv_i, ak_I, xe_inv1, jx_cc_i, jx_cc_v, Nat.reduceMod, Nat.reduceDiv, jx_cl9_i, xe_ifeq, xe_i2l, xe_lconst, xl_1, xl_60, xe_sta3, xe_ifne, xe_goto_w, xe_iconst, xi_m1, xe_ireturn, xe_inv0, xi_m2, xe_istore, xi_0, xx_0, xi_200, xe_icmp_gt, xe_icmp_ne, xk_getf, jx_gf_i, jx_ov_s, ak_V, xk_iald, ja_ia, ak_A, true_or, or_true, xe_iadd, xi_999, xe_sta2, xk_iast, ja_is, ak_S, ak_P, xe_goto, xk_iinc, ak_C, xi_1, jx_s1, List.set_cons_zero, List.set_cons_succ, jx_2_i, jx_2_l, jx_2_r, jx_2_n, jx_2_u, jx_2_s, jx_2_q, jx_k_i, jx_k_l, jx_k_r, jx_k_n, jx_k_u, jx_k_s, jx_k_q, tw_r, tw_f, tq_r, va_up_s, tm_isPerson es hpm, tm_isThing et htm, tq_inL, q1, q2, q3, and_self, sp_10]
    · simp only [cr_130, eb_130_0, eb_130_28, jx_ns_r, jx_ns_n, jx_ns_q, jx_ns_i, jx_gl_0, jx_gl_s, if_true, if_false, ite_true, ite_false, eq_self, Bool.false_eq_true, List.length_cons, List.length_nil, Nat.zero_le, Nat.reduceAdd, Nat.reduceSub, Nat.reduceLeDiff, Nat.reduceLT, Nat.reduceEqDiff, Int.reduceToNat, reduceIte, xe_aload, jx_rv_r, jx_rv_n, jx_rv_q, xk_iload, jx_iv_i, ak_I, xe_inv1, jx_cc_i, jx_cc_v, Nat.reduceMod, Nat.reduceDiv, jx_cl9_i, xe_ifeq, xe_i2l, xe_lconst, xl_1, xl_60, xe_sta3, xe_ifne, xe_goto_w, xe_iconst, xi_m1, xe_ireturn, xe_inv0, xi_m2, xe_istore, xi_0, xx_0, xi_200, xe_icmp_gt, xe_icmp_ne, xk_getf, jx_gf_i, jx_ov_s, ak_V, xk_iald, ja_ia, ak_A, true_or, or_true, xe_iadd, xi_999, xe_sta2, xk_iast, ja_is, ak_S, ak_P, xe_goto, xk_iinc, ak_C, xi_1, jx_s1, List.set_cons_zero, List.set_cons_succ, jx_2_i, jx_2_l, jx_2_r, jx_2_n, jx_2_u, jx_2_s, jx_2_q, jx_k_i, jx_k_l, jx_k_r, jx_k_n, jx_k_u, jx_k_s, jx_k_q, tw_r, tw_f, tq_r, va_up_s, tm_isPerson es hpm, tm_isThing et htm, q1, q2, and_self, sp_10]
  · simp only [cr_130, eb_130_0, eb_130_28, jx_ns_r, jx_ns_n, jx_ns_q, jx_ns_i, jx_gl_0, jx_gl_s, if_true, if_false, ite_true, ite_false, eq_self, Bool.false_eq_true, List.length_cons, List.length_nil, Nat.zero_le, Nat.reduceAdd, Nat.reduceSub, Nat.reduceLeDiff, Nat.reduceLT, Nat.reduceEqDiff, Int.reduceToNat, reduceIte, xe_aload, jx_rv_r, jx_rv_n, jx_rv_q, xk_iload, jx_iv_i, ak_I, xe_inv1, jx_cc_i, jx_cc_v, Nat.reduceMod, Nat.reduceDiv, jx_cl9_i, xe_ifeq, xe_i2l, xe_lconst, xl_1, xl_60, xe_sta3, xe_ifne, xe_goto_w, xe_iconst, xi_m1, xe_ireturn, xe_inv0, xi_m2, xe_istore, xi_0, xx_0, xi_200, xe_icmp_gt, xe_icmp_ne, xk_getf, jx_gf_i, jx_ov_s, ak_V, xk_iald, ja_ia, ak_A, true_or, or_true, xe_iadd, xi_999, xe_sta2, xk_iast, ja_is, ak_S, ak_P, xe_goto, xk_iinc, ak_C, xi_1, jx_s1, List.set_cons_zero, List.set_cons_succ, jx_2_i, jx_2_l, jx_2_r, jx_2_n, jx_2_u, jx_2_s, jx_2_q, jx_k_i, jx_k_l, jx_k_r, jx_k_n, jx_k_u, jx_k_s, jx_k_q, tw_r, tw_f, tq_r, va_up_s, tm_isPerson es hpm, q1]
theorem tm_least (iv : cq_iv s a day tm pm now) (hn : now ≤ 999) (ht : t < pm) (hu : u < tm) (h1n : 1 ≤ n) (h60 : n ≤ 60) (hL : tq_lw (D + 2) (E 1) Q Lo) :
    tq_fin h s a E N Q (jx_cr (d + D + 7) 130 [.ref 113, .int (nI t), .int (nI u), .int (nI n)] (tw h s a E N Q W)) (sp_fdv (fd (sp_lst Lo s a t n (nI u)) 201 0)) := by
  have t6 := iv.2.2.2.2.1; have p6 := iv.2.2.2.2.2.2.1; have es := iv.2.2.2.2.2.1; have et := iv.2.2.2.1; have d12 := iv.2.2.1; have d1 := iv.2.1
  have hpe := sp_q ht (by omega) es
  have hth := sp_q hu (by omega) et
  have it := sp_ix (show t < 6 by omega) (by decide)
  have hq1 : 1 ≤ (nI n).toInt64 ∧ (nI n).toInt64 ≤ 60 := sp_rg (a := 1) (b := 60) h1n h60 (by omega)
  obtain ⟨N1, Q1, hN1, hQ1, hK, e1⟩ := tq_keep (d := d + D + 3) (h := h) (s := s) (a := a) (E := E) (N := N) (Q := Q) (W := W)
  have hL1 := tq_lw_Q hL (tq_qf_l hQ1)
  generalize eV : fd (sp_lst Lo s a t n (nI u)) 201 0 = V
  have key := jx_lp (d := d + D + 6) (y := 130) (L := 41) (n := 201) (γ := (Nat → Nat → Int32) × (Nat → Int32) × (Nat → Nat → Int64)) (ls := fun m _ => [.ref 113, .int (nI t), .int (nI u), .int (nI n), .int (-2), .int (nI m)]) (H := fun _ g => tw h s g.1 E g.2.1 Q1 g.2.2)
    (I := fun m g => tq_al a g.1 ∧ tq_nf N g.2.1 ∧ fd (sp_lst Lo s a t n (nI u)) (201 - m) m = V)
    (G := fun r => tq_fin h s a E N Q r (sp_fdv V)) ?_ ?_ 201 0 (a, N1, W) (by omega) ⟨tq_al_r, hN1, eV⟩
  · rw [nI_0] at key
    obtain ⟨a', N', Q', W', h1, h2, h3, e⟩ := key
    refine ⟨a', N', Q', W', h1, h2, h3, ?_⟩
    simp only [cr_130, eb_130_0, eb_130_30, jx_ns_r, jx_ns_n, jx_ns_q, jx_ns_i, jx_gl_0, jx_gl_s, if_true, if_false, ite_true, ite_false, eq_self, Bool.false_eq_true, List.length_cons, List.length_nil, Nat.zero_le, Nat.reduceAdd, Nat.reduceSub, Nat.reduceLeDiff, Nat.reduceLT, Nat.reduceEqDiff, Int.reduceToNat, reduceIte, xe_aload, jx_rv_r, jx_rv_n, jx_rv_q, xk_iload, jx_iv_i, ak_I, xe_inv1, jx_cc_i, jx_cc_v, Nat.reduceMod, Nat.reduceDiv, jx_cl9_i, xe_ifeq, xe_i2l, xe_lconst, xl_1, xl_60, xe_sta3, xe_ifne, xe_goto_w, xe_iconst, xi_m1, xe_ireturn, xe_inv0, xi_m2, xe_istore, xi_0, xx_0, xi_200, xe_icmp_gt, xe_icmp_ne, xk_getf, jx_gf_i, jx_ov_s, ak_V, xk_iald, ja_ia, ak_A, true_or, or_true, xe_iadd, xi_999, xe_sta2, xk_iast, ja_is, ak_S, ak_P, xe_goto, xk_iinc, ak_C, xi_1, jx_s1, List.set_cons_zero, List.set_cons_succ, jx_2_i, jx_2_l, jx_2_r, jx_2_n, jx_2_u, jx_2_s, jx_2_q, jx_k_i, jx_k_l, jx_k_r, jx_k_n, jx_k_u, jx_k_s, jx_k_q, tw_r, tw_f, tq_r, va_up_s, tm_isPerson es p6, tm_isThing et t6, tq_inL, hpe, hth, hq1, and_self, sp_10, e1]
    exact e
  · rintro m ⟨a1, N2, W1⟩ hm ⟨al, hN2, hV⟩
    simp only at al hN2
    have h3 : ¬ (200 : Int32) < nI m := nI_nlt (b := m) (a := 200) (by omega) (by omega)
    have ce := cq_eq_tk (k := nI m) (tq_al_e (s := s) (day := day) t6 p6 al) ht
    have iv2 := cq_iv_c (cq_iv_tk iv) ce
    have gc := cq_gn_c (n := n) (Lo := Lo) (cq_iv_tk (k := nI m) iv) (by omega) ce
    obtain ⟨W2, e2⟩ := tm_goFor (d := d) (h := h) (E := E) (N := N2) (Q := Q1) (W := W1) (n := n) iv2 (by omega) hL1
    have e8 := (gc.2.2.2 t ht).2.2.2.1
    obtain ⟨N4, hN4, e4⟩ := tq_lay (d := d + D + 3) (h := h) (s := (cq_gn Lo n (s, sp_tk a1 t (nI m))).1) (a := (cq_gn Lo n (s, sp_tk a1 t (nI m))).2) (E := E) (N := N2) (Q := Q1) (W := W2) hK (fun _ _ => rfl)
    have al2 : tq_al a (sp_sa a (cq_gn Lo n (s, sp_tk a1 t (nI m))).2) := tq_al_sa (tq_ob_gn (tq_ob_tk al.1))
    have etk : va_up a1 7 (upd (a1 7) t (cq_mn (a1 7 t + nI m))) = sp_tk a1 t (nI m) := rfl
    rw [fd_s hm] at hV
    by_cases r : ((cq_gn Lo n (s, sp_tk a t (nI m))).2 8 t >>> (nI u &&& 31)) &&& 1 = 1
    · have r' : sp_lst Lo s a t n (nI u) m = true := decide_eq_true r
      rw [if_pos r'] at hV
      rw [e8] at r
      refine .inl ⟨_, _, _, W2, al2, tq_nf_t hN2 hN4, hQ1, ?_⟩
      have ne : ¬ nI m = -2 := by
        intro q
        have := congrArg Int32.toInt q
        rw [nI_toInt (by omega)] at this
        have h2 : (-2 : Int32).toInt = -2 := rfl
        omega
      rw [← hV, eb_130_41]
      simp only [eb_130_102, jx_ns_r, jx_ns_n, jx_ns_q, jx_ns_i, jx_gl_0, jx_gl_s, if_true, if_false, ite_true, ite_false, eq_self, Bool.false_eq_true, List.length_cons, List.length_nil, Nat.zero_le, Nat.reduceAdd, Nat.reduceSub, Nat.reduceLeDiff, Nat.reduceLT, Nat.reduceEqDiff, Int.reduceToNat, reduceIte, xe_aload, jx_rv_r, jx_rv_n, jx_rv_q, xk_iload, jx_iv_i, ak_I, xe_inv1, jx_cc_i, jx_cc_v, Nat.reduceMod, Nat.reduceDiv, jx_cl9_i, xe_ifeq, xe_i2l, xe_lconst, xl_1, xl_60, xe_sta3, xe_ifne, xe_goto_w, xe_iconst, xi_m1, xe_ireturn, xe_inv0, xi_m2, xe_istore, xi_0, xx_0, xi_200, xe_icmp_gt, xe_icmp_ne, xk_getf, jx_gf_i, jx_ov_s, ak_V, xk_iald, ja_ia, ak_A, true_or, or_true, xe_iadd, xi_999, xe_sta2, xk_iast, ja_is, ak_S, ak_P, xe_goto, xk_iinc, ak_C, xi_1, jx_s1, List.set_cons_zero, List.set_cons_succ, jx_2_i, jx_2_l, jx_2_r, jx_2_n, jx_2_u, jx_2_s, jx_2_q, jx_k_i, jx_k_l, jx_k_r, jx_k_n, jx_k_u, jx_k_s, jx_k_q, tw_r, tw_f, tw_s, tq_r, tq_w, tw_wo, tw_wsc, tq_ile_u, tq_ilo_u, va_up_s, tw_w2, tw_w3, tw_w4, tw_w5, tw_w6, tw_w7, tw_w8, tw_w9, tw_w10, tw_w11, tw_w12, tw_w13, tw_w14, tw_w15, tw_w16, tw_w17, tw_w18, tw_w29, tw_w30, tw_w31, tw_w32, tw_w33, tw_w34, tw_w35, tw_w36, tw_w37, tw_w38, tw_w39, tw_w40, tw_w44, tw_w45, tw_w46, tw_w47, tw_w48, tw_w49, tw_w50, h3, it, tq_upTo, tq_mn, etk, e2, tq_has, r, sp_10, e4, nI_1, sp_fdv]
      rw [eb_130_41]
      by_cases q : m = 200
      · have h5 : (200 : Int32) < nI (m + 1) := by rw [q]; decide
        simp only [eb_130_114, jx_ns_r, jx_ns_n, jx_ns_q, jx_ns_i, jx_gl_0, jx_gl_s, if_true, if_false, ite_true, ite_false, eq_self, Bool.false_eq_true, List.length_cons, List.length_nil, Nat.zero_le, Nat.reduceAdd, Nat.reduceSub, Nat.reduceLeDiff, Nat.reduceLT, Nat.reduceEqDiff, Int.reduceToNat, reduceIte, xe_aload, jx_rv_r, jx_rv_n, jx_rv_q, xk_iload, jx_iv_i, ak_I, xe_inv1, jx_cc_i, jx_cc_v, Nat.reduceMod, Nat.reduceDiv, jx_cl9_i, xe_ifeq, xe_i2l, xe_lconst, xl_1, xl_60, xe_sta3, xe_ifne, xe_goto_w, xe_iconst, xi_m1, xe_ireturn, xe_inv0, xi_m2, xe_istore, xi_0, xx_0, xi_200, xe_icmp_gt, xe_icmp_ne, xk_getf, jx_gf_i, jx_ov_s, ak_V, xk_iald, ja_ia, ak_A, true_or, or_true, xe_iadd, xi_999, xe_sta2, xk_iast, ja_is, ak_S, ak_P, xe_goto, xk_iinc, ak_C, xi_1, jx_s1, List.set_cons_zero, List.set_cons_succ, jx_2_i, jx_2_l, jx_2_r, jx_2_n, jx_2_u, jx_2_s, jx_2_q, jx_k_i, jx_k_l, jx_k_r, jx_k_n, jx_k_u, jx_k_s, jx_k_q, h5]
      · have h5 : ¬ (200 : Int32) < nI (m + 1) := nI_nlt (b := m + 1) (a := 200) (by omega) (by omega)
        simp only [eb_130_114, jx_ns_r, jx_ns_n, jx_ns_q, jx_ns_i, jx_gl_0, jx_gl_s, if_true, if_false, ite_true, ite_false, eq_self, Bool.false_eq_true, List.length_cons, List.length_nil, Nat.zero_le, Nat.reduceAdd, Nat.reduceSub, Nat.reduceLeDiff, Nat.reduceLT, Nat.reduceEqDiff, Int.reduceToNat, reduceIte, xe_aload, jx_rv_r, jx_rv_n, jx_rv_q, xk_iload, jx_iv_i, ak_I, xe_inv1, jx_cc_i, jx_cc_v, Nat.reduceMod, Nat.reduceDiv, jx_cl9_i, xe_ifeq, xe_i2l, xe_lconst, xl_1, xl_60, xe_sta3, xe_ifne, xe_goto_w, xe_iconst, xi_m1, xe_ireturn, xe_inv0, xi_m2, xe_istore, xi_0, xx_0, xi_200, xe_icmp_gt, xe_icmp_ne, xk_getf, jx_gf_i, jx_ov_s, ak_V, xk_iald, ja_ia, ak_A, true_or, or_true, xe_iadd, xi_999, xe_sta2, xk_iast, ja_is, ak_S, ak_P, xe_goto, xk_iinc, ak_C, xi_1, jx_s1, List.set_cons_zero, List.set_cons_succ, jx_2_i, jx_2_l, jx_2_r, jx_2_n, jx_2_u, jx_2_s, jx_2_q, jx_k_i, jx_k_l, jx_k_r, jx_k_n, jx_k_u, jx_k_s, jx_k_q, h5, ne]
    · have r' : ¬ sp_lst Lo s a t n (nI u) m = true := fun q => r (of_decide_eq_true q)
      rw [if_neg r'] at hV
      rw [e8] at r
      refine .inr ⟨(sp_sa a (cq_gn Lo n (s, sp_tk a1 t (nI m))).2, N4, W2), ⟨al2, tq_nf_t hN2 hN4, hV⟩, ?_⟩
      rw [eb_130_41]
      simp only [eb_130_100, eb_130_102, jx_ns_r, jx_ns_n, jx_ns_q, jx_ns_i, jx_gl_0, jx_gl_s, if_true, if_false, ite_true, ite_false, eq_self, Bool.false_eq_true, List.length_cons, List.length_nil, Nat.zero_le, Nat.reduceAdd, Nat.reduceSub, Nat.reduceLeDiff, Nat.reduceLT, Nat.reduceEqDiff, Int.reduceToNat, reduceIte, xe_aload, jx_rv_r, jx_rv_n, jx_rv_q, xk_iload, jx_iv_i, ak_I, xe_inv1, jx_cc_i, jx_cc_v, Nat.reduceMod, Nat.reduceDiv, jx_cl9_i, xe_ifeq, xe_i2l, xe_lconst, xl_1, xl_60, xe_sta3, xe_ifne, xe_goto_w, xe_iconst, xi_m1, xe_ireturn, xe_inv0, xi_m2, xe_istore, xi_0, xx_0, xi_200, xe_icmp_gt, xe_icmp_ne, xk_getf, jx_gf_i, jx_ov_s, ak_V, xk_iald, ja_ia, ak_A, true_or, or_true, xe_iadd, xi_999, xe_sta2, xk_iast, ja_is, ak_S, ak_P, xe_goto, xk_iinc, ak_C, xi_1, jx_s1, List.set_cons_zero, List.set_cons_succ, jx_2_i, jx_2_l, jx_2_r, jx_2_n, jx_2_u, jx_2_s, jx_2_q, jx_k_i, jx_k_l, jx_k_r, jx_k_n, jx_k_u, jx_k_s, jx_k_q, tw_r, tw_f, tw_s, tq_r, tq_w, tw_wo, tw_wsc, tq_ile_u, tq_ilo_u, va_up_s, tw_w2, tw_w3, tw_w4, tw_w5, tw_w6, tw_w7, tw_w8, tw_w9, tw_w10, tw_w11, tw_w12, tw_w13, tw_w14, tw_w15, tw_w16, tw_w17, tw_w18, tw_w29, tw_w30, tw_w31, tw_w32, tw_w33, tw_w34, tw_w35, tw_w36, tw_w37, tw_w38, tw_w39, tw_w40, tw_w44, tw_w45, tw_w46, tw_w47, tw_w48, tw_w49, tw_w50, h3, it, tq_upTo, tq_mn, etk, e2, tq_has, r, e4, nI_1]
  · rintro ⟨a1, N2, W1⟩ ⟨al, hN2, hV⟩
    have h3 : (200 : Int32) < nI 201 := by decide
    rw [Nat.sub_self] at hV
    refine ⟨a1, N2, Q1, W1, al, hN2, hQ1, ?_⟩
    rw [← hV]
    simp only [eb_130_41, eb_130_114, jx_ns_r, jx_ns_n, jx_ns_q, jx_ns_i, jx_gl_0, jx_gl_s, if_true, if_false, ite_true, ite_false, eq_self, Bool.false_eq_true, List.length_cons, List.length_nil, Nat.zero_le, Nat.reduceAdd, Nat.reduceSub, Nat.reduceLeDiff, Nat.reduceLT, Nat.reduceEqDiff, Int.reduceToNat, reduceIte, xe_aload, jx_rv_r, jx_rv_n, jx_rv_q, xk_iload, jx_iv_i, ak_I, xe_inv1, jx_cc_i, jx_cc_v, Nat.reduceMod, Nat.reduceDiv, jx_cl9_i, xe_ifeq, xe_i2l, xe_lconst, xl_1, xl_60, xe_sta3, xe_ifne, xe_goto_w, xe_iconst, xi_m1, xe_ireturn, xe_inv0, xi_m2, xe_istore, xi_0, xx_0, xi_200, xe_icmp_gt, xe_icmp_ne, xk_getf, jx_gf_i, jx_ov_s, ak_V, xk_iald, ja_ia, ak_A, true_or, or_true, xe_iadd, xi_999, xe_sta2, xk_iast, ja_is, ak_S, ak_P, xe_goto, xk_iinc, ak_C, xi_1, jx_s1, List.set_cons_zero, List.set_cons_succ, jx_2_i, jx_2_l, jx_2_r, jx_2_n, jx_2_u, jx_2_s, jx_2_q, jx_k_i, jx_k_l, jx_k_r, jx_k_n, jx_k_u, jx_k_s, jx_k_q, h3, fd, sp_fdv]
end TI
