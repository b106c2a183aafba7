/-! THE TWIN: the law in force, sumOf, holds -/
set_option maxRecDepth 100000
/-- the twin's law fo, of the rows Q 30 .. 35, answers L -/
def tq_ok (D : Nat) (fo : Int32) (Q : Nat → Nat → Int32) (L : (Nat → Int64) → Int64) : Prop :=
  (∀ w w', (∀ i, i < 12 → w i = w' i) → L w = L w') ∧ ∀ (d : Nat) (h : jx_H) (s : Nat → Int32) (a : Nat → Nat → Int32) (E N : Nat → Int32) (Q' : Nat → Nat → Int32) (W : Nat → Nat → Int64), E 1 = fo → (∀ f, 30 ≤ f → f < 36 → Q' f = Q f) →
    ∃ V, jx_cr (d + D) 100 [.ref 113] (tw h s a E N Q' W) = some (.inl (some (.long (L (W 0)))), tw h s a E N Q' (va_up W 1 V))
def tq_lw (D : Nat) (fo : Int32) (Q : Nat → Nat → Int32) (Lo : Option ((Nat → Int64) → Int64)) : Prop := match Lo with
  | none => fo = -1
  | some L => ¬ fo = -1 ∧ tq_ok D fo Q L
theorem tq_lw_Q {D : Nat} {fo : Int32} {Q Q' : Nat → Nat → Int32} {Lo : Option ((Nat → Int64) → Int64)} (h : tq_lw D fo Q Lo) (e : ∀ f, 30 ≤ f → f < 36 → Q' f = Q f) : tq_lw D fo Q' Lo := by
  cases Lo with
  | none => exact h
  | some L => exact ⟨h.1, h.2.1, fun d h' s a E N Q2 W e1 e2 => h.2.2 d h' s a E N Q2 W e1 (fun f h1 h2 => (e2 f h1 h2).trans (e f h1 h2))⟩
theorem tq_or {k n : Nat} (hk : k < 6) (hn : n < 2 ^ k) : (nI n ||| (1 : Int32) <<< (nI k &&& 31)) = nI (n ||| 2 ^ k) ∧ n ||| 2 ^ k < 2 ^ (k + 1) := by
  have : ∀ k : Fin 6, ∀ n : Fin 64, n.val < 2 ^ k.val → (nI n.val ||| (1 : Int32) <<< (nI k.val &&& 31)) = nI (n.val ||| 2 ^ k.val) ∧ n.val ||| 2 ^ k.val < 2 ^ (k.val + 1) := by decide +kernel
  have h64 : n < 64 := Nat.lt_of_lt_of_le hn (by rcases (by omega : k = 0 ∨ k = 1 ∨ k = 2 ∨ k = 3 ∨ k = 4 ∨ k = 5) with r | r | r | r | r | r <;> subst r <;> decide)
  exact this ⟨k, hk⟩ ⟨n, h64⟩ hn
theorem cq_kn_n {T : Nat → Int32} : ∀ n, n ≤ 6 → ∃ m, m < 2 ^ n ∧ cq_kn T n = nI m := by
  intro n
  induction n with
  | zero => intro _; exact ⟨0, by decide, rfl⟩
  | succ n ih =>
    intro hn
    obtain ⟨m, hm, e⟩ := ih (by omega)
    rw [cq_kn, e]
    split
    · exact ⟨m, by rw [Nat.pow_succ]; omega, Int32.or_zero⟩
    · exact ⟨_, (tq_or (by omega) hm).2, (tq_or (by omega) hm).1⟩
theorem cq_who_n {T : Nat → Int32} {o : Int32} : ∀ n, n ≤ 6 → ∃ m, m < 2 ^ n ∧ cq_who T o n = nI m := by
  intro n
  induction n with
  | zero => intro _; exact ⟨0, by decide, rfl⟩
  | succ n ih =>
    intro hn
    obtain ⟨m, hm, e⟩ := ih (by omega)
    rw [cq_who, e]
    split
    · exact ⟨m, by rw [Nat.pow_succ]; omega, rfl⟩
    · exact ⟨_, (tq_or (by omega) hm).2, (tq_or (by omega) hm).1⟩
theorem tq_p6 {n : Nat} (h : n ≤ 6) : 2 ^ n ≤ 64 := by
  rcases (by omega : n = 0 ∨ n = 1 ∨ n = 2 ∨ n = 3 ∨ n = 4 ∨ n = 5 ∨ n = 6) with r | r | r | r | r | r | r <;> subst r <;> decide
section TD
variable {d : Nat} {h : jx_H} {s : Nat → Int32} {a : Nat → Nat → Int32} {E N : Nat → Int32} {Q : Nat → Nat → Int32} {W : Nat → Nat → Int64} {i k : Int32} {t u v tm pm day now D n m : Nat} {Lo : Option ((Nat → Int64) → Int64)}
theorem tm_sumOf {L : (Nat → Int64) → Int64} (hpm : pm ≤ 6) (es : s 3 = nI pm) (ht : t < 6) (h0 : ¬ s 0 = 0) (hm : m < 12) (em : s 7 - s 7 / s 0 * s 0 = nI m) (hL : tq_ok (D + 2) (E 1) Q L) :
    ∃ W', jx_cr (d + D + 3) 110 [.ref 113, .int (nI t)] (tw h s a E N Q W) = some (.inl (some (.long (L (cq_wd s a pm m t)))), tw h s a E N Q W') := by
  have iT := sp_ix ht (by decide)
  have iM := sp_ix hm (by decide)
  obtain ⟨hE, hS⟩ := hL
  have hT := fun W => tm_knightsOf (d := d + D + 1) (h := h) (s := s) (a := a) (E := E) (N := N) (Q := Q) (W := W) (i := nI t) hpm es
  have hK := fun W => tm_knights (d := d + D + 1) (h := h) (s := s) (a := a) (E := E) (N := N) (Q := Q) (W := W) hpm es
  obtain ⟨kn, hkn, ekn⟩ := cq_kn_n (T := a 8) pm hpm
  have hkn : kn < 256 := by have := tq_p6 hpm; omega
  have hB := fun (d : Nat) (H : jx_H) => tq_bitsN (d := d) (n := kn) (h := H) hkn
  have h00 : (s 0 = 0) = False := eq_false h0
  have loop : ∀ n p, p + n = pm → jx_eb (d + D + 2) 110 7 [.ref 113, .int (nI t), .int (cq_du (a 7) (s 1) p), .int (cq_mo (a 7) p), .int (nI p)] [] (tw h s a E N Q W) = jx_eb (d + D + 2) 110 71 [.ref 113, .int (nI t), .int (cq_du (a 7) (s 1) pm), .int (cq_mo (a 7) pm), .int (nI pm)] [] (tw h s a E N Q W) := by
    intro n
    induction n with
    | zero =>
      intro p hp
      have : p = pm := by omega
      subst this
      simp only [eb_110_7, jx_ns_r, jx_ns_n, jx_ns_q, jx_ns_i, jx_gl_0, jx_gl_s, if_true, if_false, ite_true, ite_false, eq_self, Bool.false_eq_true, List.length_cons, List.length_nil, Nat.zero_le, Nat.reduceAdd, Nat.reduceSub, Nat.reduceLeDiff, Nat.reduceLT, Nat.reduceEqDiff, Int.reduceToNat, reduceIte, xe_iconst, xi_0, xx_0, xe_istore, xe_goto_w, xk_iload, jx_iv_i, ak_I, xe_aload, jx_rv_r, jx_rv_n, jx_rv_q, xk_getf, jx_gf_i, jx_ov_s, ak_V, xi_3, xx_3, xk_iald, ja_ia, ak_A, true_or, or_true, xe_icmp_ge, xi_1, xx_1, xe_icmp_lt, xe_goto, xe_iadd, xe_icmp_le, xk_iinc, ak_C, xi_4, xx_4, xe_irem, xe_i2l, xk_last, ja_js, ak_J, ak_P, xi_2, xx_2, xe_icmp_ne, xe_lconst, xl_1, xl_0, xi_5, xx_5, xi_6, xx_6, xe_inv1, jx_cc_i, jx_cc_v, Nat.reduceMod, Nat.reduceDiv, jx_cl9_i, xi_7, xx_7, xi_8, xx_8, xe_inv0, xe_sta1, xi_9, xx_9, xi_10, xx_10, xi_11, xx_11, xe_lreturn, jx_s1, List.set_cons_zero, List.set_cons_succ, jx_2_i, jx_2_l, jx_2_r, jx_2_n, jx_2_u, jx_2_s, jx_2_q, jx_k_i, jx_k_l, jx_k_r, jx_k_n, jx_k_u, jx_k_s, jx_k_q, tw_r, tw_f, tq_r, va_up_s, es, nI_leI (show p < 2 ^ 31 by omega) (show p < 2 ^ 31 by omega), Nat.le_refl]
    | succ n ih =>
      intro p hp
      have h2 := sp_ix (show p < 6 by omega) (by decide)
      have h3 : ¬ nI pm ≤ nI p := nI_ge (by omega) (by omega)
      have hle : a 7 p ≤ cq_mo (a 7) p ↔ ¬ cq_mo (a 7) p < a 7 p := Int32.not_lt.symm
      rw [← ih (p + 1) (by omega), cq_du, cq_mo, ← nI_1, eb_110_7]
      by_cases q : a 7 p < s 1 <;> by_cases q2 : cq_mo (a 7) p < a 7 p <;> simp only [eb_110_39, eb_110_40, eb_110_63, eb_110_64, jx_ns_r, jx_ns_n, jx_ns_q, jx_ns_i, jx_gl_0, jx_gl_s, if_true, if_false, ite_true, ite_false, eq_self, Bool.false_eq_true, List.length_cons, List.length_nil, Nat.zero_le, Nat.reduceAdd, Nat.reduceSub, Nat.reduceLeDiff, Nat.reduceLT, Nat.reduceEqDiff, Int.reduceToNat, reduceIte, xe_iconst, xi_0, xx_0, xe_istore, xe_goto_w, xk_iload, jx_iv_i, ak_I, xe_aload, jx_rv_r, jx_rv_n, jx_rv_q, xk_getf, jx_gf_i, jx_ov_s, ak_V, xi_3, xx_3, xk_iald, ja_ia, ak_A, true_or, or_true, xe_icmp_ge, xi_1, xx_1, xe_icmp_lt, xe_goto, xe_iadd, xe_icmp_le, xk_iinc, ak_C, xi_4, xx_4, xe_irem, xe_i2l, xk_last, ja_js, ak_J, ak_P, xi_2, xx_2, xe_icmp_ne, xe_lconst, xl_1, xl_0, xi_5, xx_5, xi_6, xx_6, xe_inv1, jx_cc_i, jx_cc_v, Nat.reduceMod, Nat.reduceDiv, jx_cl9_i, xi_7, xx_7, xi_8, xx_8, xe_inv0, xe_sta1, xi_9, xx_9, xi_10, xx_10, xi_11, xx_11, xe_lreturn, jx_s1, List.set_cons_zero, List.set_cons_succ, jx_2_i, jx_2_l, jx_2_r, jx_2_n, jx_2_u, jx_2_s, jx_2_q, jx_k_i, jx_k_l, jx_k_r, jx_k_n, jx_k_u, jx_k_s, jx_k_q, tw_r, tw_f, tq_r, va_up_s, es, h2, h3, q, q2, hle, not_true, not_false_eq_true]
  have l0 := loop pm 0 (by omega)
  simp only [cq_du, cq_mo, nI_0] at l0
  obtain ⟨V, eV⟩ := hS d h s a E N Q (va_up W 0 (vp_updL (vp_updL (vp_updL (vp_updL (vp_updL (vp_updL (vp_updL (vp_updL (vp_updL (vp_updL (vp_updL (vp_updL (W 0) 0 (nI t).toInt64) 1 (a 0 t).toInt64) 2 (nI m).toInt64) 3 (if a 1 m = nI t then 1 else 0)) 4 (if s 8 = nI t then 1 else 0)) 5 (a 6 t).toInt64) 6 (cq_ti (a 8) (nI t) pm).toInt64) 7 (cq_du (a 7) (s 1) pm).toInt64) 8 (cq_bc (cq_kn (a 8) pm)).toInt64) 9 (cq_mo (a 7) pm).toInt64) 10 (nI pm).toInt64) 11 (s 7).toInt64)) rfl (fun _ _ _ => rfl)
  rw [← Nat.add_assoc] at eV
  simp only [va_up_s, reduceIte] at eV
  rw [hE _ (cq_wd s a pm m t) (fun i hi => (cq_wdE hi).symm)] at eV
  have eW : ∀ f g : Nat → Int64, va_up (va_up W 0 f) 0 g = va_up W 0 g := by
    intro f g
    funext j
    simp only [va_up]
    by_cases j1 : j = 0
    · rw [if_pos j1, if_pos j1]
    · rw [if_neg j1, if_neg j1, if_neg j1]
  rw [ekn] at eV hK
  refine ⟨va_up (va_up W 0 (vp_updL (vp_updL (vp_updL (vp_updL (vp_updL (vp_updL (vp_updL (vp_updL (vp_updL (vp_updL (vp_updL (vp_updL (W 0) 0 (nI t).toInt64) 1 (a 0 t).toInt64) 2 (nI m).toInt64) 3 (if a 1 m = nI t then 1 else 0)) 4 (if s 8 = nI t then 1 else 0)) 5 (a 6 t).toInt64) 6 (cq_ti (a 8) (nI t) pm).toInt64) 7 (cq_du (a 7) (s 1) pm).toInt64) 8 (cq_bc (nI kn)).toInt64) 9 (cq_mo (a 7) pm).toInt64) 10 (nI pm).toInt64) 11 (s 7).toInt64)) 1 V, ?_⟩
  simp only [cr_110, eb_110_0, jx_ns_r, jx_ns_n, jx_ns_q, jx_ns_i, jx_gl_0, jx_gl_s, if_true, if_false, ite_true, ite_false, eq_self, Bool.false_eq_true, List.length_cons, List.length_nil, Nat.zero_le, Nat.reduceAdd, Nat.reduceSub, Nat.reduceLeDiff, Nat.reduceLT, Nat.reduceEqDiff, Int.reduceToNat, reduceIte, xe_iconst, xi_0, xx_0, xe_istore, xe_goto_w, xk_iload, jx_iv_i, ak_I, xe_aload, jx_rv_r, jx_rv_n, jx_rv_q, xk_getf, jx_gf_i, jx_ov_s, ak_V, xi_3, xx_3, xk_iald, ja_ia, ak_A, true_or, or_true, xe_icmp_ge, xi_1, xx_1, xe_icmp_lt, xe_goto, xe_iadd, xe_icmp_le, xk_iinc, ak_C, xi_4, xx_4, xe_irem, xe_i2l, xk_last, ja_js, ak_J, ak_P, xi_2, xx_2, xe_icmp_ne, xe_lconst, xl_1, xl_0, xi_5, xx_5, xi_6, xx_6, xe_inv1, jx_cc_i, jx_cc_v, Nat.reduceMod, Nat.reduceDiv, jx_cl9_i, xi_7, xx_7, xi_8, xx_8, xe_inv0, xe_sta1, xi_9, xx_9, xi_10, xx_10, xi_11, xx_11, xe_lreturn, jx_s1, List.set_cons_zero, List.set_cons_succ, jx_2_i, jx_2_l, jx_2_r, jx_2_n, jx_2_u, jx_2_s, jx_2_q, jx_k_i, jx_k_l, jx_k_r, jx_k_n, jx_k_u, jx_k_s, jx_k_q, l0]
  by_cases q1 : a 1 m = nI t <;> by_cases q2 : s 8 = nI t <;> simp only [q1, q2, if_true, if_false] at eV <;> simp only [eb_110_71, eb_110_136, eb_110_137, eb_110_157, eb_110_158, jx_ns_r, jx_ns_n, jx_ns_q, jx_ns_i, jx_gl_0, jx_gl_s, if_true, if_false, ite_true, ite_false, eq_self, Bool.false_eq_true, List.length_cons, List.length_nil, Nat.zero_le, Nat.reduceAdd, Nat.reduceSub, Nat.reduceLeDiff, Nat.reduceLT, Nat.reduceEqDiff, Int.reduceToNat, reduceIte, xe_iconst, xi_0, xx_0, xe_istore, xe_goto_w, xk_iload, jx_iv_i, ak_I, xe_aload, jx_rv_r, jx_rv_n, jx_rv_q, xk_getf, jx_gf_i, jx_ov_s, ak_V, xi_3, xx_3, xk_iald, ja_ia, ak_A, true_or, or_true, xe_icmp_ge, xi_1, xx_1, xe_icmp_lt, xe_goto, xe_iadd, xe_icmp_le, xk_iinc, ak_C, xi_4, xx_4, xe_irem, xe_i2l, xk_last, ja_js, ak_J, ak_P, xi_2, xx_2, xe_icmp_ne, xe_lconst, xl_1, xl_0, xi_5, xx_5, xi_6, xx_6, xe_inv1, jx_cc_i, jx_cc_v, Nat.reduceMod, Nat.reduceDiv, jx_cl9_i, xi_7, xx_7, xi_8, xx_8, xe_inv0, xe_sta1, xi_9, xx_9, xi_10, xx_10, xi_11, xx_11, xe_lreturn, jx_s1, List.set_cons_zero, List.set_cons_succ, jx_2_i, jx_2_l, jx_2_r, jx_2_n, jx_2_u, jx_2_s, jx_2_q, jx_k_i, jx_k_l, jx_k_r, jx_k_n, jx_k_u, jx_k_s, jx_k_q, tw_r, tw_f, tw_s, tq_r, tq_w, tw_wo, tw_wsc, tq_ile_u, tq_ilo_u, va_up_s, tw_w2, tw_w3, tw_w4, tw_w5, tw_w6, tw_w7, tw_w8, tw_w9, tw_w10, tw_w11, tw_w12, tw_w13, tw_w14, tw_w15, tw_w16, tw_w17, tw_w18, tw_w29, tw_w30, tw_w31, tw_w32, tw_w33, tw_w34, tw_w35, tw_w36, tw_w37, tw_w38, tw_w39, tw_w40, tw_w44, tw_w45, tw_w46, tw_w47, tw_w48, tw_w49, tw_w50, h00, em, iT, iM, q1, q2, es, eW, hT, hK, hB, eV]
theorem tm_holds (iv : cq_iv s a day tm pm now) (hn : now < 2 ^ 31) (hL : tq_lw (D + 2) (E 1) Q Lo) : ∃ W', jx_cr (d + D + 4) 111 [.ref 113] (tw h s a E N Q W) = some (.inl (some (.int (cq_pk Lo s a))), tw h s a E N Q W') := by
  obtain ⟨e0, d1, d2, e2, t6, e3, p6, e7, h8, h9, hg, hr⟩ := iv
  have hm : now % day < day := Nat.mod_lt _ (by omega)
  have em : s 7 - s 7 / s 0 * s 0 = nI (now % day) := by
    rw [e7, e0]
    exact pk_rem hn (by omega) (by omega)
  have h0 : ¬ s 0 = 0 := by rw [e0]; exact nI_ne0 (by omega) (by omega)
  have h00 : (s 0 = 0) = False := eq_false h0
  have iM := sp_ix (show now % day < 12 by omega) (by decide)
  have hle : s 10 ≤ 0 ↔ ¬ 0 < s 10 := Int32.not_lt.symm
  rw [cq_pk, e0, e2, e3, e7, nI_clamp (by omega), nI_clamp (by omega), nI_clamp (by omega), nI_clamp (by omega)]
  generalize now % day = m at *
  by_cases q1 : 0 < s 10
  · exact ⟨W, by simp only [cr_111, eb_111_0, jx_ns_r, jx_ns_n, jx_ns_q, jx_ns_i, jx_gl_0, jx_gl_s, if_true, if_false, ite_true, ite_false, eq_self, Bool.false_eq_true, List.length_cons, List.length_nil, Nat.zero_le, Nat.reduceAdd, Nat.reduceSub, Nat.reduceLeDiff, Nat.reduceLT, Nat.reduceEqDiff, Int.reduceToNat, reduceIte, xe_aload, jx_rv_r, jx_rv_n, jx_rv_q, xk_getf, jx_gf_i, jx_ov_s, ak_V, xe_iconst, xi_7, xx_7, xk_iald, ja_ia, ak_A, ak_I, true_or, or_true, xe_ifle, xi_m1, xe_ireturn, xi_6, xx_6, xe_icmp_eq, xi_10, xx_10, xe_icmp_ne, xi_4, xx_4, xi_0, xx_0, xe_irem, xe_istore, xe_lconst, xl_0, xe_lstore, jx_s2, xe_goto_w, xk_iload, jx_iv_i, xi_2, xx_2, xe_icmp_ge, xe_inv1, jx_cc_i, jx_cc_v, Nat.reduceMod, Nat.reduceDiv, jx_cl9_i, xk_lload, jx_lv_l, ak_L, xe_lcmp, xk_iinc, ak_C, xi_1, xe_goto, jx_s1, List.set_cons_zero, List.set_cons_succ, jx_2_i, jx_2_l, jx_2_r, jx_2_n, jx_2_u, jx_2_s, jx_2_q, jx_k_i, jx_k_l, jx_k_r, jx_k_n, jx_k_u, jx_k_s, jx_k_q, tw_r, tw_f, tq_r, va_up_s, hle, q1, not_true, not_false_eq_true, cq_ih]⟩
  · by_cases q2 : s 9 = -1
    · cases Lo with
      | none =>
        have hf : E 1 = -1 := hL
        exact ⟨W, by simp only [cr_111, eb_111_0, eb_111_12, eb_111_31, jx_ns_r, jx_ns_n, jx_ns_q, jx_ns_i, jx_gl_0, jx_gl_s, if_true, if_false, ite_true, ite_false, eq_self, Bool.false_eq_true, List.length_cons, List.length_nil, Nat.zero_le, Nat.reduceAdd, Nat.reduceSub, Nat.reduceLeDiff, Nat.reduceLT, Nat.reduceEqDiff, Int.reduceToNat, reduceIte, xe_aload, jx_rv_r, jx_rv_n, jx_rv_q, xk_getf, jx_gf_i, jx_ov_s, ak_V, xe_iconst, xi_7, xx_7, xk_iald, ja_ia, ak_A, ak_I, true_or, or_true, xe_ifle, xi_m1, xe_ireturn, xi_6, xx_6, xe_icmp_eq, xi_10, xx_10, xe_icmp_ne, xi_4, xx_4, xi_0, xx_0, xe_irem, xe_istore, xe_lconst, xl_0, xe_lstore, jx_s2, xe_goto_w, xk_iload, jx_iv_i, xi_2, xx_2, xe_icmp_ge, xe_inv1, jx_cc_i, jx_cc_v, Nat.reduceMod, Nat.reduceDiv, jx_cl9_i, xk_lload, jx_lv_l, ak_L, xe_lcmp, xk_iinc, ak_C, xi_1, xe_goto, jx_s1, List.set_cons_zero, List.set_cons_succ, jx_2_i, jx_2_l, jx_2_r, jx_2_n, jx_2_u, jx_2_s, jx_2_q, jx_k_i, jx_k_l, jx_k_r, jx_k_n, jx_k_u, jx_k_s, jx_k_q, tw_r, tw_f, tq_r, va_up_s, hle, q1, q2, hf, h00, em, iM, not_true, not_false_eq_true, cq_ih]⟩
      | some L =>
        obtain ⟨hf, hL⟩ := hL
        have loop : ∀ n t, t + n = tm → ∀ u v W, ((v = jx_un ∧ u = jx_un) ∨ ∃ x, v = .long x ∧ u = jx_sn) → ∃ W', jx_eb (d + D + 3) 111 68 [.ref 113, .int (cq_bst (fun t => L (cq_wd s a pm m t)) t).1, .long (cq_bst (fun t => L (cq_wd s a pm m t)) t).2, jx_sn, .int (nI t), v, u] [] (tw h s a E N Q W) = some (.inl (some (.int (cq_bst (fun t => L (cq_wd s a pm m t)) tm).1)), tw h s a E N Q W') := by
          intro n
          induction n with
          | zero =>
            intro t ht u v W hv
            have : t = tm := by omega
            subst this
            exact ⟨W, by simp only [eb_111_68, eb_111_106, jx_ns_r, jx_ns_n, jx_ns_q, jx_ns_i, jx_gl_0, jx_gl_s, if_true, if_false, ite_true, ite_false, eq_self, Bool.false_eq_true, List.length_cons, List.length_nil, Nat.zero_le, Nat.reduceAdd, Nat.reduceSub, Nat.reduceLeDiff, Nat.reduceLT, Nat.reduceEqDiff, Int.reduceToNat, reduceIte, xe_aload, jx_rv_r, jx_rv_n, jx_rv_q, xk_getf, jx_gf_i, jx_ov_s, ak_V, xe_iconst, xi_7, xx_7, xk_iald, ja_ia, ak_A, ak_I, true_or, or_true, xe_ifle, xi_m1, xe_ireturn, xi_6, xx_6, xe_icmp_eq, xi_10, xx_10, xe_icmp_ne, xi_4, xx_4, xi_0, xx_0, xe_irem, xe_istore, xe_lconst, xl_0, xe_lstore, jx_s2, xe_goto_w, xk_iload, jx_iv_i, xi_2, xx_2, xe_icmp_ge, xe_inv1, jx_cc_i, jx_cc_v, Nat.reduceMod, Nat.reduceDiv, jx_cl9_i, xk_lload, jx_lv_l, ak_L, xe_lcmp, xk_iinc, ak_C, xi_1, xe_goto, jx_s1, List.set_cons_zero, List.set_cons_succ, jx_2_i, jx_2_l, jx_2_r, jx_2_n, jx_2_u, jx_2_s, jx_2_q, jx_k_i, jx_k_l, jx_k_r, jx_k_n, jx_k_u, jx_k_s, jx_k_q, tw_r, tw_f, tq_r, va_up_s, e2, nI_leI (show t < 2 ^ 31 by omega) (show t < 2 ^ 31 by omega), Nat.le_refl]⟩
          | succ n ih =>
            intro t ht u v W hv
            have h3 : ¬ nI tm ≤ nI t := nI_ge (by omega) (by omega)
            obtain ⟨W1, e1⟩ := tm_sumOf (d := d) (h := h) (s := s) (a := a) (E := E) (N := N) (Q := Q) (W := W) (t := t) p6 e3 (by omega) h0 (show m < 12 by omega) em hL
            obtain ⟨W2, e4⟩ := ih (t + 1) (by omega) jx_sn (.long (L (cq_wd s a pm m t))) W1 (.inr ⟨_, rfl, rfl⟩)
            have hc : ∀ x y : Int64, lg_cmp x y ≤ 0 ↔ ¬ y < x := by
              intro x y
              rw [← lg_cmp_gt]; exact Int32.not_lt.symm
            refine ⟨W2, ?_⟩
            rw [← e4]
            rw [eb_111_68]
            simp only [cq_bst, ← nI_1]
            rcases hv with ⟨rfl, rfl⟩ | ⟨x, rfl, rfl⟩ <;> by_cases q : (cq_bst (fun t => L (cq_wd s a pm m t)) t).2 < L (cq_wd s a pm m t) <;>
              simp only [eb_111_100, jx_ns_r, jx_ns_n, jx_ns_q, jx_ns_i, jx_gl_0, jx_gl_s, if_true, if_false, ite_true, ite_false, eq_self, Bool.false_eq_true, List.length_cons, List.length_nil, Nat.zero_le, Nat.reduceAdd, Nat.reduceSub, Nat.reduceLeDiff, Nat.reduceLT, Nat.reduceEqDiff, Int.reduceToNat, reduceIte, xe_aload, jx_rv_r, jx_rv_n, jx_rv_q, xk_getf, jx_gf_i, jx_ov_s, ak_V, xe_iconst, xi_7, xx_7, xk_iald, ja_ia, ak_A, ak_I, true_or, or_true, xe_ifle, xi_m1, xe_ireturn, xi_6, xx_6, xe_icmp_eq, xi_10, xx_10, xe_icmp_ne, xi_4, xx_4, xi_0, xx_0, xe_irem, xe_istore, xe_lconst, xl_0, xe_lstore, jx_s2, xe_goto_w, xk_iload, jx_iv_i, xi_2, xx_2, xe_icmp_ge, xe_inv1, jx_cc_i, jx_cc_v, Nat.reduceMod, Nat.reduceDiv, jx_cl9_i, xk_lload, jx_lv_l, ak_L, xe_lcmp, xk_iinc, ak_C, xi_1, xe_goto, jx_s1, List.set_cons_zero, List.set_cons_succ, jx_2_i, jx_2_l, jx_2_r, jx_2_n, jx_2_u, jx_2_s, jx_2_q, jx_k_i, jx_k_l, jx_k_r, jx_k_n, jx_k_u, jx_k_s, jx_k_q, tw_r, tw_f, tq_r, va_up_s, e2, h3, e1, hc, q, not_true, not_false_eq_true]
        obtain ⟨W2, e4⟩ := loop tm 0 (by omega) jx_un jx_un W (.inl ⟨rfl, rfl⟩)
        simp only [cq_bst, nI_0] at e4
        exact ⟨W2, by simp only [cr_111, eb_111_0, eb_111_12, eb_111_31, eb_111_61, jx_ns_r, jx_ns_n, jx_ns_q, jx_ns_i, jx_gl_0, jx_gl_s, if_true, if_false, ite_true, ite_false, eq_self, Bool.false_eq_true, List.length_cons, List.length_nil, Nat.zero_le, Nat.reduceAdd, Nat.reduceSub, Nat.reduceLeDiff, Nat.reduceLT, Nat.reduceEqDiff, Int.reduceToNat, reduceIte, xe_aload, jx_rv_r, jx_rv_n, jx_rv_q, xk_getf, jx_gf_i, jx_ov_s, ak_V, xe_iconst, xi_7, xx_7, xk_iald, ja_ia, ak_A, ak_I, true_or, or_true, xe_ifle, xi_m1, xe_ireturn, xi_6, xx_6, xe_icmp_eq, xi_10, xx_10, xe_icmp_ne, xi_4, xx_4, xi_0, xx_0, xe_irem, xe_istore, xe_lconst, xl_0, xe_lstore, jx_s2, xe_goto_w, xk_iload, jx_iv_i, xi_2, xx_2, xe_icmp_ge, xe_inv1, jx_cc_i, jx_cc_v, Nat.reduceMod, Nat.reduceDiv, jx_cl9_i, xk_lload, jx_lv_l, ak_L, xe_lcmp, xk_iinc, ak_C, xi_1, xe_goto, jx_s1, List.set_cons_zero, List.set_cons_succ, jx_2_i, jx_2_l, jx_2_r, jx_2_n, jx_2_u, jx_2_s, jx_2_q, jx_k_i, jx_k_l, jx_k_r, jx_k_n, jx_k_u, jx_k_s, jx_k_q, tw_r, tw_f, tq_r, va_up_s, hle, q1, q2, hf, not_true, not_false_eq_true, cq_ih]; exact e4⟩
    · exact ⟨W, by simp only [cr_111, eb_111_0, eb_111_12, jx_ns_r, jx_ns_n, jx_ns_q, jx_ns_i, jx_gl_0, jx_gl_s, if_true, if_false, ite_true, ite_false, eq_self, Bool.false_eq_true, List.length_cons, List.length_nil, Nat.zero_le, Nat.reduceAdd, Nat.reduceSub, Nat.reduceLeDiff, Nat.reduceLT, Nat.reduceEqDiff, Int.reduceToNat, reduceIte, xe_aload, jx_rv_r, jx_rv_n, jx_rv_q, xk_getf, jx_gf_i, jx_ov_s, ak_V, xe_iconst, xi_7, xx_7, xk_iald, ja_ia, ak_A, ak_I, true_or, or_true, xe_ifle, xi_m1, xe_ireturn, xi_6, xx_6, xe_icmp_eq, xi_10, xx_10, xe_icmp_ne, xi_4, xx_4, xi_0, xx_0, xe_irem, xe_istore, xe_lconst, xl_0, xe_lstore, jx_s2, xe_goto_w, xk_iload, jx_iv_i, xi_2, xx_2, xe_icmp_ge, xe_inv1, jx_cc_i, jx_cc_v, Nat.reduceMod, Nat.reduceDiv, jx_cl9_i, xk_lload, jx_lv_l, ak_L, xe_lcmp, xk_iinc, ak_C, xi_1, xe_goto, jx_s1, List.set_cons_zero, List.set_cons_succ, jx_2_i, jx_2_l, jx_2_r, jx_2_n, jx_2_u, jx_2_s, jx_2_q, jx_k_i, jx_k_l, jx_k_r, jx_k_n, jx_k_u, jx_k_s, jx_k_q, tw_r, tw_f, tq_r, va_up_s, hle, q1, q2, not_true, not_false_eq_true, cq_ih]⟩
end TD
