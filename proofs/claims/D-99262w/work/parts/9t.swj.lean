/-! THE TWIN'S PARSER: comparisons -/
set_option maxRecDepth 100000
section PLY
variable {d : Nat} {h : jx_H} {s : Nat → Int32} {a : Nat → Nat → Int32} {E Nb : Nat → Int32} {Qb : Nat → Nat → Int32} {W : Nat → Nat → Int64} {n M g sl i k : Nat} {p f en de co op v l : Int32} {so nu on : Nat → Int32}
theorem m_cmp0 {c p2 f2 en2 co2 : Int32} {so2 nu2 : Nat → Int32} {n2 : Nat} (eM : Nb 19 = nI M) (hM : M ≤ 400) (h2 : n2 ≤ 500) (hc : c = 60 ∨ c = 61 ∨ c = 62) (ec : sg (Qb 29) M n2 = c)
    (hS : jx_cr (d + 9) 78 [.ref 113] (tw h s a E (pN Nb (p) (f) (en) (de) (co) (op)) (pQ Qb (so) (nu) (on)) W) = some (.inl none, (tw h s a E (pN Nb (nI n2) (f2) (en2) (de) (co2) (op)) (pQ Qb (so2) (nu2) (on)) W))) :
    jx_cr (d + 10) 79 [.ref 113] (tw h s a E (pN Nb (p) (f) (en) (de) (co) (op)) (pQ Qb (so) (nu) (on)) W) = jx_eb (d + 9) 79 37 [.ref 113, .int c, jx_un] [] (tw h s a E (pN Nb (nI n2) (f2) (en2) (de) (co2) (op)) (pQ Qb (so2) (nu2) (on)) W) := by
  have s1 := fun d => m_sign (d := d) (n := n2) (h := h) (s := s) (a := a) (E := E) (Nb := Nb) (Qb := Qb) (W := W) (f := f2) (en := en2) (de := de) (co := co2) (op := op) (so := so2) (nu := nu2) (on := on) eM hM h2
  rw [ec] at s1
  rcases hc with q | q | q <;> subst q <;> simp only [cr_79, eb_79_0, jx_ns_r, jx_ns_n, jx_ns_q, jx_ns_i, jx_gl_0, jx_gl_s, if_true, if_false, ite_true, ite_false, eq_self, Bool.false_eq_true, List.length_cons, List.length_nil, Nat.zero_le, Nat.reduceAdd, Nat.reduceSub, Nat.reduceLeDiff, Nat.reduceLT, Nat.reduceEqDiff, Int.reduceToNat, reduceIte, xe_aload, jx_rv_r, jx_rv_n, jx_rv_q, xe_inv0, jx_cc_i, jx_cc_v, Nat.reduceMod, Nat.reduceDiv, jx_cl9_i, xe_istore, xk_iload, jx_iv_i, ak_I, xe_iconst, xi_60, xe_icmp_eq, xi_61, xi_62, xi_0, xx_0, xk_getf, jx_gf_i, jx_ov_s, ak_V, xe_inv2, xe_return, xe_inv1, xe_dup, jx_2_i, jx_2_l, jx_2_r, jx_2_n, jx_2_q, or_self, xi_1, xx_1, xe_iadd, xk_putf, ak_P, jx_pf_i, jx_pf_z, jx_pf_l, jx_pf_r, jx_pf_n, jx_pf_q, xe_icmp_ne, xe_goto, xe_goto_w, xe_ifeq, xi_6, xx_6, xi_5, xx_5, xi_4, xx_4, xi_7, xx_7, xi_8, xx_8, jx_s1, List.set_cons_zero, List.set_cons_succ, jx_2_u, jx_2_s, jx_k_i, jx_k_l, jx_k_r, jx_k_n, jx_k_u, jx_k_s, jx_k_q, tw_r, tw_f, tw_s, tw_wo, pN_r, pN_w, pQ_r, pQ_w, tw_w30, tw_w31, tw_w36, va_up_s, hS, s1, sg_ne]
theorem m_cmp0n {p2 f2 en2 co2 : Int32} {so2 nu2 : Nat → Int32} {n2 : Nat} (eM : Nb 19 = nI M) (hM : M ≤ 400) (h2 : n2 ≤ 500) (c1 : ¬ sg (Qb 29) M n2 = 60) (c2 : ¬ sg (Qb 29) M n2 = 61) (c3 : ¬ sg (Qb 29) M n2 = 62)
    (hS : jx_cr (d + 9) 78 [.ref 113] (tw h s a E (pN Nb (p) (f) (en) (de) (co) (op)) (pQ Qb (so) (nu) (on)) W) = some (.inl none, (tw h s a E (pN Nb (nI n2) (f2) (en2) (de) (co2) (op)) (pQ Qb (so2) (nu2) (on)) W))) :
    jx_cr (d + 10) 79 [.ref 113] (tw h s a E (pN Nb (p) (f) (en) (de) (co) (op)) (pQ Qb (so) (nu) (on)) W) = some (.inl none, (tw h s a E (pN Nb (nI n2) (flt f2 0 (nI n2)) (en2) (de) (co2) (op)) (pQ Qb (so2) (nu2) (on)) W)) := by
  have s1 := fun d => m_sign (d := d) (n := n2) (h := h) (s := s) (a := a) (E := E) (Nb := Nb) (Qb := Qb) (W := W) (f := f2) (en := en2) (de := de) (co := co2) (op := op) (so := so2) (nu := nu2) (on := on) eM hM h2
  simp only [cr_79, eb_79_0, jx_ns_r, jx_ns_n, jx_ns_q, jx_ns_i, jx_gl_0, jx_gl_s, if_true, if_false, ite_true, ite_false, eq_self, Bool.false_eq_true, List.length_cons, List.length_nil, Nat.zero_le, Nat.reduceAdd, Nat.reduceSub, Nat.reduceLeDiff, Nat.reduceLT, Nat.reduceEqDiff, Int.reduceToNat, reduceIte, xe_aload, jx_rv_r, jx_rv_n, jx_rv_q, xe_inv0, jx_cc_i, jx_cc_v, Nat.reduceMod, Nat.reduceDiv, jx_cl9_i, xe_istore, xk_iload, jx_iv_i, ak_I, xe_iconst, xi_60, xe_icmp_eq, xi_61, xi_62, xi_0, xx_0, xk_getf, jx_gf_i, jx_ov_s, ak_V, xe_inv2, xe_return, xe_inv1, xe_dup, jx_2_i, jx_2_l, jx_2_r, jx_2_n, jx_2_q, or_self, xi_1, xx_1, xe_iadd, xk_putf, ak_P, jx_pf_i, jx_pf_z, jx_pf_l, jx_pf_r, jx_pf_n, jx_pf_q, xe_icmp_ne, xe_goto, xe_goto_w, xe_ifeq, xi_6, xx_6, xi_5, xx_5, xi_4, xx_4, xi_7, xx_7, xi_8, xx_8, jx_s1, List.set_cons_zero, List.set_cons_succ, jx_2_u, jx_2_s, jx_k_i, jx_k_l, jx_k_r, jx_k_n, jx_k_u, jx_k_s, jx_k_q, tw_r, tw_f, tw_s, tw_wo, pN_r, pN_w, pQ_r, pQ_w, tw_w30, tw_w31, tw_w36, va_up_s, hS, s1, c1, c2, c3, m_fails]
/-- what a sign of comparison is to the twin: how much longer than one, and its entry -/
def cmj (tp : Nat → Int32) (M n : Nat) (c : Int32) (j : Nat) (kk : Int32) : Prop := (c = 61 ∧ j = 0 ∧ kk = 6) ∨ (c = 60 ∧ sg tp M (n + 1) = 61 ∧ j = 1 ∧ kk = 5) ∨ (c = 60 ∧ ¬ sg tp M (n + 1) = 61 ∧ j = 0 ∧ kk = 4) ∨ (c = 62 ∧ sg tp M (n + 1) = 61 ∧ j = 1 ∧ kk = 7) ∨ (c = 62 ∧ ¬ sg tp M (n + 1) = 61 ∧ j = 0 ∧ kk = 8)
theorem m_cmp37 {c kk p2 f2 f3 en2 co2 : Int32} {so2 nu2 : Nat → Int32} {j : Nat} {Y : jx_H} (eM : Nb 19 = nI M) (hM : M ≤ 400) (hn : n ≤ 400) (hc : cmj (Qb 29) M n c j kk) (hf : (if co = 60 then flt f 3 (nI n) else f) = f3)
    (hS : jx_cr (d + 9) 78 [.ref 113] (tw h s a E (pN Nb (nI (n + 1 + j)) (f3) (en) (de) (co + 1) (op)) (pQ Qb (so) (nu) (on)) W) = some (.inl none, (tw h s a E (pN Nb (p2) (f2) (en2) (de) (co2) (op)) (pQ Qb (so2) (nu2) (on)) W)))
    (hE : jx_cr (d + 9) 73 [.ref 113, .int kk, .int 0] (tw h s a E (pN Nb (p2) (f2) (en2) (de) (co2) (op)) (pQ Qb (so2) (nu2) (on)) W) = some (.inl none, Y)) :
    jx_eb (d + 9) 79 37 [.ref 113, .int c, jx_un] [] (tw h s a E (pN Nb (nI n) (f) (en) (de) (co) (op)) (pQ Qb (so) (nu) (on)) W) = some (.inl none, Y) := by
  have mc := fun d => m_isCounted (d := d) (h := h) (s := s) (a := a) (E := E) (Nb := Nb) (Qb := Qb) (W := W) (p := nI n) (v := nI n) (f := f) (en := en) (de := de) (co := co) (op := op) (so := so) (nu := nu) (on := on)
  rw [hf] at mc
  have s1 := fun d => m_sign (d := d) (n := n + 1) (h := h) (s := s) (a := a) (E := E) (Nb := Nb) (Qb := Qb) (W := W) (f := f3) (en := en) (de := de) (co := co + 1) (op := op) (so := so) (nu := nu) (on := on) eM hM (by omega)
  have a0 : nI (n + 1) + 0 = nI (n + 1) := Int32.add_zero _
  have o1 : ¬ (1 : Int32) = 0 := by decide
  rcases hc with ⟨q1, q2, q3⟩ | ⟨q1, r, q2, q3⟩ | ⟨q1, r, q2, q3⟩ | ⟨q1, r, q2, q3⟩ | ⟨q1, r, q2, q3⟩ <;> subst q1 <;> subst q2 <;> subst q3
  · rw [Nat.add_zero] at hS
    simp only [eb_79_37, eb_79_74, eb_79_75, eb_79_89, eb_79_90, jx_ns_r, jx_ns_n, jx_ns_q, jx_ns_i, jx_gl_0, jx_gl_s, if_true, if_false, ite_true, ite_false, eq_self, Bool.false_eq_true, List.length_cons, List.length_nil, Nat.zero_le, Nat.reduceAdd, Nat.reduceSub, Nat.reduceLeDiff, Nat.reduceLT, Nat.reduceEqDiff, Int.reduceToNat, reduceIte, xe_aload, jx_rv_r, jx_rv_n, jx_rv_q, xe_inv0, jx_cc_i, jx_cc_v, Nat.reduceMod, Nat.reduceDiv, jx_cl9_i, xe_istore, xk_iload, jx_iv_i, ak_I, xe_iconst, xi_60, xe_icmp_eq, xi_61, xi_62, xi_0, xx_0, xk_getf, jx_gf_i, jx_ov_s, ak_V, xe_inv2, xe_return, xe_inv1, xe_dup, jx_2_i, jx_2_l, jx_2_r, jx_2_n, jx_2_q, or_self, xi_1, xx_1, xe_iadd, xk_putf, ak_P, jx_pf_i, jx_pf_z, jx_pf_l, jx_pf_r, jx_pf_n, jx_pf_q, xe_icmp_ne, xe_goto, xe_goto_w, xe_ifeq, xi_6, xx_6, xi_5, xx_5, xi_4, xx_4, xi_7, xx_7, xi_8, xx_8, jx_s1, List.set_cons_zero, List.set_cons_succ, jx_2_u, jx_2_s, jx_k_i, jx_k_l, jx_k_r, jx_k_n, jx_k_u, jx_k_s, jx_k_q, tw_r, tw_f, tw_s, tw_wo, pN_r, pN_w, pQ_r, pQ_w, tw_w30, tw_w31, tw_w36, va_up_s, mc, nI_1, a0, sg_ne, hS, hE, eb_79_139]
  · simp only [eb_79_37, eb_79_75, eb_79_90, eb_79_110, jx_ns_r, jx_ns_n, jx_ns_q, jx_ns_i, jx_gl_0, jx_gl_s, if_true, if_false, ite_true, ite_false, eq_self, Bool.false_eq_true, List.length_cons, List.length_nil, Nat.zero_le, Nat.reduceAdd, Nat.reduceSub, Nat.reduceLeDiff, Nat.reduceLT, Nat.reduceEqDiff, Int.reduceToNat, reduceIte, xe_aload, jx_rv_r, jx_rv_n, jx_rv_q, xe_inv0, jx_cc_i, jx_cc_v, Nat.reduceMod, Nat.reduceDiv, jx_cl9_i, xe_istore, xk_iload, jx_iv_i, ak_I, xe_iconst, xi_60, xe_icmp_eq, xi_61, xi_62, xi_0, xx_0, xk_getf, jx_gf_i, jx_ov_s, ak_V, xe_inv2, xe_return, xe_inv1, xe_dup, jx_2_i, jx_2_l, jx_2_r, jx_2_n, jx_2_q, or_self, xi_1, xx_1, xe_iadd, xk_putf, ak_P, jx_pf_i, jx_pf_z, jx_pf_l, jx_pf_r, jx_pf_n, jx_pf_q, xe_icmp_ne, xe_goto, xe_goto_w, xe_ifeq, xi_6, xx_6, xi_5, xx_5, xi_4, xx_4, xi_7, xx_7, xi_8, xx_8, jx_s1, List.set_cons_zero, List.set_cons_succ, jx_2_u, jx_2_s, jx_k_i, jx_k_l, jx_k_r, jx_k_n, jx_k_u, jx_k_s, jx_k_q, tw_r, tw_f, tw_s, tw_wo, pN_r, pN_w, pQ_r, pQ_w, tw_w30, tw_w31, tw_w36, va_up_s, mc, s1, r, nI_1, sg_ne, o1, hS, hE, eb_79_139]
  · rw [Nat.add_zero] at hS
    simp only [eb_79_37, eb_79_74, eb_79_75, eb_79_89, eb_79_90, eb_79_110, eb_79_124, jx_ns_r, jx_ns_n, jx_ns_q, jx_ns_i, jx_gl_0, jx_gl_s, if_true, if_false, ite_true, ite_false, eq_self, Bool.false_eq_true, List.length_cons, List.length_nil, Nat.zero_le, Nat.reduceAdd, Nat.reduceSub, Nat.reduceLeDiff, Nat.reduceLT, Nat.reduceEqDiff, Int.reduceToNat, reduceIte, xe_aload, jx_rv_r, jx_rv_n, jx_rv_q, xe_inv0, jx_cc_i, jx_cc_v, Nat.reduceMod, Nat.reduceDiv, jx_cl9_i, xe_istore, xk_iload, jx_iv_i, ak_I, xe_iconst, xi_60, xe_icmp_eq, xi_61, xi_62, xi_0, xx_0, xk_getf, jx_gf_i, jx_ov_s, ak_V, xe_inv2, xe_return, xe_inv1, xe_dup, jx_2_i, jx_2_l, jx_2_r, jx_2_n, jx_2_q, or_self, xi_1, xx_1, xe_iadd, xk_putf, ak_P, jx_pf_i, jx_pf_z, jx_pf_l, jx_pf_r, jx_pf_n, jx_pf_q, xe_icmp_ne, xe_goto, xe_goto_w, xe_ifeq, xi_6, xx_6, xi_5, xx_5, xi_4, xx_4, xi_7, xx_7, xi_8, xx_8, jx_s1, List.set_cons_zero, List.set_cons_succ, jx_2_u, jx_2_s, jx_k_i, jx_k_l, jx_k_r, jx_k_n, jx_k_u, jx_k_s, jx_k_q, tw_r, tw_f, tw_s, tw_wo, pN_r, pN_w, pQ_r, pQ_w, tw_w30, tw_w31, tw_w36, va_up_s, mc, s1, r, nI_1, a0, sg_ne, hS, hE, eb_79_139]
  · simp only [eb_79_37, eb_79_75, eb_79_90, eb_79_110, eb_79_128, jx_ns_r, jx_ns_n, jx_ns_q, jx_ns_i, jx_gl_0, jx_gl_s, if_true, if_false, ite_true, ite_false, eq_self, Bool.false_eq_true, List.length_cons, List.length_nil, Nat.zero_le, Nat.reduceAdd, Nat.reduceSub, Nat.reduceLeDiff, Nat.reduceLT, Nat.reduceEqDiff, Int.reduceToNat, reduceIte, xe_aload, jx_rv_r, jx_rv_n, jx_rv_q, xe_inv0, jx_cc_i, jx_cc_v, Nat.reduceMod, Nat.reduceDiv, jx_cl9_i, xe_istore, xk_iload, jx_iv_i, ak_I, xe_iconst, xi_60, xe_icmp_eq, xi_61, xi_62, xi_0, xx_0, xk_getf, jx_gf_i, jx_ov_s, ak_V, xe_inv2, xe_return, xe_inv1, xe_dup, jx_2_i, jx_2_l, jx_2_r, jx_2_n, jx_2_q, or_self, xi_1, xx_1, xe_iadd, xk_putf, ak_P, jx_pf_i, jx_pf_z, jx_pf_l, jx_pf_r, jx_pf_n, jx_pf_q, xe_icmp_ne, xe_goto, xe_goto_w, xe_ifeq, xi_6, xx_6, xi_5, xx_5, xi_4, xx_4, xi_7, xx_7, xi_8, xx_8, jx_s1, List.set_cons_zero, List.set_cons_succ, jx_2_u, jx_2_s, jx_k_i, jx_k_l, jx_k_r, jx_k_n, jx_k_u, jx_k_s, jx_k_q, tw_r, tw_f, tw_s, tw_wo, pN_r, pN_w, pQ_r, pQ_w, tw_w30, tw_w31, tw_w36, va_up_s, mc, s1, r, nI_1, sg_ne, o1, hS, hE, eb_79_139]
  · rw [Nat.add_zero] at hS
    simp only [eb_79_37, eb_79_74, eb_79_75, eb_79_89, eb_79_90, eb_79_110, eb_79_128, eb_79_137, jx_ns_r, jx_ns_n, jx_ns_q, jx_ns_i, jx_gl_0, jx_gl_s, if_true, if_false, ite_true, ite_false, eq_self, Bool.false_eq_true, List.length_cons, List.length_nil, Nat.zero_le, Nat.reduceAdd, Nat.reduceSub, Nat.reduceLeDiff, Nat.reduceLT, Nat.reduceEqDiff, Int.reduceToNat, reduceIte, xe_aload, jx_rv_r, jx_rv_n, jx_rv_q, xe_inv0, jx_cc_i, jx_cc_v, Nat.reduceMod, Nat.reduceDiv, jx_cl9_i, xe_istore, xk_iload, jx_iv_i, ak_I, xe_iconst, xi_60, xe_icmp_eq, xi_61, xi_62, xi_0, xx_0, xk_getf, jx_gf_i, jx_ov_s, ak_V, xe_inv2, xe_return, xe_inv1, xe_dup, jx_2_i, jx_2_l, jx_2_r, jx_2_n, jx_2_q, or_self, xi_1, xx_1, xe_iadd, xk_putf, ak_P, jx_pf_i, jx_pf_z, jx_pf_l, jx_pf_r, jx_pf_n, jx_pf_q, xe_icmp_ne, xe_goto, xe_goto_w, xe_ifeq, xi_6, xx_6, xi_5, xx_5, xi_4, xx_4, xi_7, xx_7, xi_8, xx_8, jx_s1, List.set_cons_zero, List.set_cons_succ, jx_2_u, jx_2_s, jx_k_i, jx_k_l, jx_k_r, jx_k_n, jx_k_u, jx_k_s, jx_k_q, tw_r, tw_f, tw_s, tw_wo, pN_r, pN_w, pQ_r, pQ_w, tw_w30, tw_w31, tw_w36, va_up_s, mc, s1, r, nI_1, a0, sg_ne, hS, hE, eb_79_139]
theorem cmj_v {tp : Nat → Int32} {n : Nat} {c : Int32} (hb : tb tp) (hc : c = 60 ∨ c = 61 ∨ c = 62) : ∃ j kk, cmj tp M n c j kk := by
  by_cases r : sg tp M (n + 1) = 61
  · rcases hc with q | q | q
    · exact ⟨1, 5, .inr (.inl ⟨q, r, rfl, rfl⟩)⟩
    · exact ⟨0, 6, .inl ⟨q, rfl, rfl⟩⟩
    · exact ⟨1, 7, .inr (.inr (.inr (.inl ⟨q, r, rfl, rfl⟩)))⟩
  · rcases hc with q | q | q
    · exact ⟨0, 4, .inr (.inr (.inl ⟨q, r, rfl, rfl⟩))⟩
    · exact ⟨0, 6, .inl ⟨q, rfl, rfl⟩⟩
    · exact ⟨0, 8, .inr (.inr (.inr (.inr ⟨q, r, rfl, rfl⟩)))⟩
theorem cmj_b {tp : Nat → Int32} {n j : Nat} {c kk : Int32} (hn : n < M) (hc : cmj tp M n c j kk) : n + 1 + j ≤ M ∧ j ≤ 1 ∧ ¬ kk = 0 ∧ ¬ kk = 1 ∧ ¬ kk = 9 ∧ (c = 60 ∨ c = 61 ∨ c = 62) := by
  have lt : sg tp M (n + 1) = 61 → n + 1 < M := fun z => sg_lt (fun y => by rw [z] at y; exact absurd y (by decide))
  rcases hc with ⟨q1, q2, q3⟩ | ⟨q1, r, q2, q3⟩ | ⟨q1, r, q2, q3⟩ | ⟨q1, r, q2, q3⟩ | ⟨q1, r, q2, q3⟩ <;> subst q1 <;> subst q2 <;> subst q3
  · exact ⟨by omega, by omega, by decide, by decide, by decide, by decide⟩
  · have := lt r; exact ⟨by omega, by omega, by decide, by decide, by decide, by decide⟩
  · exact ⟨by omega, by omega, by decide, by decide, by decide, by decide⟩
  · have := lt r; exact ⟨by omega, by omega, by decide, by decide, by decide, by decide⟩
  · exact ⟨by omega, by omega, by decide, by decide, by decide, by decide⟩
/-- the component's sign is the twin's -/
theorem sgn_c {tp : Nat → Int32} {n m2 : Nat} {v : Int32} (hb : tb tp) (hk : skp tp M n = n) (e : sgn tp M n = .inr (v, m2)) : ∃ c j kk, sg tp M n = c ∧ cmj tp M n c j kk ∧ m2 = n + 1 + j ∧ n < M ∧ ∀ x y, bov kk x y = if cmv v x y = true then 1 else 0 := by
  have nt : (nI 0).toInt = 0 := rfl
  have bt : (n + 1 < M ∧ tp (n + 1) = 61) ↔ sg tp M (n + 1) = 61 := by
    by_cases r : n + 1 < M
    · rw [sg, if_pos r]
      exact ⟨fun z => ((tb_v (hb (n + 1))).1 61 (by omega)).mpr z.2, fun z => ⟨r, ((tb_v (hb (n + 1))).1 61 (by omega)).mp z⟩⟩
    · rw [sg, if_neg r]
      exact ⟨fun z => absurd z.1 r, fun z => absurd z (by decide)⟩
  have lt : ∀ c, sg tp M n = c → ¬ c = -1 → n < M := fun c z y => sg_lt (fun x => y (z.symm.trans x))
  have cc : ∀ x y : Int64, cmv 2 x y = decide (x = y) ∧ cmv 1 x y = decide (x ≤ y) ∧ cmv 0 x y = decide (x < y) ∧ cmv 3 x y = decide (y ≤ x) ∧ cmv 4 x y = decide (y < x) := fun x y => ⟨rfl, rfl, rfl, rfl, rfl⟩
  have bb : ∀ x y : Int64, bov 6 x y = (if x = y then 1 else 0) ∧ bov 5 x y = (if x ≤ y then 1 else 0) ∧ bov 4 x y = (if x < y then 1 else 0) ∧ bov 7 x y = (if y ≤ x then 1 else 0) ∧ bov 8 x y = (if y < x then 1 else 0) := fun x y => ⟨rfl, rfl, rfl, rfl, rfl⟩
  rw [sgn, hk] at e
  by_cases c1 : sg tp M n = 61
  · rw [if_pos c1] at e
    cases e
    refine ⟨61, 0, 6, c1, .inl ⟨rfl, rfl, rfl⟩, rfl, lt _ c1 (by decide), fun x y => ?_⟩
    rw [(cc x y).1, (bb x y).1]; simp only [decide_eq_true_eq]
  · rw [if_neg c1] at e
    by_cases c2 : sg tp M n = 60
    · rw [if_pos c2] at e
      by_cases r : n + 1 < M ∧ tp (n + 1) = 61
      · rw [if_pos r] at e
        cases e
        refine ⟨60, 1, 5, c2, .inr (.inl ⟨rfl, bt.mp r, rfl, rfl⟩), rfl, lt _ c2 (by decide), fun x y => ?_⟩
        rw [(cc x y).2.1, (bb x y).2.1]; simp only [decide_eq_true_eq]
      · rw [if_neg r] at e
        cases e
        refine ⟨60, 0, 4, c2, .inr (.inr (.inl ⟨rfl, mt bt.mpr r, rfl, rfl⟩)), rfl, lt _ c2 (by decide), fun x y => ?_⟩
        rw [(cc x y).2.2.1, (bb x y).2.2.1]; simp only [decide_eq_true_eq]
    · rw [if_neg c2] at e
      by_cases c3 : sg tp M n = 62
      · rw [if_pos c3] at e
        by_cases r : n + 1 < M ∧ tp (n + 1) = 61
        · rw [if_pos r] at e
          cases e
          refine ⟨62, 1, 7, c3, .inr (.inr (.inr (.inl ⟨rfl, bt.mp r, rfl, rfl⟩))), rfl, lt _ c3 (by decide), fun x y => ?_⟩
          rw [(cc x y).2.2.2.1, (bb x y).2.2.2.1]; simp only [decide_eq_true_eq]
        · rw [if_neg r] at e
          cases e
          refine ⟨62, 0, 8, c3, .inr (.inr (.inr (.inr ⟨rfl, mt bt.mpr r, rfl, rfl⟩))), rfl, lt _ c3 (by decide), fun x y => ?_⟩
          rw [(cc x y).2.2.2.2, (bb x y).2.2.2.2]; simp only [decide_eq_true_eq]
      · rw [if_neg c3] at e
        cases e
theorem sgn_e {tp : Nat → Int32} {n : Nat} {er : Nat × Nat} (hk : skp tp M n = n) (e : sgn tp M n = .inl er) : er = (0, n) ∧ ¬ sg tp M n = 60 ∧ ¬ sg tp M n = 61 ∧ ¬ sg tp M n = 62 := by
  rw [sgn, hk] at e
  by_cases c1 : sg tp M n = 61
  · rw [if_pos c1] at e; cases e
  · rw [if_neg c1] at e
    by_cases c2 : sg tp M n = 60
    · rw [if_pos c2] at e
      split at e <;> cases e
    · rw [if_neg c2] at e
      by_cases c3 : sg tp M n = 62
      · rw [if_pos c3] at e
        split at e <;> cases e
      · rw [if_neg c3] at e
        cases e
        exact ⟨rfl, c2, c1, c3⟩
theorem m_compared_f (hf : ¬ f = 0) (hs : ss_ok h) (eM : Nb 19 = nI M) (hM : M ≤ 400) (hb : tb (Qb 29)) (e28 : Nb 28 = 12) (hn : n ≤ M) {p2 en2 co2 : Int32} {so2 nu2 : Nat → Int32} {f0 : Int32}
    (hS : jx_cr (d + 9) 78 [.ref 113] (tw h s a E (pN Nb (p) (f0) (en) (de) (co) (op)) (pQ Qb (so) (nu) (on)) W) = some (.inl none, (tw h s a E (pN Nb (nI n) (f) (en2) (de) (co2) (op)) (pQ Qb (so2) (nu2) (on)) W))) :
    ∃ n3 co3, n3 ≤ M ∧ jx_cr (d + 10) 79 [.ref 113] (tw h s a E (pN Nb (p) (f0) (en) (de) (co) (op)) (pQ Qb (so) (nu) (on)) W) = some (.inl none, (tw h s a E (pN Nb (nI n3) (f) (en2) (de) (co3) (op)) (pQ Qb (so2) (nu2) (on)) W)) := by
  by_cases hc : sg (Qb 29) M n = 60 ∨ sg (Qb 29) M n = 61 ∨ sg (Qb 29) M n = 62
  · have lt : n < M := sg_lt (fun z => by rw [z] at hc; revert hc; decide)
    obtain ⟨j, kk, cj⟩ := cmj_v (M := M) (n := n) hb hc
    have cb := cmj_b lt cj
    obtain ⟨n3, co3, b1, b2⟩ := m_sum_f (d := d) (h := h) (s := s) (a := a) (E := E) (Nb := Nb) (Qb := Qb) (W := W) (n := n + 1 + j) (f := f) (en := en2) (de := de) (co := co2 + 1) (op := op) (so := so2) (nu := nu2) (on := on) hf hs eM hM hb e28 cb.1
    refine ⟨n3, co3, b1, ?_⟩
    rw [m_cmp0 (h := h) (s := s) (a := a) (E := E) (Nb := Nb) (Qb := Qb) (W := W) eM hM (by omega) hc rfl hS]
    exact m_cmp37 (h := h) (s := s) (a := a) (E := E) (Nb := Nb) (Qb := Qb) (W := W) eM hM (by omega) cj (by rw [flt_n hf, ite_self]) b2 (m_entry0 (h := h) (s := s) (a := a) (E := E) (Nb := Nb) (Qb := Qb) (W := W) hf)
  · refine ⟨n, co2, hn, ?_⟩
    rw [m_cmp0n (h := h) (s := s) (a := a) (E := E) (Nb := Nb) (Qb := Qb) (W := W) eM hM (by omega) (fun z => hc (.inl z)) (fun z => hc (.inr (.inl z))) (fun z => hc (.inr (.inr z))) hS, flt_n hf]
/-- rows that are alike below the place -/
def rlo (b : Nat) (so nu so2 nu2 : Nat → Int32) : Prop := ∀ k, k < b → so2 k = so k ∧ nu2 k = nu k
theorem rlo_refl {b : Nat} : rlo b so nu so nu := fun _ _ => ⟨rfl, rfl⟩
theorem rlo_tr {b : Nat} {so2 nu2 so3 nu3 : Nat → Int32} (x : rlo b so nu so2 nu2) (y : rlo b so2 nu2 so3 nu3) : rlo b so nu so3 nu3 := fun k hk => ⟨(y k hk).1.trans (x k hk).1, (y k hk).2.trans (x k hk).2⟩
theorem rlo_apr {b e : Nat} {l : List (Int32 × Int32)} : rlo b so nu (apr so (b + e) (l.map Prod.fst)) (apr nu (b + e) (l.map Prod.snd)) := fun k hk => ⟨apr_lo _ _ _ _ (.inl (by omega)), apr_lo _ _ _ _ (.inl (by omega))⟩
theorem rlo_upd {b e : Nat} {v1 v2 : Int32} : rlo b so nu (upd so (b + e) v1) (upd nu (b + e) v2) := fun k hk => ⟨if_neg (by omega), if_neg (by omega)⟩
theorem m_compared (hs : ss_ok h) (eM : Nb 19 = nI M) (hM : M ≤ 400) (hb : tb (Qb 29)) (e28 : Nb 28 = 12) (esl : Nb 22 = nI sl) (hsl : sl < 6) {e : Nat} (hn : n ≤ M) (hg : g ≤ 60) (he : 2 * e ≤ n + 2 * g) :
    (∀ k pl, cmpr (Qb 29) M n g = .inl (k, pl) → ∃ (n2 : Nat) (en2 co2 : Int32) (so2 nu2 : Nat → Int32), n2 ≤ M ∧ rlo (300 * sl) so nu so2 nu2 ∧ jx_cr (d + 10) 79 [.ref 113] (tw h s a E (pN Nb (nI n) (0) (nI e) (de) (nI g) (op)) (pQ Qb (so) (nu) (on)) W) = some (.inl none, (tw h s a E (pN Nb (nI n2) (1 + 8 * nI pl + nI k) (en2) (de) (co2) (op)) (pQ Qb (so2) (nu2) (on)) W))) ∧
    (∀ B m g2, cmpr (Qb 29) M n g = .inr (B, m, g2) → ∃ l : List (Int32 × Int32), (∀ w st, evs w l st = (if B w = true then 1 else 0) :: st) ∧ 2 * l.length + 1 ≤ (m - n) + 2 * (g2 - g) ∧ jx_cr (d + 10) 79 [.ref 113] (tw h s a E (pN Nb (nI n) (0) (nI e) (de) (nI g) (op)) (pQ Qb (so) (nu) (on)) W) = some (.inl none, (tw h s a E (pN Nb (nI m) (0) (nI (e + l.length)) (de) (nI g2) (op)) (pQ Qb (apr so (300 * sl + e) (l.map Prod.fst)) (apr nu (300 * sl + e) (l.map Prod.snd)) (on)) W))) := by
  have vv := m_sum (d := d) (h := h) (s := s) (a := a) (E := E) (Nb := Nb) (Qb := Qb) (W := W) (sl := sl) (n := n) (g := g) (e := e) (de := de) (op := op) (so := so) (nu := nu) (on := on) hs eM hM hb e28 esl hsl hn hg he
  rw [cmpr]
  cases hV : sm (Qb 29) M n g with
  | inl er =>
    refine ⟨fun k pl hk => ?_, fun B m2 g2 hk => (by cases hk)⟩
    cases hk
    obtain ⟨n2, co2, l1, b1, b0, b2⟩ := vv.1 _ _ hV
    have fb := sm_f (tp := Qb 29) hn hV
    have fz : ¬ (1 + 8 * nI pl + nI k : Int32) = 0 := flt_z fb.1 (by omega)
    obtain ⟨n3, co3, y1, y2⟩ := m_compared_f (h := h) (s := s) (a := a) (E := E) (Nb := Nb) (Qb := Qb) (W := W) fz hs eM hM hb e28 b1 b2
    exact ⟨n3, _, co3, _, _, y1, rlo_apr, y2⟩
  | inr X =>
    obtain ⟨L1, m, g1⟩ := X
    obtain ⟨l1, b1, b2, b3⟩ := vv.2 _ _ _ hV
    have bb := sm_b (tp := Qb 29) hn hV
    have bs := sm_s (tp := Qb 29) hn hV
    dsimp only
    cases hW : sgn (Qb 29) M m with
    | inl er =>
      obtain ⟨q1, q2, q3, q4⟩ := sgn_e bs hW
      subst q1
      refine ⟨fun k pl hk => ?_, fun B m2 g2 hk => (by cases hk)⟩
      cases hk
      refine ⟨m, _, _, _, _, bb.2.1, rlo_apr (e := e) (l := l1), ?_⟩
      rw [m_cmp0n (h := h) (s := s) (a := a) (E := E) (Nb := Nb) (Qb := Qb) (W := W) eM hM (by omega) q2 q3 q4 b3, flt_0]
      rfl
    | inr Y =>
      obtain ⟨v, m2⟩ := Y
      obtain ⟨c, j, kk, q1, q2, q3, q4, q5⟩ := sgn_c hb bs hW
      have cb := cmj_b q4 q2
      subst q3
      dsimp only
      have c0 := m_cmp0 (h := h) (s := s) (a := a) (E := E) (Nb := Nb) (Qb := Qb) (W := W) eM hM (show m ≤ 500 by omega) cb.2.2.2.2.2 q1 b3
      rw [c0, bs]
      by_cases g6 : g1 < 60
      · have n60 : ¬ nI g1 = 60 := fun z => by
          have := (nI_eq (a := g1) (b := 60) (by omega) (by omega)).mp z
          omega
        rw [if_pos g6]
        have v2 := m_sum (d := d) (h := h) (s := s) (a := a) (E := E) (Nb := Nb) (Qb := Qb) (W := W) (sl := sl) (n := m + 1 + j) (g := g1 + 1) (e := e + l1.length) (de := de) (op := op) (so := apr so (300 * sl + e) (l1.map Prod.fst)) (nu := apr nu (300 * sl + e) (l1.map Prod.snd)) (on := on) hs eM hM hb e28 esl hsl cb.1 (by omega) (by omega)
        rw [← nI_1] at v2
        cases hV2 : sm (Qb 29) M (m + 1 + j) (g1 + 1) with
        | inl er =>
          refine ⟨fun k pl hk => ?_, fun B m2 g2 hk => (by cases hk)⟩
          cases hk
          obtain ⟨n2, co2, l2, y1, y0, y2⟩ := v2.1 _ _ hV2
          have fb := sm_f (tp := Qb 29) cb.1 hV2
          have fz : ¬ (1 + 8 * nI pl + nI k : Int32) = 0 := flt_z fb.1 (by omega)
          refine ⟨n2, _, co2, _, _, y1, ?_, m_cmp37 (h := h) (s := s) (a := a) (E := E) (Nb := Nb) (Qb := Qb) (W := W) eM hM (by omega) q2 (if_neg n60) y2 (m_entry0 (h := h) (s := s) (a := a) (E := E) (Nb := Nb) (Qb := Qb) (W := W) fz)⟩
          rw [show 300 * sl + (e + l1.length) = 300 * sl + e + l1.length by omega]
          exact rlo_tr rlo_apr (fun k hk => ⟨apr_lo _ _ _ _ (.inl (by omega)), apr_lo _ _ _ _ (.inl (by omega))⟩)
        | inr Z =>
          obtain ⟨L2, m3, g3⟩ := Z
          refine ⟨fun k pl hk => (by cases hk), fun B m2 g2 hk => ?_⟩
          cases hk
          obtain ⟨l2, y1, y2, y3⟩ := v2.2 _ _ _ hV2
          have b4 := sm_b (tp := Qb 29) cb.1 hV2
          refine ⟨l1 ++ l2 ++ [(kk, 0)], fun w st => ?_, ?_, ?_⟩
          · rw [evs_app, evs_app, b1, y1]
            show ev1 w kk 0 (L2 w :: L1 w :: st) = _
            rw [ev1_op cb.2.2.1 cb.2.2.2.1 cb.2.2.2.2.1, q5]
          · rw [List.length_append, List.length_append, List.length_singleton]; omega
          · rw [m_cmp37 (h := h) (s := s) (a := a) (E := E) (Nb := Nb) (Qb := Qb) (W := W) eM hM (by omega) q2 (if_neg n60) y3 (m_entry1 (h := h) (s := s) (a := a) (E := E) (Nb := Nb) (Qb := Qb) (W := W) esl hsl (by omega))]
            rw [apr_j2, apr_j2, show e + l1.length + l2.length = e + (l1 ++ l2).length from len_j2]
            rw [List.map_append, List.map_append, apr_app, apr_app, List.length_map, List.length_map, List.length_append (bs := [(kk, 0)]), List.length_singleton, show 300 * sl + (e + (l1 ++ l2).length) = 300 * sl + e + (l1 ++ l2).length by omega]
            rfl
      · have g60 : g1 = 60 := by omega
        subst g60
        have k3 : nI 3 = 3 := rfl
        have f3 : ¬ (1 + 8 * nI m + 3 : Int32) = 0 := flt_z (k := 3) (by omega) (by omega)
        rw [if_neg g6]
        refine ⟨fun k pl hk => ?_, fun B m2 g2 hk => (by cases hk)⟩
        cases hk
        obtain ⟨n3, co3, y1, y2⟩ := m_sum_f (d := d) (h := h) (s := s) (a := a) (E := E) (Nb := Nb) (Qb := Qb) (W := W) (n := m + 1 + j) (f := 1 + 8 * nI m + 3) (en := nI (e + l1.length)) (de := de) (co := nI 60 + 1) (op := op) (so := apr so (300 * sl + e) (l1.map Prod.fst)) (nu := apr nu (300 * sl + e) (l1.map Prod.snd)) (on := on) f3 hs eM hM hb e28 cb.1
        refine ⟨n3, _, co3, _, _, y1, rlo_apr (e := e) (l := l1), ?_⟩
        rw [k3]
        exact m_cmp37 (h := h) (s := s) (a := a) (E := E) (Nb := Nb) (Qb := Qb) (W := W) eM hM (by omega) q2 (by rw [if_pos rfl, flt_0]) y2 (m_entry0 (h := h) (s := s) (a := a) (E := E) (Nb := Nb) (Qb := Qb) (W := W) f3)
end PLY
