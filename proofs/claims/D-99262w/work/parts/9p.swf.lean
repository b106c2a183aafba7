/-! THE TWIN'S PARSER: terms -/
set_option maxRecDepth 100000
section PLT
variable {d : Nat} {h : jx_H} {s : Nat → Int32} {a : Nat → Nat → Int32} {E Nb : Nat → Int32} {Qb : Nat → Nat → Int32} {W : Nat → Nat → Int64} {n M g sl i k : Nat} {p f en de co op v l : Int32} {so nu on : Nat → Int32}
/-- the kind of an operation by its sign -/
def opk (v : Int32) : Int32 := if v = 43 then 2 else if v = 45 then 3 else if v = 42 then 13 else if v = 47 then 14 else 15
theorem opk_v {v : Int32} {x y : Int64} (h : v = 43 ∨ v = 45 ∨ v = 42 ∨ v = 47 ∨ v = 37) : bov (opk v) x y = prv v x y := by
  rcases h with q | q | q | q | q <;> subst q <;> rfl
theorem ev1_op {w : Nat → Int64} {k v : Int32} {x y : Int64} {st : List Int64} (h0 : ¬ k = 0) (h1 : ¬ k = 1) (h9 : ¬ k = 9) : ev1 w k v (y :: x :: st) = bov k x y :: st := by
  unfold ev1
  rw [if_neg h0, if_neg h1, if_neg h9]
theorem opk_n {v : Int32} : ¬ opk v = 0 ∧ ¬ opk v = 1 ∧ ¬ opk v = 9 := by
  unfold opk
  split
  · decide
  · split
    · decide
    · split
      · decide
      · split <;> decide
theorem m_term_f (hf : ¬ f = 0) (hs : ss_ok h) (eM : Nb 19 = nI M) (hM : M ≤ 400) (hb : tb (Qb 29)) (e28 : Nb 28 = 12) (hn : n ≤ M) : ∃ n2 co2, n2 ≤ M ∧ jx_cr (d + 8) 77 [.ref 113] (tw h s a E (pN Nb (nI n) (f) (en) (de) (co) (op)) (pQ Qb (so) (nu) (on)) W) = some (.inl none, (tw h s a E (pN Nb (nI n2) (f) (en) (de) (co2) (op)) (pQ Qb (so) (nu) (on)) W)) := by
  obtain ⟨n2, co2, h2, e2⟩ := m_value_f (d := d) (h := h) (s := s) (a := a) (E := E) (Nb := Nb) (Qb := Qb) (W := W) (f := f) (en := en) (de := de) (co := co) (op := op) (so := so) (nu := nu) (on := on) hf hs eM hM hb e28 hn
  have s1 := fun d => m_blanks (d := d) (n := n2) (h := h) (s := s) (a := a) (E := E) (Nb := Nb) (Qb := Qb) (W := W) (f := f) (en := en) (de := de) (co := co2) (op := op) (so := so) (nu := nu) (on := on) eM hM hb (by omega)
  refine ⟨skp (Qb 29) M n2, co2, skp_le h2, ?_⟩
  simp only [cr_77, eb_77_0, eb_77_8, eb_77_100, jx_ns_r, jx_ns_n, jx_ns_q, jx_ns_i, jx_gl_0, jx_gl_s, if_true, if_false, ite_true, ite_false, eq_self, Bool.false_eq_true, List.length_cons, List.length_nil, Nat.zero_le, Nat.reduceAdd, Nat.reduceSub, Nat.reduceLeDiff, Nat.reduceLT, Nat.reduceEqDiff, Int.reduceToNat, reduceIte, xe_aload, jx_rv_r, jx_rv_n, jx_rv_q, xe_inv0, jx_cc_i, jx_cc_v, Nat.reduceMod, Nat.reduceDiv, jx_cl9_i, xe_goto_w, xk_getf, jx_gf_i, jx_ov_s, ak_V, xe_ifne, xe_iconst, xi_42, xe_icmp_eq, xi_47, xi_37, xe_icmp_ne, xi_13, xx_13, xe_goto, xi_14, xx_14, xi_15, xx_15, xe_istore, xe_dup, jx_2_i, jx_2_l, jx_2_r, jx_2_n, jx_2_q, or_self, xi_1, xx_1, xe_iadd, xk_putf, ak_P, jx_pf_i, jx_pf_z, jx_pf_l, jx_pf_r, jx_pf_n, jx_pf_q, xk_iload, jx_iv_i, ak_I, xi_0, xx_0, xe_inv2, xe_return, jx_s1, List.set_cons_zero, List.set_cons_succ, jx_2_u, jx_2_s, jx_k_i, jx_k_l, jx_k_r, jx_k_n, jx_k_u, jx_k_s, jx_k_q, tw_r, tw_f, tw_s, tw_wo, pN_r, pN_w, pQ_r, pQ_w, tw_w30, tw_w31, tw_w36, va_up_s, e2, s1, hf]
theorem m_sum_f (hf : ¬ f = 0) (hs : ss_ok h) (eM : Nb 19 = nI M) (hM : M ≤ 400) (hb : tb (Qb 29)) (e28 : Nb 28 = 12) (hn : n ≤ M) : ∃ n2 co2, n2 ≤ M ∧ jx_cr (d + 9) 78 [.ref 113] (tw h s a E (pN Nb (nI n) (f) (en) (de) (co) (op)) (pQ Qb (so) (nu) (on)) W) = some (.inl none, (tw h s a E (pN Nb (nI n2) (f) (en) (de) (co2) (op)) (pQ Qb (so) (nu) (on)) W)) := by
  obtain ⟨n2, co2, h2, e2⟩ := m_term_f (d := d) (h := h) (s := s) (a := a) (E := E) (Nb := Nb) (Qb := Qb) (W := W) (f := f) (en := en) (de := de) (co := co) (op := op) (so := so) (nu := nu) (on := on) hf hs eM hM hb e28 hn
  refine ⟨n2, co2, h2, ?_⟩
  simp only [cr_78, eb_78_0, eb_78_4, eb_78_67, jx_ns_r, jx_ns_n, jx_ns_q, jx_ns_i, jx_gl_0, jx_gl_s, if_true, if_false, ite_true, ite_false, eq_self, Bool.false_eq_true, List.length_cons, List.length_nil, Nat.zero_le, Nat.reduceAdd, Nat.reduceSub, Nat.reduceLeDiff, Nat.reduceLT, Nat.reduceEqDiff, Int.reduceToNat, reduceIte, xe_aload, jx_rv_r, jx_rv_n, jx_rv_q, xe_inv0, jx_cc_i, jx_cc_v, Nat.reduceMod, Nat.reduceDiv, jx_cl9_i, xe_goto_w, xk_getf, jx_gf_i, jx_ov_s, ak_V, xe_ifne, xe_iconst, xi_43, xe_icmp_eq, xi_45, xe_icmp_ne, xi_2, xx_2, xe_goto, xi_3, xx_3, xe_istore, xe_dup, jx_2_i, jx_2_l, jx_2_r, jx_2_n, jx_2_q, or_self, xi_1, xx_1, xe_iadd, xk_putf, ak_P, jx_pf_i, jx_pf_z, jx_pf_l, jx_pf_r, jx_pf_n, jx_pf_q, xk_iload, jx_iv_i, ak_I, xi_0, xx_0, xe_inv2, xe_return, jx_s1, List.set_cons_zero, List.set_cons_succ, jx_2_u, jx_2_s, jx_k_i, jx_k_l, jx_k_r, jx_k_n, jx_k_u, jx_k_s, jx_k_q, tw_r, tw_f, tw_s, tw_wo, pN_r, pN_w, pQ_r, pQ_w, tw_w30, tw_w31, tw_w36, va_up_s, e2, hf]
end PLT
