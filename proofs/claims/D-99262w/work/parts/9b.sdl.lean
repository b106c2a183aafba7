/-! TEXTS: what a rule answers -/
set_option maxRecDepth 100000
abbrev Cl := ((Nat → Int64) → Int64) × Option ((Nat → Int64) → Bool)
/-- the cell c, of lo .. hi, is the clause C -/
def clv (H : jx_H) (lo hi c : Nat) (C : Cl) : Prop := (lo ≤ c ∧ c < hi) ∧ ∃ s tv, H.1 c = .inr (6, [.ref s, va_rf tv]) ∧ dv H lo hi s C.1 ∧ match C.2, tv with | none, none => True | some B, some r => dt H lo hi r B | _, _ => False
/-- what the clauses come to -/
def rlw : List Cl → (Nat → Int64) → Int64
  | [], _ => 0
  | C :: cs, w => match C.2 with
    | none => C.1 w
    | some B => if B w = true then C.1 w else rlw cs w
section SDL
variable {H H2 : jx_H} {lo hi lo2 hi2 c r a u : Nat} {C : Cl} {cs : List Cl} {ar : Nat → Option Nat}
theorem clv_mono (h : clv H lo hi c C) (h1 : 3 ≤ lo2) (h2 : lo2 ≤ lo) (h3 : hi ≤ hi2) (e : ∀ j, lo ≤ j → j < hi → H2.1 j = H.1 j) : clv H2 lo2 hi2 c C := by
  obtain ⟨⟨a1, a2⟩, s, tv, b1, b2, b3⟩ := h
  refine ⟨⟨by omega, by omega⟩, s, tv, (e c a1 a2).trans b1, dv_mono b2 h1 h2 h3 e, ?_⟩
  obtain ⟨L, Bo⟩ := C
  cases Bo <;> cases tv <;> first | exact b3 | exact dt_mono b3 h1 h2 h3 e
theorem rlw_e (hc : ∀ C ∈ cs, (∀ w w', (∀ i, i < 12 → w i = w' i) → C.1 w = C.1 w') ∧ ∀ B, C.2 = some B → ∀ w w', (∀ i, i < 12 → w i = w' i) → B w = B w') : ∀ w w', (∀ i, i < 12 → w i = w' i) → rlw cs w = rlw cs w' := by
  intro w w' hw
  induction cs with
  | nil => rfl
  | cons C cs ih =>
    have h1 := hc C (List.mem_cons_self ..)
    have h2 := ih (fun C' hC' => hc C' (List.mem_cons_of_mem _ hC'))
    obtain ⟨L, Bo⟩ := C
    cases Bo with
    | none => exact h1.1 w w' hw
    | some B =>
      simp only [rlw]
      have e1 : L w = L w' := h1.1 w w' hw
      rw [h1.2 B rfl w w' hw, e1, h2]
theorem clv_e (h : clv H lo hi c C) : (∀ w w', (∀ i, i < 12 → w i = w' i) → C.1 w = C.1 w') ∧ ∀ B, C.2 = some B → ∀ w w', (∀ i, i < 12 → w i = w' i) → B w = B w' := by
  obtain ⟨_, s, tv, _, b2, b3⟩ := h
  refine ⟨b2.2.1, fun B hB => ?_⟩
  obtain ⟨L, Bo⟩ := C
  cases hB
  cases tv with
  | none => exact b3.elim
  | some r => exact b3.2.1
/-- the clauses of a rule: the rule at r, its row at a -/
def rul (H : jx_H) (lo hi r a : Nat) (cs : List Cl) : Prop := (3 ≤ lo ∧ lo ≤ r ∧ r < hi) ∧ (lo ≤ a ∧ a < hi) ∧ cs.length ≤ 12 ∧ H.1 r = .inr (5, [.ref a, .int (nI cs.length)]) ∧ ∃ ar : Nat → Option Nat, H.1 a = .inl (6, 12, .inr (.inr (.inr (.inr ar)))) ∧ ∀ k C, cs[k]? = some C → ∃ c, ar k = some c ∧ clv H (lo + 2) hi c C
theorem Clause_fits (h : clv H lo hi c C) {d k : Nat} {w : Nat → Int64} (hw : H.1 k = .inl (2, 12, .inr (.inl w))) : jx_cr (d + (hi - lo) + 1) 163 [.ref c, .ref k] H = some (.inl (some (.int (match C.2 with | none => 1 | some B => if B w = true then 1 else 0))), H) := by
  obtain ⟨⟨a1, a2⟩, s, tv, b1, b2, b3⟩ := h
  obtain ⟨L, Bo⟩ := C
  cases Bo with
  | none => cases tv with
    | none => simp only [cr_163 jx_ns_r, eb_163_0, eb_163_18, eb_163_22, eb_163_23, jx_ns_r, jx_ns_n, jx_ns_q, jx_ns_i, jx_gl_0, jx_gl_s, if_true, if_false, ite_true, ite_false, eq_self, Bool.false_eq_true, List.length_cons, List.length_nil, Nat.zero_le, Nat.reduceAdd, Nat.reduceSub, Nat.reduceLeDiff, Nat.reduceLT, Nat.reduceEqDiff, Int.reduceToNat, reduceIte, xe_aload, jx_rv_r, jx_rv_n, jx_rv_q, xk_getf, jx_gf_i, jx_ov_s, ak_V, xe_ifnull_n, xe_ifnull_r, xk_dsp1, jx_cl8_i, jx_cc_i, jx_cc_v, ak_D, Nat.reduceMod, Nat.reduceDiv, xe_ifeq, xe_goto_w, xe_iconst, xi_1, xx_1, xe_goto, xi_0, xx_0, xe_zreturn, xZ, b1, va_rf, List.getElem?_cons_zero, List.getElem?_cons_succ, xZ]
    | some r => exact b3.elim
  | some B => cases tv with
    | none => exact b3.elim
    | some r =>
      obtain ⟨⟨g1, g2, g3⟩, hE, ci, f, k1, k2, k3⟩ := b3
      have v := k3 H (fun j _ _ => rfl) d k w hw
      show jx_cr _ _ _ _ = some (.inl (some (.int (if B w = true then 1 else 0))), H)
      have r3 : 3 ≤ r := by omega
      cases hB : B w <;> rw [hB] at v <;> simp only [Bool.false_eq_true, if_false, if_true] at v ⊢ <;> simp only [cr_163 jx_ns_r, eb_163_0, eb_163_18, eb_163_22, eb_163_23, jx_ns_r, jx_ns_n, jx_ns_q, jx_ns_i, jx_gl_0, jx_gl_s, if_true, if_false, ite_true, ite_false, eq_self, Bool.false_eq_true, List.length_cons, List.length_nil, Nat.zero_le, Nat.reduceAdd, Nat.reduceSub, Nat.reduceLeDiff, Nat.reduceLT, Nat.reduceEqDiff, Int.reduceToNat, reduceIte, xe_aload, jx_rv_r, jx_rv_n, jx_rv_q, xk_getf, jx_gf_i, jx_ov_s, ak_V, xe_ifnull_n, xe_ifnull_r, xk_dsp1, jx_cl8_i, jx_cc_i, jx_cc_v, ak_D, Nat.reduceMod, Nat.reduceDiv, xe_ifeq, xe_goto_w, xe_iconst, xi_1, xx_1, xe_goto, xi_0, xx_0, xe_zreturn, xZ, b1, va_rf, List.getElem?_cons_zero, List.getElem?_cons_succ, xZ, k1, v, r3, sp_10]
theorem Rule_summed (h : rul H lo hi r a cs) {d k : Nat} {w : Nat → Int64} (hw : H.1 k = .inl (2, 12, .inr (.inl w))) : jx_cr (d + (hi - lo) + 2) 191 [.ref r, .ref k] H = some (.inl (some (.long (rlw cs w))), H) := by
  obtain ⟨⟨a1, a2, a3⟩, ⟨a4, a5⟩, a6, b1, ar, b2, b3⟩ := h
  have l := jx_lp (d := d + (hi - lo) + 1) (y := 191) (L := 2) (n := cs.length) (γ := Unit) (ls := fun j _ => [.ref r, .ref k, .int (nI j)]) (H := fun _ _ => H)
    (I := fun j _ => rlw cs w = rlw (cs.drop j) w)
    (G := fun R => R = some (.inl (some (.long (rlw cs w))), H)) ?_ ?_ cs.length 0 () (by omega) rfl
  · rw [nI_0] at l
    simp only [cr_191 jx_ns_r, eb_191_0, jx_ns_r, jx_ns_n, jx_ns_q, jx_ns_i, jx_gl_0, jx_gl_s, if_true, if_false, ite_true, ite_false, eq_self, Bool.false_eq_true, List.length_cons, List.length_nil, Nat.zero_le, Nat.reduceAdd, Nat.reduceSub, Nat.reduceLeDiff, Nat.reduceLT, Nat.reduceEqDiff, Int.reduceToNat, reduceIte, xe_iconst, xi_0, xx_0, xe_istore, xe_goto_w, xk_iload, jx_iv_i, ak_I, xe_aload, jx_rv_r, jx_rv_n, jx_rv_q, xk_getf, jx_gf_i, jx_ov_s, ak_V, xe_icmp_ge, xk_qald, ja_qa, ak_A, ak_Q, true_or, or_true, and_self, and_true, true_and, xe_inv1, jx_cc_i, jx_cc_v, Nat.reduceMod, Nat.reduceDiv, jx_cl9_i, xe_ifeq, xk_dsp1, jx_cl8_i, ak_D, xe_lreturn, xk_iinc, ak_C, xi_1, xe_goto, xe_lconst, xl_0, jx_s1, List.set_cons_zero, List.set_cons_succ, jx_2_i, jx_2_l, jx_2_r, jx_2_n, jx_2_u, jx_2_s, jx_2_q, jx_k_i, jx_k_l, jx_k_r, jx_k_n, jx_k_u, jx_k_s, jx_k_q]
    exact l
  · intro j _ hj hI
    have h3 : ¬ nI cs.length ≤ nI j := nI_ge hj (by omega)
    have i1 := sp_ix (show j < 12 by omega) (by decide)
    have ec : cs[j]? = some cs[j] := List.getElem?_eq_getElem hj
    obtain ⟨c, c1, c0⟩ := b3 j _ ec
    have c2 : clv H lo hi c cs[j] := clv_mono c0 a1 (by omega) (Nat.le_refl _) (fun _ _ _ => rfl)
    clear c0
    have ft := fun d => Clause_fits c2 (d := d) hw
    have ft1 := ft d
    rw [List.drop_eq_getElem_cons hj] at hI
    generalize cs[j] = C at *
    obtain ⟨⟨cl, _⟩, s, tv, e1, e2, e3⟩ := c2
    obtain ⟨⟨g1, g2, g3⟩, hE, ci, f, k1, k2, k3⟩ := e2
    have v := k3 H (fun j _ _ => rfl) (d + 1) k w hw
    rw [show d + 1 + (hi - lo) = d + (hi - lo) + 1 by omega] at v
    have s3 : 3 ≤ s := Nat.le_trans g1 g2
    have c3 : 3 ≤ c := Nat.le_trans a1 cl
    obtain ⟨L, Bo⟩ := C
    cases Bo with
    | none =>
      refine .inl ?_
      simp only [rlw] at hI
      rw [hI, eb_191_2]
      simp only [jx_ns_r, jx_ns_n, jx_ns_q, jx_ns_i, jx_gl_0, jx_gl_s, if_true, if_false, ite_true, ite_false, eq_self, Bool.false_eq_true, List.length_cons, List.length_nil, Nat.zero_le, Nat.reduceAdd, Nat.reduceSub, Nat.reduceLeDiff, Nat.reduceLT, Nat.reduceEqDiff, Int.reduceToNat, reduceIte, xe_iconst, xi_0, xx_0, xe_istore, xe_goto_w, xk_iload, jx_iv_i, ak_I, xe_aload, jx_rv_r, jx_rv_n, jx_rv_q, xk_getf, jx_gf_i, jx_ov_s, ak_V, xe_icmp_ge, xk_qald, ja_qa, ak_A, ak_Q, true_or, or_true, and_self, and_true, true_and, xe_inv1, jx_cc_i, jx_cc_v, Nat.reduceMod, Nat.reduceDiv, jx_cl9_i, xe_ifeq, xk_dsp1, jx_cl8_i, ak_D, xe_lreturn, xk_iinc, ak_C, xi_1, xe_goto, xe_lconst, xl_0, jx_s1, List.set_cons_zero, List.set_cons_succ, jx_2_i, jx_2_l, jx_2_r, jx_2_n, jx_2_u, jx_2_s, jx_2_q, jx_k_i, jx_k_l, jx_k_r, jx_k_n, jx_k_u, jx_k_s, jx_k_q, b1, b2, List.getElem?_cons_zero, List.getElem?_cons_succ, h3, i1, c1, va_rf, e1, ft1, sp_10, k1, v, c3, s3]
    | some B =>
      simp only [rlw] at hI
      by_cases hB : B w = true
      · rw [if_pos hB] at hI
        refine .inl ?_
        simp only [if_pos hB] at ft1
        rw [hI, eb_191_2]
        simp only [jx_ns_r, jx_ns_n, jx_ns_q, jx_ns_i, jx_gl_0, jx_gl_s, if_true, if_false, ite_true, ite_false, eq_self, Bool.false_eq_true, List.length_cons, List.length_nil, Nat.zero_le, Nat.reduceAdd, Nat.reduceSub, Nat.reduceLeDiff, Nat.reduceLT, Nat.reduceEqDiff, Int.reduceToNat, reduceIte, xe_iconst, xi_0, xx_0, xe_istore, xe_goto_w, xk_iload, jx_iv_i, ak_I, xe_aload, jx_rv_r, jx_rv_n, jx_rv_q, xk_getf, jx_gf_i, jx_ov_s, ak_V, xe_icmp_ge, xk_qald, ja_qa, ak_A, ak_Q, true_or, or_true, and_self, and_true, true_and, xe_inv1, jx_cc_i, jx_cc_v, Nat.reduceMod, Nat.reduceDiv, jx_cl9_i, xe_ifeq, xk_dsp1, jx_cl8_i, ak_D, xe_lreturn, xk_iinc, ak_C, xi_1, xe_goto, xe_lconst, xl_0, jx_s1, List.set_cons_zero, List.set_cons_succ, jx_2_i, jx_2_l, jx_2_r, jx_2_n, jx_2_u, jx_2_s, jx_2_q, jx_k_i, jx_k_l, jx_k_r, jx_k_n, jx_k_u, jx_k_s, jx_k_q, b1, b2, List.getElem?_cons_zero, List.getElem?_cons_succ, h3, i1, c1, va_rf, e1, ft1, sp_10, k1, v, c3, s3]
      · rw [if_neg hB] at hI
        refine .inr ⟨(), hI, ?_⟩
        simp only [if_neg hB] at ft1
        rw [eb_191_2]
        simp only [eb_191_37, jx_ns_r, jx_ns_n, jx_ns_q, jx_ns_i, jx_gl_0, jx_gl_s, if_true, if_false, ite_true, ite_false, eq_self, Bool.false_eq_true, List.length_cons, List.length_nil, Nat.zero_le, Nat.reduceAdd, Nat.reduceSub, Nat.reduceLeDiff, Nat.reduceLT, Nat.reduceEqDiff, Int.reduceToNat, reduceIte, xe_iconst, xi_0, xx_0, xe_istore, xe_goto_w, xk_iload, jx_iv_i, ak_I, xe_aload, jx_rv_r, jx_rv_n, jx_rv_q, xk_getf, jx_gf_i, jx_ov_s, ak_V, xe_icmp_ge, xk_qald, ja_qa, ak_A, ak_Q, true_or, or_true, and_self, and_true, true_and, xe_inv1, jx_cc_i, jx_cc_v, Nat.reduceMod, Nat.reduceDiv, jx_cl9_i, xe_ifeq, xk_dsp1, jx_cl8_i, ak_D, xe_lreturn, xk_iinc, ak_C, xi_1, xe_goto, xe_lconst, xl_0, jx_s1, List.set_cons_zero, List.set_cons_succ, jx_2_i, jx_2_l, jx_2_r, jx_2_n, jx_2_u, jx_2_s, jx_2_q, jx_k_i, jx_k_l, jx_k_r, jx_k_n, jx_k_u, jx_k_s, jx_k_q, b1, b2, List.getElem?_cons_zero, List.getElem?_cons_succ, h3, i1, c1, va_rf, e1, ft1, c3, nI_1]
  · intro _ hI
    have h3 : nI cs.length ≤ nI cs.length := (nI_leI (by omega) (by omega)).mpr (Nat.le_refl _)
    rw [List.drop_length] at hI
    rw [hI, eb_191_2]
    simp only [eb_191_43, jx_ns_r, jx_ns_n, jx_ns_q, jx_ns_i, jx_gl_0, jx_gl_s, if_true, if_false, ite_true, ite_false, eq_self, Bool.false_eq_true, List.length_cons, List.length_nil, Nat.zero_le, Nat.reduceAdd, Nat.reduceSub, Nat.reduceLeDiff, Nat.reduceLT, Nat.reduceEqDiff, Int.reduceToNat, reduceIte, xe_iconst, xi_0, xx_0, xe_istore, xe_goto_w, xk_iload, jx_iv_i, ak_I, xe_aload, jx_rv_r, jx_rv_n, jx_rv_q, xk_getf, jx_gf_i, jx_ov_s, ak_V, xe_icmp_ge, xk_qald, ja_qa, ak_A, ak_Q, true_or, or_true, and_self, and_true, true_and, xe_inv1, jx_cc_i, jx_cc_v, Nat.reduceMod, Nat.reduceDiv, jx_cl9_i, xe_ifeq, xk_dsp1, jx_cl8_i, ak_D, xe_lreturn, xk_iinc, ak_C, xi_1, xe_goto, xe_lconst, xl_0, jx_s1, List.set_cons_zero, List.set_cons_succ, jx_2_i, jx_2_l, jx_2_r, jx_2_n, jx_2_u, jx_2_s, jx_2_q, jx_k_i, jx_k_l, jx_k_r, jx_k_n, jx_k_u, jx_k_s, jx_k_q, b1, List.getElem?_cons_zero, List.getElem?_cons_succ, h3, rlw]
theorem rul_mono (h : rul H lo hi r a cs) (e : ∀ j, lo ≤ j → j < hi → H2.1 j = H.1 j) : rul H2 lo hi r a cs := by
  obtain ⟨⟨a1, a2, a3⟩, ⟨a4, a5⟩, a6, b1, ar, b2, b3⟩ := h
  refine ⟨⟨a1, a2, a3⟩, ⟨a4, a5⟩, a6, (e r a2 a3).trans b1, ar, (e a a4 a5).trans b2, fun k C hk => ?_⟩
  obtain ⟨c, c1, c2⟩ := b3 k C hk
  exact ⟨c, c1, clv_mono c2 (by omega) (Nat.le_refl _) (Nat.le_refl _) (fun j j1 j2 => e j (by omega) j2)⟩
/-- a rule that was read is a rule -/
theorem rul_sp {D : Nat} (h : rul H lo hi r a cs) (hD : hi - lo + 2 ≤ D) (lo3 : 151 ≤ lo) (hh : hi ≤ H.2.1) (fz : ∀ j, lo ≤ j → j < hi → jx_fz (H.1 j) = true) : sp_rule D H r (rlw cs) := by
  refine ⟨⟨by have := h.1; omega, by have := h.1; omega⟩, ⟨_, h.2.2.2.1⟩, rlw_e (fun C hC => ?_), fun H' hA d k w hw => ?_⟩
  · obtain ⟨⟨a1, a2, a3⟩, ⟨a4, a5⟩, a6, b1, ar, b2, b3⟩ := h
    obtain ⟨k, hk⟩ := List.getElem?_of_mem hC
    obtain ⟨c, c1, c2⟩ := b3 k C hk
    exact clv_e c2
  · have := Rule_summed (rul_mono (H2 := H') h (fun j j1 j2 => hA j (by omega) (by omega) (fz j j1 j2))) (d := d + (D - (hi - lo + 2))) hw
    rwa [show d + (D - (hi - lo + 2)) + (hi - lo) + 2 = d + D by omega] at this
end SDL
