/-! court: lays, takes, sumOf -/
set_option maxRecDepth 100000
/-- what a slot of the undo row holds -/
def cq_sn (s : Nat → Int32) (a : Nat → Nat → Int32) (i : Nat) : Int32 :=
  if i < 4 then s (7 + i) else if i < 10 then a 6 (i - 4) else if i < 16 then a 7 (i - 10) else if i < 22 then a 8 (i - 16) else a 9 (i - 22)
def cq_sav (s : Nat → Int32) (a : Nat → Nat → Int32) (u : Nat) (k : Nat) : Int32 := if 28 * u ≤ k ∧ k < 28 * u + 28 then cq_sn s a (k - 28 * u) else a 10 k
def cq_tks (s : Nat → Int32) (a : Nat → Nat → Int32) (u : Nat) (k : Nat) : Int32 := if 7 ≤ k ∧ k < 11 then a 10 (28 * u + (k - 7)) else s k
def cq_tka (a : Nat → Nat → Int32) (u : Nat) (j : Nat) : Nat → Int32 := if 6 ≤ j ∧ j < 10 then cq_fl 6 (fun k => a 10 (28 * u + 4 + 6 * (j - 6) + k)) (a j) else a j
theorem nI_m28 {u : Nat} (hu : u < 1000) : (28 : Int32) * nI u = nI (28 * u) := by
  exact (Int32.ofNat_mul 28 u).symm
theorem nI_ad {k j : Nat} : nI k + nI j = nI (k + j) := by
  rw [nI_add]
section CL
variable {d : Nat} {h : jx_H} {b u : Nat} {s : Nat → Int32} {a : Nat → Nat → Int32} {w : Nat → Int64}
theorem cq_lays (hu : u < 20) : jx_cr (d + 1) 169 [.ref b, .int (nI u)] (cq_put h b (s, a, w)) = some (.inl none, cq_put h b (s, va_up a 10 (cq_sav s a u), w)) := by
  have e0 := nI_m28 (u := u) (by omega)
  have e1 : nI (28 * u) + 1 = nI (28 * u + 1) := nI_ad (j := 1)
  have e2 : nI (28 * u) + 2 = nI (28 * u + 2) := nI_ad (j := 2)
  have e3 : nI (28 * u) + 3 = nI (28 * u + 3) := nI_ad (j := 3)
  have e4 : nI (28 * u) + 4 = nI (28 * u + 4) := nI_ad (j := 4)
  have e5 : nI (28 * u) + 10 = nI (28 * u + 10) := nI_ad (j := 10)
  have e6 : nI (28 * u) + 16 = nI (28 * u + 16) := nI_ad (j := 16)
  have e7 : nI (28 * u) + 22 = nI (28 * u + 22) := nI_ad (j := 22)
  have i0 : jx_ix (nI (28 * u)) 560 = some (28 * u) := by rw [jx_ix_n (by omega), if_pos (by omega)]
  have i1 : jx_ix (nI (28 * u + 1)) 560 = some (28 * u + 1) := by rw [jx_ix_n (by omega), if_pos (by omega)]
  have i2 : jx_ix (nI (28 * u + 2)) 560 = some (28 * u + 2) := by rw [jx_ix_n (by omega), if_pos (by omega)]
  have i3 : jx_ix (nI (28 * u + 3)) 560 = some (28 * u + 3) := by rw [jx_ix_n (by omega), if_pos (by omega)]
  have c4 := fun g g1 f => @cq_cpw g g1 f (28 * u + 4) (by omega)
  have c5 := fun g g1 f => @cq_cpw g g1 f (28 * u + 10) (by omega)
  have c6 := fun g g1 f => @cq_cpw g g1 f (28 * u + 16) (by omega)
  have c7 := fun g g1 f => @cq_cpw g g1 f (28 * u + 22) (by omega)
  simp only [cr_169, eb_169_0, jx_ns_r, jx_ns_n, jx_ns_q, jx_ns_i, jx_gl_0, jx_gl_s, if_true, if_false, ite_true, ite_false, eq_self, Bool.false_eq_true, List.length_cons, List.length_nil, Nat.zero_le, Nat.reduceAdd, Nat.reduceSub, Nat.reduceLeDiff, Nat.reduceLT, Nat.reduceEqDiff, Int.reduceToNat, reduceIte, xe_iconst, xi_28, xx_28, xk_iload, jx_iv_i, ak_I, xe_imul, xe_istore, xe_aload, jx_rv_r, jx_rv_n, jx_rv_q, xk_getf, jx_gf_i, jx_ov_s, ak_V, xk_iast, ja_is, ak_S, ak_P, xi_1, xx_1, xe_iadd, xi_2, xx_2, xi_3, xx_3, xi_0, xx_0, xi_4, xx_4, xi_6, xx_6, xk_copy, xi_10, xx_10, xi_16, xx_16, xi_22, xx_22, xe_return, jx_s1, List.set_cons_zero, List.set_cons_succ, jx_2_i, jx_2_l, jx_2_r, jx_2_n, jx_2_u, jx_2_s, jx_2_q, jx_k_i, jx_k_l, jx_k_r, jx_k_n, jx_k_u, jx_k_s, jx_k_q, cq_r, cq_f, e0, e1, e2, e3, e4, e5, e6, e7, i0, i1, i2, i3, c4, c5, c6, c7, cq_wr, va_up_s]
  refine congrArg (fun z => some (Sum.inl none, z)) (cq_aE fun j hj => ?_)
  simp only [va_up]
  by_cases q : j = 10
  · subst q
    simp only [if_true]
    funext k
    simp only [va_cpy, upd, cq_sav, cq_sn]
    by_cases r : 28 * u ≤ k ∧ k < 28 * u + 28
    · obtain ⟨i, hi⟩ := Nat.exists_eq_add_of_le r.1
      subst hi
      have hi : i < 28 := by omega
      rw [if_pos r, Nat.add_sub_cancel_left]
      by_cases q0 : i < 4
      · rw [if_neg (by omega), if_neg (by omega), if_neg (by omega), if_neg (by omega), if_pos q0]
        rcases (by omega : i = 0 ∨ i = 1 ∨ i = 2 ∨ i = 3) with q | q | q | q <;> subst q <;> simp
      · rw [if_neg q0]
        by_cases q1 : i < 10
        · rw [if_neg (by omega), if_neg (by omega), if_neg (by omega), if_pos (by omega), if_pos q1]
          congr 1; omega
        · rw [if_neg q1]
          by_cases q2 : i < 16
          · rw [if_neg (by omega), if_neg (by omega), if_pos (by omega), if_pos q2]
            congr 1; omega
          · rw [if_neg q2]
            by_cases q3 : i < 22
            · rw [if_neg (by omega), if_pos (by omega), if_pos q3]
              congr 1; omega
            · rw [if_neg q3, if_pos (by omega)]
              congr 1; omega
    · rw [if_neg r, if_neg (by omega), if_neg (by omega), if_neg (by omega), if_neg (by omega), if_neg (by omega), if_neg (by omega), if_neg (by omega), if_neg (by omega)]
  · simp only [q, if_false]
theorem cq_takes (hu : u < 20) : jx_cr (d + 1) 170 [.ref b, .int (nI u)] (cq_put h b (s, a, w)) = some (.inl none, cq_put h b (cq_tks s a u, cq_tka a u, w)) := by
  have e0 := nI_m28 (u := u) (by omega)
  have e1 : nI (28 * u) + 1 = nI (28 * u + 1) := nI_ad (j := 1)
  have e2 : nI (28 * u) + 2 = nI (28 * u + 2) := nI_ad (j := 2)
  have e3 : nI (28 * u) + 3 = nI (28 * u + 3) := nI_ad (j := 3)
  have e4 : nI (28 * u) + 4 = nI (28 * u + 4) := nI_ad (j := 4)
  have e5 : nI (28 * u) + 10 = nI (28 * u + 10) := nI_ad (j := 10)
  have e6 : nI (28 * u) + 16 = nI (28 * u + 16) := nI_ad (j := 16)
  have e7 : nI (28 * u) + 22 = nI (28 * u + 22) := nI_ad (j := 22)
  have i0 : jx_ix (nI (28 * u)) 560 = some (28 * u) := by rw [jx_ix_n (by omega), if_pos (by omega)]
  have i1 : jx_ix (nI (28 * u + 1)) 560 = some (28 * u + 1) := by rw [jx_ix_n (by omega), if_pos (by omega)]
  have i2 : jx_ix (nI (28 * u + 2)) 560 = some (28 * u + 2) := by rw [jx_ix_n (by omega), if_pos (by omega)]
  have i3 : jx_ix (nI (28 * u + 3)) 560 = some (28 * u + 3) := by rw [jx_ix_n (by omega), if_pos (by omega)]
  have c4 := fun g g1 f => @cq_cpr g g1 f (28 * u + 4) (by omega)
  have c5 := fun g g1 f => @cq_cpr g g1 f (28 * u + 10) (by omega)
  have c6 := fun g g1 f => @cq_cpr g g1 f (28 * u + 16) (by omega)
  have c7 := fun g g1 f => @cq_cpr g g1 f (28 * u + 22) (by omega)
  have va : ∀ (k : Nat) (f g : Nat → Int32), va_cpy f g k 0 6 = cq_fl 6 (fun i => f (k + i)) g := by
    intro k f g
    funext i
    simp only [va_cpy, cq_fl, Nat.zero_le, true_and, Nat.zero_add, Nat.sub_zero]
  simp only [cr_170, eb_170_0, jx_ns_r, jx_ns_n, jx_ns_q, jx_ns_i, jx_gl_0, jx_gl_s, if_true, if_false, ite_true, ite_false, eq_self, Bool.false_eq_true, List.length_cons, List.length_nil, Nat.zero_le, Nat.reduceAdd, Nat.reduceSub, Nat.reduceLeDiff, Nat.reduceLT, Nat.reduceEqDiff, Int.reduceToNat, reduceIte, xe_iconst, xi_28, xx_28, xk_iload, jx_iv_i, ak_I, xe_imul, xe_istore, xe_aload, jx_rv_r, jx_rv_n, jx_rv_q, xk_getf, jx_gf_i, jx_ov_s, ak_V, xk_iald, ja_ia, ak_A, true_or, or_true, xk_putf, ak_P, jx_pf_i, jx_pf_z, jx_pf_l, jx_pf_r, jx_pf_n, jx_pf_q, Nat.reduceMod, Nat.reduceDiv, xi_1, xx_1, xe_iadd, xi_2, xx_2, xi_3, xx_3, xi_4, xx_4, xi_0, xx_0, xi_6, xx_6, xk_copy, xi_10, xx_10, xi_16, xx_16, xi_22, xx_22, xe_return, jx_s1, List.set_cons_zero, List.set_cons_succ, jx_2_i, jx_2_l, jx_2_r, jx_2_n, jx_2_u, jx_2_s, jx_2_q, jx_k_i, jx_k_l, jx_k_r, jx_k_n, jx_k_u, jx_k_s, jx_k_q, cq_r, cq_f, e0, e1, e2, e3, e4, e5, e6, e7, i0, i1, i2, i3, c4, c5, c6, c7, cq_wr, va_up_s, cq_s, cq_wo, va]
  refine congrArg (fun z => some (Sum.inl none, z)) ?_
  rw [cq_sE (s' := cq_tks s a u) (by
    intro k hk
    simp only [va_up, cq_tks]
    by_cases q : 7 ≤ k
    · rcases (by omega : k = 7 ∨ k = 8 ∨ k = 9 ∨ k = 10) with q | q | q | q <;> subst q <;> exact (if_pos ⟨by decide, by decide⟩).symm
    · rw [if_neg (by omega), if_neg (by omega), if_neg (by omega), if_neg (by omega), if_neg (by omega)])]
  refine cq_aE fun j hj => ?_
  simp only [va_up, cq_tka]
  by_cases q : 6 ≤ j ∧ j < 10
  · rw [if_pos q]
    rcases (by omega : j = 6 ∨ j = 7 ∨ j = 8 ∨ j = 9) with q | q | q | q <;> subst q <;> rfl
  · rw [if_neg q, if_neg (by omega), if_neg (by omega), if_neg (by omega), if_neg (by omega)]
end CL
