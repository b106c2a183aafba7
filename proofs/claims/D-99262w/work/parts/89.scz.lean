/-! new courts, images; the component's image and back -/
set_option maxRecDepth 100000
def cq_z : cq_C := (fun _ => 0, fun _ _ => 0, fun _ => 0)
def cI_f (b j i : Nat) : Value := if i < 11 then .int 0 else if i - 11 < j then .ref (b + 1 + (i - 11)) else .null
def cI_l (b j : Nat) : List Value := [cI_f b j 0, cI_f b j 1, cI_f b j 2, cI_f b j 3, cI_f b j 4, cI_f b j 5, cI_f b j 6, cI_f b j 7, cI_f b j 8, cI_f b j 9, cI_f b j 10, cI_f b j 11, cI_f b j 12, cI_f b j 13, cI_f b j 14, cI_f b j 15, cI_f b j 16, cI_f b j 17, cI_f b j 18, cI_f b j 19, cI_f b j 20, cI_f b j 21, cI_f b j 22]
def cI_s : Nat → Nat
  | 0 => 0
  | j + 1 => cI_s j + (if j = 11 then 12 else cq_len j)
/-- a court at b with j of its rows made -/
def cI (H : jx_H) (b j : Nat) : jx_H := (fun k => if k = b then .inr (1, cI_l b j) else if b < k ∧ k ≤ b + j then cq_cell b cq_z (k - b) else H.1 k, (b + 1 + j, H.2.2 + cI_s j))
section CI
variable {d b j n : Nat} {H : jx_H} {x : va_E}
theorem cI_n : (cI H b j).2.1 = b + 1 + j := rfl
theorem cI_r : (jx_new (cI H b j) x n).1 b = .inr (1, cI_l b j) := by
  rw [jx_new_at, if_neg (by rw [cI_n]; omega)]
  exact if_pos rfl
theorem cI_st (hx : x = cq_cell b cq_z (j + 1)) (hn : n = if j = 11 then 12 else cq_len j) : jx_put (jx_new (cI H b j) x n) b (.inr (1, cI_l b (j + 1))) = cI H b (j + 1) := by
  subst hx hn
  simp only [jx_put, jx_new, cI, cI_s]
  refine Prod.ext ?_ (Prod.ext rfl (Nat.add_assoc _ _ _))
  funext k
  show (if k = b then _ else if k = b + 1 + j then _ else if k = b then _ else if b < k ∧ k ≤ b + j then _ else _) = if k = b then _ else if b < k ∧ k ≤ b + (j + 1) then _ else _
  by_cases h1 : k = b
  · rw [if_pos h1, if_pos h1]
  · rw [if_neg h1, if_neg h1, if_neg h1]
    by_cases h2 : k = b + 1 + j
    · rw [if_pos h2, if_pos (by omega), show k - b = j + 1 by omega]
    · rw [if_neg h2]
      by_cases h3 : b < k ∧ k ≤ b + j
      · rw [if_pos h3, if_pos (by omega)]
      · rw [if_neg h3, if_neg (by omega)]
theorem cI_0 (hb : H.1 b = .inr (1, jx_nf 1)) (hn : H.2.1 = b + 1) : cI H b 0 = H := by
  refine Prod.ext ?_ (Prod.ext hn.symm rfl)
  funext k
  simp only [cI]
  by_cases h1 : k = b
  · rw [if_pos h1, h1, hb]; rfl
  · rw [if_neg h1, if_neg (by omega)]
theorem cI_12 : cI H b 12 = ((cq_put H b cq_z).1, (b + 13, H.2.2 + 652)) := by
  refine Prod.ext ?_ rfl
  funext k
  simp only [cI, cq_put]
  by_cases h1 : k = b
  · rw [if_pos h1, if_pos (by omega), show k - b = 0 by omega]; rfl
  · rw [if_neg h1]
    by_cases h2 : b < k ∧ k ≤ b + 12
    · rw [if_pos h2, if_pos (by omega)]
    · rw [if_neg h2, if_neg (by omega)]
theorem Court_init (hb3 : 3 ≤ b) (hb : H.1 b = .inr (1, jx_nf 1)) (hn : H.2.1 = b + 1) : jx_cr (d + 1) 166 [.ref b] H = some (.inl none, ((cq_put H b cq_z).1, (b + 13, H.2.2 + 652))) := by
  rw [← cI_12]
  have z := cI_0 hb hn
  have b6 : (0 : Int) ≤ (6 : Int32).toInt ∧ (6 : Int32).toInt ≤ 65536 := by decide
  have b12 : (0 : Int) ≤ (12 : Int32).toInt ∧ (12 : Int32).toInt ≤ 65536 := by decide
  have b20 : (0 : Int) ≤ (20 : Int32).toInt ∧ (20 : Int32).toInt ≤ 65536 := by decide
  have b560 : (0 : Int) ≤ (560 : Int32).toInt ∧ (560 : Int32).toInt ≤ 65536 := by decide
  have c6 : (6 : Int32).toNatClampNeg = 6 := by decide
  have c12 : (12 : Int32).toNatClampNeg = 12 := by decide
  have c20 : (20 : Int32).toNatClampNeg = 20 := by decide
  have c560 : (560 : Int32).toNatClampNeg = 560 := by decide
  have s0 := cI_st (b := b) (j := 0) (n := 6) (H := H) (x := .inl (0, 6, .inl fun _ => 0)) rfl rfl
  have s1 := cI_st (b := b) (j := 1) (n := 12) (H := H) (x := .inl (0, 12, .inl fun _ => 0)) rfl rfl
  have s2 := cI_st (b := b) (j := 2) (n := 6) (H := H) (x := .inl (0, 6, .inl fun _ => 0)) rfl rfl
  have s3 := cI_st (b := b) (j := 3) (n := 6) (H := H) (x := .inl (0, 6, .inl fun _ => 0)) rfl rfl
  have s4 := cI_st (b := b) (j := 4) (n := 6) (H := H) (x := .inl (0, 6, .inl fun _ => 0)) rfl rfl
  have s5 := cI_st (b := b) (j := 5) (n := 20) (H := H) (x := .inl (0, 20, .inl fun _ => 0)) rfl rfl
  have s6 := cI_st (b := b) (j := 6) (n := 6) (H := H) (x := .inl (0, 6, .inl fun _ => 0)) rfl rfl
  have s7 := cI_st (b := b) (j := 7) (n := 6) (H := H) (x := .inl (0, 6, .inl fun _ => 0)) rfl rfl
  have s8 := cI_st (b := b) (j := 8) (n := 6) (H := H) (x := .inl (0, 6, .inl fun _ => 0)) rfl rfl
  have s9 := cI_st (b := b) (j := 9) (n := 6) (H := H) (x := .inl (0, 6, .inl fun _ => 0)) rfl rfl
  have s10 := cI_st (b := b) (j := 10) (n := 560) (H := H) (x := .inl (0, 560, .inl fun _ => 0)) rfl rfl
  have s11 := cI_st (b := b) (j := 11) (n := 12) (H := H) (x := .inl (2, 12, .inr (.inl fun _ => 0))) rfl rfl
  have l0 : (cI_l b 0).set 11 (.ref (b + 1 + 0)) = cI_l b (0 + 1) := rfl
  have l1 : (cI_l b (0 + 1)).set 12 (.ref (b + 1 + (0 + 1))) = cI_l b (1 + 1) := rfl
  have l2 : (cI_l b (1 + 1)).set 13 (.ref (b + 1 + (1 + 1))) = cI_l b (2 + 1) := rfl
  have l3 : (cI_l b (2 + 1)).set 14 (.ref (b + 1 + (2 + 1))) = cI_l b (3 + 1) := rfl
  have l4 : (cI_l b (3 + 1)).set 15 (.ref (b + 1 + (3 + 1))) = cI_l b (4 + 1) := rfl
  have l5 : (cI_l b (4 + 1)).set 16 (.ref (b + 1 + (4 + 1))) = cI_l b (5 + 1) := rfl
  have l6 : (cI_l b (5 + 1)).set 17 (.ref (b + 1 + (5 + 1))) = cI_l b (6 + 1) := rfl
  have l7 : (cI_l b (6 + 1)).set 18 (.ref (b + 1 + (6 + 1))) = cI_l b (7 + 1) := rfl
  have l8 : (cI_l b (7 + 1)).set 19 (.ref (b + 1 + (7 + 1))) = cI_l b (8 + 1) := rfl
  have l9 : (cI_l b (8 + 1)).set 20 (.ref (b + 1 + (8 + 1))) = cI_l b (9 + 1) := rfl
  have l10 : (cI_l b (9 + 1)).set 21 (.ref (b + 1 + (9 + 1))) = cI_l b (10 + 1) := rfl
  have l11 : (cI_l b (10 + 1)).set 22 (.ref (b + 1 + (10 + 1))) = cI_l b (11 + 1) := rfl
  simp only [Nat.reduceAdd] at s0 s1 s2 s3 s4 s5 s6 s7 s8 s9 s10 s11 l0 l1 l2 l3 l4 l5 l6 l7 l8 l9 l10 l11
  rw [show jx_cr (d + 1) 166 [.ref b] H = jx_cr (d + 1) 166 [.ref b] (cI H b 0) by rw [z]]
  simp only [cr_166, eb_166_0, jx_ns_r, jx_ns_n, jx_ns_q, jx_ns_i, jx_gl_0, jx_gl_s, if_true, if_false, ite_true, ite_false, eq_self, Bool.false_eq_true, List.length_cons, List.length_nil, Nat.zero_le, Nat.reduceAdd, Nat.reduceSub, Nat.reduceLeDiff, Nat.reduceLT, Nat.reduceEqDiff, Int.reduceToNat, reduceIte, xe_aload, jx_rv_r, jx_rv_n, jx_rv_q, xe_obj, and_self, and_true, true_and, xe_iconst, xi_6, xx_6, xe_newi, xe_newb, xe_newl, xe_newz, xk_putf, ak_P, jx_pf_i, jx_pf_z, jx_pf_l, jx_pf_r, jx_pf_n, jx_pf_q, Nat.reduceMod, Nat.reduceDiv, xi_12, xx_12, xi_20, xx_20, xi_560, xe_return, hb3, b6, b12, b20, b560, c6, c12, c20, c560, and_self, cI_n, cI_r, l0, l1, l2, l3, l4, l5, l6, l7, l8, l9, l10, l11, s0, s1, s2, s3, s4, s5, s6, s7, s8, s9, s10, s11]
end CI
