/-! TEXTS: strings, the tape, leaf methods of Text -/
set_option maxRecDepth 100000
def st_l : Nat → List Nat
  | 0 => [102, 97, 117, 108, 116]
  | 1 => [99, 111, 117, 114, 116]
  | 2 => [116, 104, 105, 110, 103]
  | 3 => [104, 111, 108, 100, 115]
  | 4 => [112, 101, 114, 115, 111, 110]
  | 5 => [113, 117, 97, 114, 114, 101, 108]
  | 6 => [104, 111, 108, 100]
  | 7 => [114, 97, 110, 107]
  | 8 => [99, 108, 111, 99, 107]
  | 9 => [117, 115, 117, 97, 108]
  | 10 => [108, 97, 115, 116]
  | 11 => [116, 105, 109, 101, 115]
  | 12 => [116, 105, 116, 108, 101, 115]
  | 13 => [100, 117, 101]
  | 14 => [107, 110, 105, 103, 104, 116, 115]
  | 15 => [109, 111, 115, 116]
  | 16 => [112, 101, 111, 112, 108, 101]
  | 17 => [104, 111, 117, 114]
  | 18 => [105, 102]
  | 19 => [110, 111, 116]
  | 20 => [97, 110, 100]
  | 21 => [111, 114]
  | _ => []
def st_n (i : Nat) : Nat := (st_l i).length
def st_c (i k : Nat) : Int32 := nI ((st_l i).getD k 97)
/-- the strings are where they should be -/
def ss_ok (h : jx_H) : Prop := ∀ i, i < 22 → (∃ fs, h.1 (4 + i) = .inr (19, .ref (26 + i) :: .int 0 :: fs)) ∧ ∃ f : Nat → Int32, h.1 (26 + i) = .inl (9, st_n i, .inl f) ∧ ∀ k, k < st_n i → f k = st_c i k
theorem st_nb {i : Nat} (h : i < 22) : 2 ≤ st_n i ∧ st_n i ≤ 7 := by
  have : ∀ i : Fin 22, 2 ≤ st_n i.val ∧ st_n i.val ≤ 7 := by decide +kernel
  exact this ⟨i, h⟩
theorem st_cb {i k : Nat} (h : i < 22) (hk : k < 7) : ∃ c, c < 128 ∧ 97 ≤ c ∧ st_c i k = nI c := by
  have : ∀ i : Fin 22, ∀ k : Fin 7, (st_l i.val).getD k.val 97 < 128 ∧ 97 ≤ (st_l i.val).getD k.val 97 := by decide +kernel
  have := this ⟨i, h⟩ ⟨k, hk⟩
  exact ⟨_, this.1, this.2, rfl⟩
theorem st_cz : ((0 : Int32) = 0) = True := eq_true rfl
section SS1
variable {d i k : Nat} {H : jx_H}
theorem String_length (hs : ss_ok H) (hi : i < 22) : jx_cr (d + 2) 233 [.ref (4 + i)] H = some (.inl (some (.int (nI (st_n i)))), H) := by
  obtain ⟨⟨fs, h1⟩, f, h2, h3⟩ := hs i hi
  have hn := (st_nb hi).2
  have e0 : Int32.ofNat (st_n i) >>> ((0 : Int32) &&& 31) = nI (st_n i) := by
    have : ∀ n : Fin 8, Int32.ofNat n.val >>> ((0 : Int32) &&& 31) = nI n.val := by decide +kernel
    exact this ⟨st_n i, by omega⟩
  have z1 : (0 : Int) ≤ (0 : Int32).toInt ∧ (0 : Int32).toInt < 128 := by decide
  simp only [cr_233, eb_233_0, jx_ns_r, jx_ns_n, jx_ns_q, jx_ns_i, jx_gl_0, jx_gl_s, if_true, if_false, ite_true, ite_false, eq_self, Bool.false_eq_true, List.length_cons, List.length_nil, Nat.zero_le, Nat.reduceAdd, Nat.reduceSub, Nat.reduceLeDiff, Nat.reduceLT, Nat.reduceEqDiff, Int.reduceToNat, reduceIte, xe_aload, jx_rv_r, jx_rv_n, jx_rv_q, xk_getf, jx_gf_i, jx_ov_s, ak_V, xk_alen, jx_al_i, ak_I, xe_inv0, jx_cc_i, jx_cc_v, Nat.reduceMod, Nat.reduceDiv, jx_cl9_i, xe_ishr, xe_ireturn, cr_231, eb_231_0, eb_231_13, eb_231_14, jx_ns_r, jx_ns_n, jx_ns_q, jx_ns_i, jx_gl_0, jx_gl_s, if_true, if_false, ite_true, ite_false, eq_self, Bool.false_eq_true, List.length_cons, List.length_nil, Nat.zero_le, Nat.reduceAdd, Nat.reduceSub, Nat.reduceLeDiff, Nat.reduceLT, Nat.reduceEqDiff, Int.reduceToNat, reduceIte, xe_gets, xe_ifeq, xe_aload, jx_rv_r, jx_rv_n, jx_rv_q, xk_getf, jx_gf_i, jx_ov_s, ak_V, xe_goto, xe_iconst, xi_1, xx_1, xe_goto_w, xe_breturn, h1, h2, List.getElem?_cons_zero, List.getElem?_cons_succ, sp_10, z1, and_self, e0]
theorem String_charAt (hs : ss_ok H) (hi : i < 22) (hk : k < st_n i) : jx_cr (d + 4) 229 [.ref (4 + i), .int (nI k)] H = some (.inl (some (.int (st_c i k))), H) := by
  obtain ⟨⟨fs, h1⟩, f, h2, h3⟩ := hs i hi
  have hn := (st_nb hi).2
  obtain ⟨c, hc, _, ec⟩ := st_cb hi (show k < 7 by omega)
  have i1 := sp_ix hk (by omega)
  have l0 : ¬ nI k < 0 := nI_pos (by omega)
  have l1 : nI k < nI (st_n i) := nI_lt hk (by omega)
  have l2 : ¬ nI (st_n i) ≤ nI k := nI_ge hk (by omega)
  have en : Int32.ofNat (st_n i) = nI (st_n i) := rfl
  have e1 : ((nI c &&& 255).toUInt32 % 65536).toInt32 = nI c ∧ 0 ≤ (nI c).toInt ∧ (nI c).toInt < 128 := by
    have : ∀ c : Fin 128, ((nI c.val &&& 255).toUInt32 % 65536).toInt32 = nI c.val ∧ 0 ≤ (nI c.val).toInt ∧ (nI c.val).toInt < 128 := by decide +kernel
    exact this ⟨c, hc⟩
  have ef := (h3 k hk).trans ec
  rw [ec]
  simp only [cr_229, eb_229_0, jx_ns_r, jx_ns_n, jx_ns_q, jx_ns_i, jx_gl_0, jx_gl_s, if_true, if_false, ite_true, ite_false, eq_self, Bool.false_eq_true, List.length_cons, List.length_nil, Nat.zero_le, Nat.reduceAdd, Nat.reduceSub, Nat.reduceLeDiff, Nat.reduceLT, Nat.reduceEqDiff, Int.reduceToNat, reduceIte, xe_aload, jx_rv_r, jx_rv_n, jx_rv_q, xe_inv0, jx_cc_i, jx_cc_v, Nat.reduceMod, Nat.reduceDiv, jx_cl9_i, xe_ifeq, xk_getf, jx_gf_i, jx_ov_s, ak_V, xk_iload, jx_iv_i, ak_I, xe_sta2, xe_breturn, cr_232, eb_232_0, eb_232_17, eb_232_18, jx_ns_r, jx_ns_n, jx_ns_q, jx_ns_i, jx_gl_0, jx_gl_s, if_true, if_false, ite_true, ite_false, eq_self, Bool.false_eq_true, List.length_cons, List.length_nil, Nat.zero_le, Nat.reduceAdd, Nat.reduceSub, Nat.reduceLeDiff, Nat.reduceLT, Nat.reduceEqDiff, Int.reduceToNat, reduceIte, xe_gets, xe_ifeq, xe_aload, jx_rv_r, jx_rv_n, jx_rv_q, xk_getf, jx_gf_i, jx_ov_s, ak_V, xe_ifne, xe_iconst, xi_1, xx_1, xe_goto, xi_0, xx_0, xe_goto_w, xe_zreturn, xZ, cr_234 jx_ns_r, eb_234_0, jx_ns_r, jx_ns_n, jx_ns_q, jx_ns_i, jx_gl_0, jx_gl_s, if_true, if_false, ite_true, ite_false, eq_self, Bool.false_eq_true, List.length_cons, List.length_nil, Nat.zero_le, Nat.reduceAdd, Nat.reduceSub, Nat.reduceLeDiff, Nat.reduceLT, Nat.reduceEqDiff, Int.reduceToNat, reduceIte, xk_iload, jx_iv_i, ak_I, xe_aload, jx_rv_r, jx_rv_n, jx_rv_q, xk_alen, jx_al_i, xe_sta2, jx_cc_i, jx_cc_v, Nat.reduceMod, Nat.reduceDiv, xk_bald, ja_ba, jx_ov_s, ak_A, true_or, or_true, xe_iconst, xi_255, xe_iand, xe_i2c, xe_breturn, cr_230, eb_230_0, jx_ns_r, jx_ns_n, jx_ns_q, jx_ns_i, jx_gl_0, jx_gl_s, if_true, if_false, ite_true, ite_false, eq_self, Bool.false_eq_true, List.length_cons, List.length_nil, Nat.zero_le, Nat.reduceAdd, Nat.reduceSub, Nat.reduceLeDiff, Nat.reduceLT, Nat.reduceEqDiff, Int.reduceToNat, reduceIte, xk_iload, jx_iv_i, ak_I, xe_gets, xe_sta3, jx_cc_i, jx_cc_v, Nat.reduceMod, Nat.reduceDiv, xe_pop, jx_2_i, jx_2_l, jx_2_r, jx_2_n, jx_2_q, or_self, xe_return, cr_236 jx_ns_r, eb_236_0, eb_236_16, jx_ns_r, jx_ns_n, jx_ns_q, jx_ns_i, jx_gl_0, jx_gl_s, if_true, if_false, ite_true, ite_false, eq_self, Bool.false_eq_true, List.length_cons, List.length_nil, Nat.zero_le, Nat.reduceAdd, Nat.reduceSub, Nat.reduceLeDiff, Nat.reduceLT, Nat.reduceEqDiff, Int.reduceToNat, reduceIte, xk_iload, jx_iv_i, ak_I, xe_iflt, xe_icmp_lt, xe_goto_w, xe_aload, jx_rv_r, jx_rv_n, jx_rv_q, xe_ireturn, h1, h2, List.getElem?_cons_zero, List.getElem?_cons_succ, sp_10, xZ, en, l0, l1, l2, i1, ef, e1, and_self]
end SS1
/-- the tape: blanks, signs, letters, words, digits -/
def sk (tp : Nat → Int32) : Nat → Nat → Nat
  | 0, p => p
  | m + 1, p => if tp p = 32 then sk tp m (p + 1) else p
def skp (tp : Nat → Int32) (M p : Nat) : Nat := sk tp (M - p) p
def sg (tp : Nat → Int32) (M p : Nat) : Int32 := if p < M then tp p &&& 255 else -1
def ltr (tp : Nat → Int32) : Nat → Nat → Nat
  | 0, _ => 0
  | m + 1, p => if 97 ≤ tp p ∧ tp p ≤ 122 then ltr tp m (p + 1) + 1 else 0
def ltp (tp : Nat → Int32) (M p : Nat) : Nat := ltr tp (M - p) p
def wm (tp : Nat → Int32) (M p i : Nat) : Prop := ltp tp M p = st_n i ∧ ∀ k, k < st_n i → tp (p + k) = st_c i k
noncomputable def wmb (tp : Nat → Int32) (M p i : Nat) : Bool := @decide (wm tp M p i) (Classical.propDecidable _)
def dcn (tp : Nat → Int32) : Nat → Nat → Nat
  | 0, _ => 0
  | m + 1, p => if 48 ≤ tp p ∧ tp p ≤ 57 then dcn tp m (p + 1) + 1 else 0
def dgp (tp : Nat → Int32) (M p : Nat) : Nat := dcn tp (M - p) p
def nv (tp : Nat → Int32) (p : Nat) : Nat → Int32
  | 0 => 0
  | k + 1 => if k < 5 then 10 * nv tp p k + tp (p + k) - 48 else nv tp p k
section TPS
variable {tp : Nat → Int32} {M p : Nat}
theorem skp_s (h : p < M) : skp tp M p = if tp p = 32 then skp tp M (p + 1) else p := by
  rw [skp, show M - p = (M - (p + 1)) + 1 by omega, sk]; rfl
theorem skp_e (h : M ≤ p) : skp tp M p = p := by rw [skp, Nat.sub_eq_zero_of_le h, sk]
theorem skp_ge (tp : Nat → Int32) (M p : Nat) : p ≤ skp tp M p := by
  have : ∀ m p, p ≤ sk tp m p := by
    intro m
    induction m with
    | zero => intro p; exact Nat.le_refl _
    | succ m ih =>
      intro p
      rw [sk]
      split
      · have := ih (p + 1); omega
      · exact Nat.le_refl _
  exact this _ _
theorem skp_le (h : p ≤ M) : skp tp M p ≤ M := by
  have : ∀ m p, p + m ≤ M → sk tp m p ≤ M := by
    intro m
    induction m with
    | zero => intro p h; rw [sk]; omega
    | succ m ih =>
      intro p h
      rw [sk]
      split
      · exact ih (p + 1) (by omega)
      · omega
  exact this _ _ (by omega)
theorem skp_nb (h : skp tp M p < M) : ¬ tp (skp tp M p) = 32 := by
  have : ∀ m p, p + m = M → sk tp m p < M → ¬ tp (sk tp m p) = 32 := by
    intro m
    induction m with
    | zero => intro p h h2; rw [sk] at h2; omega
    | succ m ih =>
      intro p h h2
      rw [sk] at h2 ⊢
      by_cases r : tp p = 32
      · rw [if_pos r] at h2 ⊢; exact ih (p + 1) (by omega) h2
      · rw [if_neg r]; exact r
  by_cases q : p ≤ M
  · exact this _ _ (by omega) h
  · rw [skp_e (by omega)] at h; omega
theorem skp_i (hp : p ≤ M) : skp tp M (skp tp M p) = skp tp M p := by
  have h1 := skp_le (tp := tp) hp
  by_cases h : skp tp M p < M
  · rw [skp_s h, if_neg (skp_nb h)]
  · exact skp_e (by omega)
theorem ltp_s (h : p < M) : ltp tp M p = if 97 ≤ tp p ∧ tp p ≤ 122 then ltp tp M (p + 1) + 1 else 0 := by
  rw [ltp, show M - p = (M - (p + 1)) + 1 by omega, ltr]; rfl
theorem ltp_e (h : M ≤ p) : ltp tp M p = 0 := by rw [ltp, Nat.sub_eq_zero_of_le h, ltr]
theorem ltp_le (h : p ≤ M) : p + ltp tp M p ≤ M := by
  have : ∀ m p, p + ltr tp m p ≤ p + m := by
    intro m
    induction m with
    | zero => intro p; exact Nat.le_refl _
    | succ m ih =>
      intro p
      rw [ltr]
      split
      · have := ih (p + 1); omega
      · omega
  have := this (M - p) p
  rw [ltp]
  omega
/-- letters from the k-th on -/
theorem ltp_k : ∀ k, k ≤ ltp tp M p → ltp tp M p = k + ltp tp M (p + k) := by
  intro k
  induction k with
  | zero => intro _; rw [Nat.add_zero, Nat.zero_add]
  | succ k ih =>
    intro h
    have e := ih (by omega)
    have hk : 0 < ltp tp M (p + k) := by omega
    by_cases q : p + k < M
    · rw [ltp_s q] at e hk
      by_cases r : 97 ≤ tp (p + k) ∧ tp (p + k) ≤ 122
      · rw [if_pos r] at e
        rw [e, show p + (k + 1) = p + k + 1 by omega]; omega
      · rw [if_neg r] at hk; omega
    · rw [ltp_e (by omega)] at hk; omega
theorem dgp_s (h : p < M) : dgp tp M p = if 48 ≤ tp p ∧ tp p ≤ 57 then dgp tp M (p + 1) + 1 else 0 := by
  rw [dgp, show M - p = (M - (p + 1)) + 1 by omega, dcn]; rfl
theorem dgp_e (h : M ≤ p) : dgp tp M p = 0 := by rw [dgp, Nat.sub_eq_zero_of_le h, dcn]
theorem dgp_le (h : p ≤ M) : p + dgp tp M p ≤ M := by
  have : ∀ m p, p + dcn tp m p ≤ p + m := by
    intro m
    induction m with
    | zero => intro p; exact Nat.le_refl _
    | succ m ih =>
      intro p
      rw [dcn]
      split
      · have := ih (p + 1); omega
      · omega
  have := this (M - p) p
  rw [dgp]
  omega
theorem dgp_k : ∀ k, k ≤ dgp tp M p → dgp tp M p = k + dgp tp M (p + k) := by
  intro k
  induction k with
  | zero => intro _; rw [Nat.add_zero, Nat.zero_add]
  | succ k ih =>
    intro h
    have e := ih (by omega)
    have hk : 0 < dgp tp M (p + k) := by omega
    by_cases q : p + k < M
    · rw [dgp_s q] at e hk
      by_cases r : 48 ≤ tp (p + k) ∧ tp (p + k) ≤ 57
      · rw [if_pos r] at e
        rw [e, show p + (k + 1) = p + k + 1 by omega]; omega
      · rw [if_neg r] at hk; omega
    · rw [dgp_e (by omega)] at hk; omega
/-- a digit stands at p -/
theorem dgp_0 : 0 < dgp tp M p ↔ (p < M ∧ 48 ≤ tp p ∧ tp p ≤ 57) := by
  by_cases h : p < M
  · rw [dgp_s h]
    by_cases r : 48 ≤ tp p ∧ tp p ≤ 57
    · rw [if_pos r]; exact ⟨fun _ => ⟨h, r⟩, fun _ => by omega⟩
    · rw [if_neg r]; exact ⟨fun q => absurd q (by omega), fun q => absurd q.2 r⟩
  · rw [dgp_e (by omega)]; exact ⟨fun q => absurd q (by omega), fun q => absurd q.1 h⟩
theorem ltp_0 : 0 < ltp tp M p ↔ (p < M ∧ 97 ≤ tp p ∧ tp p ≤ 122) := by
  by_cases h : p < M
  · rw [ltp_s h]
    by_cases r : 97 ≤ tp p ∧ tp p ≤ 122
    · rw [if_pos r]; exact ⟨fun _ => ⟨h, r⟩, fun _ => by omega⟩
    · rw [if_neg r]; exact ⟨fun q => absurd q (by omega), fun q => absurd q.2 r⟩
  · rw [ltp_e (by omega)]; exact ⟨fun q => absurd q (by omega), fun q => absurd q.1 h⟩
theorem wm_le {i : Nat} (hp : p ≤ M) (h : wm tp M p i) : p + st_n i ≤ M := by
  rw [← h.1]; exact ltp_le hp
end TPS
