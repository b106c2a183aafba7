/-! THE TWIN'S PARSER: its state, leaf methods -/
set_option maxRecDepth 100000
def pN (Nb : Nat → Int32) (p f en de co op : Int32) : Nat → Int32 := fun k => if k = 20 then p else if k = 21 then f else if k = 24 then en else if k = 25 then de else if k = 26 then co else if k = 27 then op else Nb k
def pQ (Qb : Nat → Nat → Int32) (so nu on : Nat → Int32) : Nat → Nat → Int32 := fun k => if k = 30 then so else if k = 31 then nu else if k = 36 then on else Qb k
section PNQ
variable {Nb : Nat → Int32} {Qb : Nat → Nat → Int32} {p f en de co op v : Int32} {so nu on g : Nat → Int32}
theorem pN_r : pN Nb p f en de co op 20 = p ∧ pN Nb p f en de co op 21 = f ∧ pN Nb p f en de co op 24 = en ∧ pN Nb p f en de co op 25 = de ∧ pN Nb p f en de co op 26 = co ∧ pN Nb p f en de co op 27 = op ∧ pN Nb p f en de co op 19 = Nb 19 ∧ pN Nb p f en de co op 22 = Nb 22 ∧ pN Nb p f en de co op 23 = Nb 23 ∧ pN Nb p f en de co op 28 = Nb 28 := ⟨rfl, rfl, rfl, rfl, rfl, rfl, rfl, rfl, rfl, rfl⟩
theorem pN_w20 : va_up (pN Nb p f en de co op) 20 v = pN Nb v f en de co op := by
  funext k
  simp only [va_up, pN]
  by_cases r : k = 20
  · subst r; rfl
  · simp only [r, if_false]
theorem pN_w21 : va_up (pN Nb p f en de co op) 21 v = pN Nb p v en de co op := by
  funext k
  simp only [va_up, pN]
  by_cases r : k = 21
  · subst r; rfl
  · simp only [r, if_false]
theorem pN_w24 : va_up (pN Nb p f en de co op) 24 v = pN Nb p f v de co op := by
  funext k
  simp only [va_up, pN]
  by_cases r : k = 24
  · subst r; rfl
  · simp only [r, if_false]
theorem pN_w25 : va_up (pN Nb p f en de co op) 25 v = pN Nb p f en v co op := by
  funext k
  simp only [va_up, pN]
  by_cases r : k = 25
  · subst r; rfl
  · simp only [r, if_false]
theorem pN_w26 : va_up (pN Nb p f en de co op) 26 v = pN Nb p f en de v op := by
  funext k
  simp only [va_up, pN]
  by_cases r : k = 26
  · subst r; rfl
  · simp only [r, if_false]
theorem pN_w27 : va_up (pN Nb p f en de co op) 27 v = pN Nb p f en de co v := by
  funext k
  simp only [va_up, pN]
  by_cases r : k = 27
  · subst r; rfl
  · simp only [r, if_false]
theorem pN_w : va_up (pN Nb p f en de co op) 20 v = pN Nb v f en de co op ∧ va_up (pN Nb p f en de co op) 21 v = pN Nb p v en de co op ∧ va_up (pN Nb p f en de co op) 24 v = pN Nb p f v de co op ∧ va_up (pN Nb p f en de co op) 25 v = pN Nb p f en v co op ∧ va_up (pN Nb p f en de co op) 26 v = pN Nb p f en de v op ∧ va_up (pN Nb p f en de co op) 27 v = pN Nb p f en de co v := ⟨pN_w20, pN_w21, pN_w24, pN_w25, pN_w26, pN_w27⟩
theorem pQ_r : pQ Qb so nu on 30 = so ∧ pQ Qb so nu on 31 = nu ∧ pQ Qb so nu on 36 = on ∧ pQ Qb so nu on 29 = Qb 29 ∧ pQ Qb so nu on 32 = Qb 32 ∧ pQ Qb so nu on 33 = Qb 33 ∧ pQ Qb so nu on 34 = Qb 34 ∧ pQ Qb so nu on 35 = Qb 35 := ⟨rfl, rfl, rfl, rfl, rfl, rfl, rfl, rfl⟩
theorem pQ_w30 : va_up (pQ Qb so nu on) 30 g = pQ Qb g nu on := by
  funext k
  simp only [va_up, pQ]
  by_cases r : k = 30
  · subst r; rfl
  · simp only [r, if_false]
theorem pQ_w31 : va_up (pQ Qb so nu on) 31 g = pQ Qb so g on := by
  funext k
  simp only [va_up, pQ]
  by_cases r : k = 31
  · subst r; rfl
  · simp only [r, if_false]
theorem pQ_w36 : va_up (pQ Qb so nu on) 36 g = pQ Qb so nu g := by
  funext k
  simp only [va_up, pQ]
  by_cases r : k = 36
  · subst r; rfl
  · simp only [r, if_false]
theorem pQ_w : va_up (pQ Qb so nu on) 30 g = pQ Qb g nu on ∧ va_up (pQ Qb so nu on) 31 g = pQ Qb so g on ∧ va_up (pQ Qb so nu on) 36 g = pQ Qb so nu g := ⟨pQ_w30, pQ_w31, pQ_w36⟩
end PNQ
/-- a byte and what its sign says -/
def tb (tp : Nat → Int32) : Prop := ∀ k, -128 ≤ tp k ∧ tp k ≤ 127
theorem tb_v {v : Int32} (h : -128 ≤ v ∧ v ≤ 127) : (∀ c, c < 128 → (v &&& 255 = nI c ↔ v = nI c)) ∧ ((48 ≤ v &&& 255 ∧ v &&& 255 ≤ 57) ↔ (48 ≤ v ∧ v ≤ 57)) ∧ (0 ≤ v → v &&& 255 = v) ∧ ¬ v &&& 255 = -1 := by
  have key : ∀ k : Fin 256, (∀ c : Fin 128, (Int32.ofInt ((k.val : Int) - 128) &&& 255 = nI c.val ↔ Int32.ofInt ((k.val : Int) - 128) = nI c.val)) ∧ ((48 ≤ Int32.ofInt ((k.val : Int) - 128) &&& 255 ∧ Int32.ofInt ((k.val : Int) - 128) &&& 255 ≤ 57) ↔ (48 ≤ Int32.ofInt ((k.val : Int) - 128) ∧ Int32.ofInt ((k.val : Int) - 128) ≤ 57)) ∧ (0 ≤ Int32.ofInt ((k.val : Int) - 128) → Int32.ofInt ((k.val : Int) - 128) &&& 255 = Int32.ofInt ((k.val : Int) - 128)) ∧ ¬ Int32.ofInt ((k.val : Int) - 128) &&& 255 = -1 := by decide +kernel
  have h1 : (-128 : Int) ≤ v.toInt := Int32.le_iff_toInt_le.mp h.1
  have h2 : v.toInt ≤ 127 := Int32.le_iff_toInt_le.mp h.2
  have e : v = Int32.ofInt ((((v.toInt + 128).toNat : Nat) : Int) - 128) := by
    rw [show (((v.toInt + 128).toNat : Nat) : Int) - 128 = v.toInt by omega, Int32.ofInt_toInt]
  have := key ⟨(v.toInt + 128).toNat, by omega⟩
  dsimp only at this
  rw [← e] at this
  exact ⟨fun c hc => this.1 ⟨c, hc⟩, this.2⟩
section PLF
variable {d : Nat} {h : jx_H} {s : Nat → Int32} {a : Nat → Nat → Int32} {E Nb : Nat → Int32} {Qb : Nat → Nat → Int32} {W : Nat → Nat → Int64} {n M g sl i k : Nat} {p f en de co op v l : Int32} {so nu on : Nat → Int32}
/-- the fault that is kept -/
def flt (f : Int32) (k pl : Int32) : Int32 := if f = 0 then 1 + 8 * pl + k else f
theorem m_fails : jx_cr (d + 1) 67 [.ref 113, .int l, .int v] (tw h s a E (pN Nb (p) (f) (en) (de) (co) (op)) (pQ Qb (so) (nu) (on)) W) = some (.inl none, (tw h s a E (pN Nb (p) (flt f l v) (en) (de) (co) (op)) (pQ Qb (so) (nu) (on)) W)) := by
  by_cases r : f = 0
  · simp only [cr_67, eb_67_0, eb_67_19, eb_67_23, jx_ns_r, jx_ns_n, jx_ns_q, jx_ns_i, jx_gl_0, jx_gl_s, if_true, if_false, ite_true, ite_false, eq_self, Bool.false_eq_true, List.length_cons, List.length_nil, Nat.zero_le, Nat.reduceAdd, Nat.reduceSub, Nat.reduceLeDiff, Nat.reduceLT, Nat.reduceEqDiff, Int.reduceToNat, reduceIte, xe_aload, jx_rv_r, jx_rv_n, jx_rv_q, xk_getf, jx_gf_i, jx_ov_s, ak_V, xe_ifne, xe_iconst, xi_1, xx_1, xi_8, xx_8, xk_iload, jx_iv_i, ak_I, xe_imul, xe_iadd, xe_goto, xe_goto_w, xk_putf, ak_P, jx_pf_i, jx_pf_z, jx_pf_l, jx_pf_r, jx_pf_n, jx_pf_q, Nat.reduceMod, Nat.reduceDiv, xe_return, tw_r, tw_f, tw_s, tw_wo, pN_r, pN_w, pQ_r, pQ_w, tw_w30, tw_w31, tw_w36, va_up_s, r, flt]
  · simp only [cr_67, eb_67_0, eb_67_19, eb_67_23, jx_ns_r, jx_ns_n, jx_ns_q, jx_ns_i, jx_gl_0, jx_gl_s, if_true, if_false, ite_true, ite_false, eq_self, Bool.false_eq_true, List.length_cons, List.length_nil, Nat.zero_le, Nat.reduceAdd, Nat.reduceSub, Nat.reduceLeDiff, Nat.reduceLT, Nat.reduceEqDiff, Int.reduceToNat, reduceIte, xe_aload, jx_rv_r, jx_rv_n, jx_rv_q, xk_getf, jx_gf_i, jx_ov_s, ak_V, xe_ifne, xe_iconst, xi_1, xx_1, xi_8, xx_8, xk_iload, jx_iv_i, ak_I, xe_imul, xe_iadd, xe_goto, xe_goto_w, xk_putf, ak_P, jx_pf_i, jx_pf_z, jx_pf_l, jx_pf_r, jx_pf_n, jx_pf_q, Nat.reduceMod, Nat.reduceDiv, xe_return, tw_r, tw_f, tw_s, tw_wo, pN_r, pN_w, pQ_r, pQ_w, tw_w30, tw_w31, tw_w36, va_up_s, r, flt]
theorem m_sign (eM : Nb 19 = nI M) (hM : M ≤ 400) (hn : n ≤ 500) : jx_cr (d + 1) 68 [.ref 113] (tw h s a E (pN Nb (nI n) (f) (en) (de) (co) (op)) (pQ Qb (so) (nu) (on)) W) = some (.inl (some (.int (sg (Qb 29) M n))), (tw h s a E (pN Nb (nI n) (f) (en) (de) (co) (op)) (pQ Qb (so) (nu) (on)) W)) := by
  by_cases r : n < M
  · have h3 : ¬ nI M ≤ nI n := nI_ge r (by omega)
    have i1 := sp_ix (show n < 400 by omega) (by decide)
    simp only [cr_68, eb_68_0, eb_68_27, eb_68_28, jx_ns_r, jx_ns_n, jx_ns_q, jx_ns_i, jx_gl_0, jx_gl_s, if_true, if_false, ite_true, ite_false, eq_self, Bool.false_eq_true, List.length_cons, List.length_nil, Nat.zero_le, Nat.reduceAdd, Nat.reduceSub, Nat.reduceLeDiff, Nat.reduceLT, Nat.reduceEqDiff, Int.reduceToNat, reduceIte, xe_aload, jx_rv_r, jx_rv_n, jx_rv_q, xk_getf, jx_gf_i, jx_ov_s, ak_V, xe_icmp_ge, xk_bald, ja_ba, ak_A, ak_I, true_or, or_true, xe_iconst, xi_255, xe_iand, xe_goto, xi_m1, xe_goto_w, xe_ireturn, tw_r, tw_f, tw_s, tw_wo, pN_r, pN_w, pQ_r, pQ_w, tw_w30, tw_w31, tw_w36, va_up_s, eM, h3, i1, sg, if_pos r]
  · have h3 : nI M ≤ nI n := (nI_leI (by omega) (by omega)).mpr (by omega)
    simp only [cr_68, eb_68_0, eb_68_27, eb_68_28, jx_ns_r, jx_ns_n, jx_ns_q, jx_ns_i, jx_gl_0, jx_gl_s, if_true, if_false, ite_true, ite_false, eq_self, Bool.false_eq_true, List.length_cons, List.length_nil, Nat.zero_le, Nat.reduceAdd, Nat.reduceSub, Nat.reduceLeDiff, Nat.reduceLT, Nat.reduceEqDiff, Int.reduceToNat, reduceIte, xe_aload, jx_rv_r, jx_rv_n, jx_rv_q, xk_getf, jx_gf_i, jx_ov_s, ak_V, xe_icmp_ge, xk_bald, ja_ba, ak_A, ak_I, true_or, or_true, xe_iconst, xi_255, xe_iand, xe_goto, xi_m1, xe_goto_w, xe_ireturn, tw_r, tw_f, tw_s, tw_wo, pN_r, pN_w, pQ_r, pQ_w, tw_w30, tw_w31, tw_w36, va_up_s, eM, h3, sg, if_neg r]
theorem m_blanks (eM : Nb 19 = nI M) (hM : M ≤ 400) (hb : tb (Qb 29)) (hn : n ≤ 500) : jx_cr (d + 2) 69 [.ref 113] (tw h s a E (pN Nb (nI n) (f) (en) (de) (co) (op)) (pQ Qb (so) (nu) (on)) W) = some (.inl none, (tw h s a E (pN Nb (nI (skp (Qb 29) M n)) (f) (en) (de) (co) (op)) (pQ Qb (so) (nu) (on)) W)) := by
  have s1 := fun d n hn => m_sign (d := d) (n := n) (h := h) (s := s) (a := a) (E := E) (Nb := Nb) (Qb := Qb) (W := W) (f := f) (en := en) (de := de) (co := co) (op := op) (so := so) (nu := nu) (on := on) eM hM hn
  by_cases hnM : n ≤ M
  · have l := jx_lp (d := d + 1) (y := 69) (L := 0) (n := M) (γ := Unit) (ls := fun _ _ => [.ref 113]) (H := fun m _ => (tw h s a E (pN Nb (nI m) (f) (en) (de) (co) (op)) (pQ Qb (so) (nu) (on)) W))
      (I := fun m _ => skp (Qb 29) M m = skp (Qb 29) M n)
      (G := fun r => r = some (.inl none, (tw h s a E (pN Nb (nI (skp (Qb 29) M n)) (f) (en) (de) (co) (op)) (pQ Qb (so) (nu) (on)) W))) ?_ ?_ (M - n) n () (by omega) rfl
    · simp only [cr_69]
      exact l
    · intro m _ hm hI
      have s2 := fun d => s1 d m (by omega)
      rw [sg, if_pos hm] at s2
      rw [skp_s hm] at hI
      have c32 : (Qb 29 m &&& 255 = 32 ↔ Qb 29 m = 32) := (tb_v (hb m)).1 32 (by omega)
      by_cases r : Qb 29 m = 32
      · rw [if_pos r] at hI
        have r2 := c32.mpr r
        rw [r2] at s2
        refine .inr ⟨(), hI, ?_⟩
        rw [eb_69_0]
        simp only [jx_ns_r, jx_ns_n, jx_ns_q, jx_ns_i, jx_gl_0, jx_gl_s, if_true, if_false, ite_true, ite_false, eq_self, Bool.false_eq_true, List.length_cons, List.length_nil, Nat.zero_le, Nat.reduceAdd, Nat.reduceSub, Nat.reduceLeDiff, Nat.reduceLT, Nat.reduceEqDiff, Int.reduceToNat, reduceIte, xe_aload, jx_rv_r, jx_rv_n, jx_rv_q, xe_inv0, jx_cc_i, jx_cc_v, Nat.reduceMod, Nat.reduceDiv, jx_cl9_i, xe_iconst, xi_32, xe_icmp_ne, xe_dup, jx_2_i, jx_2_l, jx_2_r, jx_2_n, jx_2_q, or_self, xk_getf, jx_gf_i, jx_ov_s, ak_V, xi_1, xx_1, xe_iadd, xk_putf, ak_P, jx_pf_i, jx_pf_z, jx_pf_l, jx_pf_r, jx_pf_n, jx_pf_q, xe_goto, xe_return, tw_r, tw_f, tw_s, tw_wo, pN_r, pN_w, pQ_r, pQ_w, tw_w30, tw_w31, tw_w36, va_up_s, s2, nI_1]
      · rw [if_neg r] at hI
        have r2 := mt c32.mp r
        refine .inl ?_
        rw [eb_69_0, ← hI]
        simp only [eb_69_22, jx_ns_r, jx_ns_n, jx_ns_q, jx_ns_i, jx_gl_0, jx_gl_s, if_true, if_false, ite_true, ite_false, eq_self, Bool.false_eq_true, List.length_cons, List.length_nil, Nat.zero_le, Nat.reduceAdd, Nat.reduceSub, Nat.reduceLeDiff, Nat.reduceLT, Nat.reduceEqDiff, Int.reduceToNat, reduceIte, xe_aload, jx_rv_r, jx_rv_n, jx_rv_q, xe_inv0, jx_cc_i, jx_cc_v, Nat.reduceMod, Nat.reduceDiv, jx_cl9_i, xe_iconst, xi_32, xe_icmp_ne, xe_dup, jx_2_i, jx_2_l, jx_2_r, jx_2_n, jx_2_q, or_self, xk_getf, jx_gf_i, jx_ov_s, ak_V, xi_1, xx_1, xe_iadd, xk_putf, ak_P, jx_pf_i, jx_pf_z, jx_pf_l, jx_pf_r, jx_pf_n, jx_pf_q, xe_goto, xe_return, tw_r, tw_f, tw_s, tw_wo, pN_r, pN_w, pQ_r, pQ_w, tw_w30, tw_w31, tw_w36, va_up_s, s2, r2]
    · intro _ hI
      have s2 := fun d => s1 d M (by omega)
      rw [sg, if_neg (by omega)] at s2
      have e1 : ¬ (-1 : Int32) = 32 := by decide
      rw [skp_e (Nat.le_refl _)] at hI
      rw [eb_69_0, ← hI]
      simp only [eb_69_22, jx_ns_r, jx_ns_n, jx_ns_q, jx_ns_i, jx_gl_0, jx_gl_s, if_true, if_false, ite_true, ite_false, eq_self, Bool.false_eq_true, List.length_cons, List.length_nil, Nat.zero_le, Nat.reduceAdd, Nat.reduceSub, Nat.reduceLeDiff, Nat.reduceLT, Nat.reduceEqDiff, Int.reduceToNat, reduceIte, xe_aload, jx_rv_r, jx_rv_n, jx_rv_q, xe_inv0, jx_cc_i, jx_cc_v, Nat.reduceMod, Nat.reduceDiv, jx_cl9_i, xe_iconst, xi_32, xe_icmp_ne, xe_dup, jx_2_i, jx_2_l, jx_2_r, jx_2_n, jx_2_q, or_self, xk_getf, jx_gf_i, jx_ov_s, ak_V, xi_1, xx_1, xe_iadd, xk_putf, ak_P, jx_pf_i, jx_pf_z, jx_pf_l, jx_pf_r, jx_pf_n, jx_pf_q, xe_goto, xe_return, tw_r, tw_f, tw_s, tw_wo, pN_r, pN_w, pQ_r, pQ_w, tw_w30, tw_w31, tw_w36, va_up_s, s2, e1]
  · have s2 := fun d => s1 d n hn
    rw [sg, if_neg (by omega)] at s2
    have e1 : ¬ (-1 : Int32) = 32 := by decide
    rw [skp_e (by omega)]
    simp only [cr_69, eb_69_0, eb_69_22, jx_ns_r, jx_ns_n, jx_ns_q, jx_ns_i, jx_gl_0, jx_gl_s, if_true, if_false, ite_true, ite_false, eq_self, Bool.false_eq_true, List.length_cons, List.length_nil, Nat.zero_le, Nat.reduceAdd, Nat.reduceSub, Nat.reduceLeDiff, Nat.reduceLT, Nat.reduceEqDiff, Int.reduceToNat, reduceIte, xe_aload, jx_rv_r, jx_rv_n, jx_rv_q, xe_inv0, jx_cc_i, jx_cc_v, Nat.reduceMod, Nat.reduceDiv, jx_cl9_i, xe_iconst, xi_32, xe_icmp_ne, xe_dup, jx_2_i, jx_2_l, jx_2_r, jx_2_n, jx_2_q, or_self, xk_getf, jx_gf_i, jx_ov_s, ak_V, xi_1, xx_1, xe_iadd, xk_putf, ak_P, jx_pf_i, jx_pf_z, jx_pf_l, jx_pf_r, jx_pf_n, jx_pf_q, xe_goto, xe_return, tw_r, tw_f, tw_s, tw_wo, pN_r, pN_w, pQ_r, pQ_w, tw_w30, tw_w31, tw_w36, va_up_s, s2, e1]
theorem m_isDigit (eM : Nb 19 = nI M) (hM : M ≤ 400) (hb : tb (Qb 29)) (hn : n ≤ 500) : jx_cr (d + 2) 70 [.ref 113] (tw h s a E (pN Nb (nI n) (f) (en) (de) (co) (op)) (pQ Qb (so) (nu) (on)) W) = some (.inl (some (.int (if 0 < dgp (Qb 29) M n then 1 else 0))), (tw h s a E (pN Nb (nI n) (f) (en) (de) (co) (op)) (pQ Qb (so) (nu) (on)) W)) := by
  have s1 := fun d => m_sign (d := d) (n := n) (h := h) (s := s) (a := a) (E := E) (Nb := Nb) (Qb := Qb) (W := W) (f := f) (en := en) (de := de) (co := co) (op := op) (so := so) (nu := nu) (on := on) eM hM hn
  have e48 : (48 : Int64) = (48 : Int32).toInt64 := by decide
  have e57 : (57 : Int64) = (57 : Int32).toInt64 := by decide
  have in1 : ∀ v : Int32, ((48 : Int64) ≤ v.toInt64 ∧ v.toInt64 ≤ 57) ↔ (48 ≤ v ∧ v ≤ 57) := fun v => by rw [e48, e57, sp_l64, sp_l64]
  by_cases r : n < M
  · rw [sg, if_pos r] at s1
    have b := (tb_v (hb n)).2.1
    by_cases q : 48 ≤ Qb 29 n ∧ Qb 29 n ≤ 57
    · have g : 0 < dgp (Qb 29) M n := dgp_0.mpr ⟨r, q⟩
      have i2 := (in1 _).mpr (b.mpr q)
      simp only [cr_70, eb_70_0, jx_ns_r, jx_ns_n, jx_ns_q, jx_ns_i, jx_gl_0, jx_gl_s, if_true, if_false, ite_true, ite_false, eq_self, Bool.false_eq_true, List.length_cons, List.length_nil, Nat.zero_le, Nat.reduceAdd, Nat.reduceSub, Nat.reduceLeDiff, Nat.reduceLT, Nat.reduceEqDiff, Int.reduceToNat, reduceIte, xe_aload, jx_rv_r, jx_rv_n, jx_rv_q, xe_inv0, jx_cc_i, jx_cc_v, Nat.reduceMod, Nat.reduceDiv, jx_cl9_i, xe_i2l, xe_lconst, xl_48, xl_57, xe_sta3, xe_zreturn, xZ, tw_r, tw_f, tw_s, tw_wo, pN_r, pN_w, pQ_r, pQ_w, tw_w30, tw_w31, tw_w36, va_up_s, s1, tq_inL, i2, and_self, g]
    · have g : ¬ 0 < dgp (Qb 29) M n := fun z => q (dgp_0.mp z).2
      have i2 := mt (in1 _).mp (mt b.mp q)
      simp only [cr_70, eb_70_0, jx_ns_r, jx_ns_n, jx_ns_q, jx_ns_i, jx_gl_0, jx_gl_s, if_true, if_false, ite_true, ite_false, eq_self, Bool.false_eq_true, List.length_cons, List.length_nil, Nat.zero_le, Nat.reduceAdd, Nat.reduceSub, Nat.reduceLeDiff, Nat.reduceLT, Nat.reduceEqDiff, Int.reduceToNat, reduceIte, xe_aload, jx_rv_r, jx_rv_n, jx_rv_q, xe_inv0, jx_cc_i, jx_cc_v, Nat.reduceMod, Nat.reduceDiv, jx_cl9_i, xe_i2l, xe_lconst, xl_48, xl_57, xe_sta3, xe_zreturn, xZ, tw_r, tw_f, tw_s, tw_wo, pN_r, pN_w, pQ_r, pQ_w, tw_w30, tw_w31, tw_w36, va_up_s, s1, tq_inL, i2, g]
  · rw [sg, if_neg r] at s1
    have g : ¬ 0 < dgp (Qb 29) M n := fun z => r (dgp_0.mp z).1
    have i2 : ¬ ((48 : Int64) ≤ (-1 : Int32).toInt64 ∧ (-1 : Int32).toInt64 ≤ 57) := by decide
    simp only [cr_70, eb_70_0, jx_ns_r, jx_ns_n, jx_ns_q, jx_ns_i, jx_gl_0, jx_gl_s, if_true, if_false, ite_true, ite_false, eq_self, Bool.false_eq_true, List.length_cons, List.length_nil, Nat.zero_le, Nat.reduceAdd, Nat.reduceSub, Nat.reduceLeDiff, Nat.reduceLT, Nat.reduceEqDiff, Int.reduceToNat, reduceIte, xe_aload, jx_rv_r, jx_rv_n, jx_rv_q, xe_inv0, jx_cc_i, jx_cc_v, Nat.reduceMod, Nat.reduceDiv, jx_cl9_i, xe_i2l, xe_lconst, xl_48, xl_57, xe_sta3, xe_zreturn, xZ, tw_r, tw_f, tw_s, tw_wo, pN_r, pN_w, pQ_r, pQ_w, tw_w30, tw_w31, tw_w36, va_up_s, s1, tq_inL, i2, g]
theorem ss_tw {N : Nat → Int32} {Q : Nat → Nat → Int32} (hs : ss_ok h) : ss_ok (tw h s a E N Q W) := by
  intro i hi
  rw [tw_out (by omega), tw_out (by omega)]
  exact hs i hi
theorem m_stood (hs : ss_ok h) (hi : i < 22) (eM : Nb 19 = nI M) (hM : M ≤ 400) (hn : n ≤ 500) : jx_cr (d + 5) 71 [.ref 113, .ref (4 + i)] (tw h s a E (pN Nb (nI n) (f) (en) (de) (co) (op)) (pQ Qb (so) (nu) (on)) W) = some (.inl (some (.int (sp_bl (wm (Qb 29) M n i)))), (tw h s a E (pN Nb (nI n) (f) (en) (de) (co) (op)) (pQ Qb (so) (nu) (on)) W)) := by
  have hH : ss_ok (tw h s a E (pN Nb (nI n) (f) (en) (de) (co) (op)) (pQ Qb (so) (nu) (on)) W) := ss_tw hs
  have sl := fun d => String_length (d := d) hH hi
  obtain ⟨⟨fs, h19⟩, _⟩ := hH i hi
  have nb := st_nb hi
  have ll : n ≤ M → n + ltp (Qb 29) M n ≤ M := fun z => ltp_le z
  have l1 : jx_eb (d + 4) 71 5 [.ref 113, .ref (4 + i), .int (nI n), jx_un, jx_un] [] (tw h s a E (pN Nb (nI n) (f) (en) (de) (co) (op)) (pQ Qb (so) (nu) (on)) W) = jx_eb (d + 4) 71 41 [.ref 113, .ref (4 + i), .int (nI (n + ltp (Qb 29) M n)), jx_un, jx_un] [] (tw h s a E (pN Nb (nI n) (f) (en) (de) (co) (op)) (pQ Qb (so) (nu) (on)) W) := by
    by_cases hnM : n ≤ M
    · refine jx_lp (d := d + 4) (y := 71) (L := 5) (n := M - n) (γ := Unit) (ls := fun k _ => [.ref 113, .ref (4 + i), .int (nI (n + k)), jx_un, jx_un]) (H := fun _ _ => (tw h s a E (pN Nb (nI n) (f) (en) (de) (co) (op)) (pQ Qb (so) (nu) (on)) W))
        (I := fun k _ => k ≤ ltp (Qb 29) M n)
        (G := fun r => r = jx_eb (d + 4) 71 41 [.ref 113, .ref (4 + i), .int (nI (n + ltp (Qb 29) M n)), jx_un, jx_un] [] (tw h s a E (pN Nb (nI n) (f) (en) (de) (co) (op)) (pQ Qb (so) (nu) (on)) W)) ?_ ?_ (M - n) 0 () (by omega) (by omega)
      · intro k _ hk hI
        have ek := ltp_k k hI
        have h3 : ¬ nI M ≤ nI (n + k) := nI_ge (by omega) (by omega)
        have i1 := sp_ix (show n + k < 400 by omega) (by decide)
        rw [ltp_s (show n + k < M by omega)] at ek
        by_cases r : 97 ≤ Qb 29 (n + k) ∧ Qb 29 (n + k) ≤ 122
        · rw [if_pos r] at ek
          have r1 : ¬ Qb 29 (n + k) < 97 := Int32.not_lt.mpr r.1
          have r2 : ¬ 122 < Qb 29 (n + k) := Int32.not_lt.mpr r.2
          refine .inr ⟨(), by omega, ?_⟩
          rw [eb_71_5]
          simp only [jx_ns_r, jx_ns_n, jx_ns_q, jx_ns_i, jx_gl_0, jx_gl_s, if_true, if_false, ite_true, ite_false, eq_self, Bool.false_eq_true, List.length_cons, List.length_nil, Nat.zero_le, Nat.reduceAdd, Nat.reduceSub, Nat.reduceLeDiff, Nat.reduceLT, Nat.reduceEqDiff, Int.reduceToNat, reduceIte, xe_aload, jx_rv_r, jx_rv_n, jx_rv_q, xk_getf, jx_gf_i, jx_ov_s, ak_V, xe_istore, xe_goto_w, xk_iload, jx_iv_i, ak_I, xe_icmp_ge, xk_bald, ja_ba, ak_A, true_or, or_true, xe_iconst, xi_97, xe_icmp_lt, xi_122, xe_icmp_gt, xk_iinc, ak_C, xi_1, xe_goto, xe_isub, xe_inv0, jx_cc_i, jx_cc_v, Nat.reduceMod, Nat.reduceDiv, jx_cl9_i, xe_icmp_ne, xx_1, xi_0, xx_0, xe_ifeq, xe_iadd, xe_inv1, xe_zreturn, xZ, jx_s1, List.set_cons_zero, List.set_cons_succ, jx_2_i, jx_2_l, jx_2_r, jx_2_n, jx_2_u, jx_2_s, jx_2_q, jx_k_i, jx_k_l, jx_k_r, jx_k_n, jx_k_u, jx_k_s, jx_k_q, tw_r, tw_f, tw_s, tw_wo, pN_r, pN_w, pQ_r, pQ_w, tw_w30, tw_w31, tw_w36, va_up_s, eM, h3, i1, r1, r2, nI_1, Nat.add_assoc]
        · rw [if_neg r] at ek
          refine .inl ?_
          rw [show ltp (Qb 29) M n = k by omega, eb_71_5]
          by_cases r1 : Qb 29 (n + k) < 97
          · simp only [jx_ns_r, jx_ns_n, jx_ns_q, jx_ns_i, jx_gl_0, jx_gl_s, if_true, if_false, ite_true, ite_false, eq_self, Bool.false_eq_true, List.length_cons, List.length_nil, Nat.zero_le, Nat.reduceAdd, Nat.reduceSub, Nat.reduceLeDiff, Nat.reduceLT, Nat.reduceEqDiff, Int.reduceToNat, reduceIte, xe_aload, jx_rv_r, jx_rv_n, jx_rv_q, xk_getf, jx_gf_i, jx_ov_s, ak_V, xe_istore, xe_goto_w, xk_iload, jx_iv_i, ak_I, xe_icmp_ge, xk_bald, ja_ba, ak_A, true_or, or_true, xe_iconst, xi_97, xe_icmp_lt, xi_122, xe_icmp_gt, xk_iinc, ak_C, xi_1, xe_goto, xe_isub, xe_inv0, jx_cc_i, jx_cc_v, Nat.reduceMod, Nat.reduceDiv, jx_cl9_i, xe_icmp_ne, xx_1, xi_0, xx_0, xe_ifeq, xe_iadd, xe_inv1, xe_zreturn, xZ, jx_s1, List.set_cons_zero, List.set_cons_succ, jx_2_i, jx_2_l, jx_2_r, jx_2_n, jx_2_u, jx_2_s, jx_2_q, jx_k_i, jx_k_l, jx_k_r, jx_k_n, jx_k_u, jx_k_s, jx_k_q, tw_r, tw_f, tw_s, tw_wo, pN_r, pN_w, pQ_r, pQ_w, tw_w30, tw_w31, tw_w36, va_up_s, eM, h3, i1, r1]
          · have r2 : 122 < Qb 29 (n + k) := Int32.not_le.mp (fun q => r ⟨Int32.not_lt.mp r1, q⟩)
            simp only [jx_ns_r, jx_ns_n, jx_ns_q, jx_ns_i, jx_gl_0, jx_gl_s, if_true, if_false, ite_true, ite_false, eq_self, Bool.false_eq_true, List.length_cons, List.length_nil, Nat.zero_le, Nat.reduceAdd, Nat.reduceSub, Nat.reduceLeDiff, Nat.reduceLT, Nat.reduceEqDiff, Int.reduceToNat, reduceIte, xe_aload, jx_rv_r, jx_rv_n, jx_rv_q, xk_getf, jx_gf_i, jx_ov_s, ak_V, xe_istore, xe_goto_w, xk_iload, jx_iv_i, ak_I, xe_icmp_ge, xk_bald, ja_ba, ak_A, true_or, or_true, xe_iconst, xi_97, xe_icmp_lt, xi_122, xe_icmp_gt, xk_iinc, ak_C, xi_1, xe_goto, xe_isub, xe_inv0, jx_cc_i, jx_cc_v, Nat.reduceMod, Nat.reduceDiv, jx_cl9_i, xe_icmp_ne, xx_1, xi_0, xx_0, xe_ifeq, xe_iadd, xe_inv1, xe_zreturn, xZ, jx_s1, List.set_cons_zero, List.set_cons_succ, jx_2_i, jx_2_l, jx_2_r, jx_2_n, jx_2_u, jx_2_s, jx_2_q, jx_k_i, jx_k_l, jx_k_r, jx_k_n, jx_k_u, jx_k_s, jx_k_q, tw_r, tw_f, tw_s, tw_wo, pN_r, pN_w, pQ_r, pQ_w, tw_w30, tw_w31, tw_w36, va_up_s, eM, h3, i1, r1, r2]
      · intro _ hI
        have h3 : nI M ≤ nI (n + (M - n)) := (nI_leI (by omega) (by omega)).mpr (by omega)
        have := ll hnM
        rw [show ltp (Qb 29) M n = M - n by omega, eb_71_5]
        simp only [jx_ns_r, jx_ns_n, jx_ns_q, jx_ns_i, jx_gl_0, jx_gl_s, if_true, if_false, ite_true, ite_false, eq_self, Bool.false_eq_true, List.length_cons, List.length_nil, Nat.zero_le, Nat.reduceAdd, Nat.reduceSub, Nat.reduceLeDiff, Nat.reduceLT, Nat.reduceEqDiff, Int.reduceToNat, reduceIte, xe_aload, jx_rv_r, jx_rv_n, jx_rv_q, xk_getf, jx_gf_i, jx_ov_s, ak_V, xe_istore, xe_goto_w, xk_iload, jx_iv_i, ak_I, xe_icmp_ge, xk_bald, ja_ba, ak_A, true_or, or_true, xe_iconst, xi_97, xe_icmp_lt, xi_122, xe_icmp_gt, xk_iinc, ak_C, xi_1, xe_goto, xe_isub, xe_inv0, jx_cc_i, jx_cc_v, Nat.reduceMod, Nat.reduceDiv, jx_cl9_i, xe_icmp_ne, xx_1, xi_0, xx_0, xe_ifeq, xe_iadd, xe_inv1, xe_zreturn, xZ, jx_s1, List.set_cons_zero, List.set_cons_succ, jx_2_i, jx_2_l, jx_2_r, jx_2_n, jx_2_u, jx_2_s, jx_2_q, jx_k_i, jx_k_l, jx_k_r, jx_k_n, jx_k_u, jx_k_s, jx_k_q, tw_r, tw_f, tw_s, tw_wo, pN_r, pN_w, pQ_r, pQ_w, tw_w30, tw_w31, tw_w36, va_up_s, eM, h3]
    · have h3 : nI M ≤ nI n := (nI_leI (by omega) (by omega)).mpr (by omega)
      rw [ltp_e (by omega), eb_71_5]
      simp only [jx_ns_r, jx_ns_n, jx_ns_q, jx_ns_i, jx_gl_0, jx_gl_s, if_true, if_false, ite_true, ite_false, eq_self, Bool.false_eq_true, List.length_cons, List.length_nil, Nat.zero_le, Nat.reduceAdd, Nat.reduceSub, Nat.reduceLeDiff, Nat.reduceLT, Nat.reduceEqDiff, Int.reduceToNat, reduceIte, xe_aload, jx_rv_r, jx_rv_n, jx_rv_q, xk_getf, jx_gf_i, jx_ov_s, ak_V, xe_istore, xe_goto_w, xk_iload, jx_iv_i, ak_I, xe_icmp_ge, xk_bald, ja_ba, ak_A, true_or, or_true, xe_iconst, xi_97, xe_icmp_lt, xi_122, xe_icmp_gt, xk_iinc, ak_C, xi_1, xe_goto, xe_isub, xe_inv0, jx_cc_i, jx_cc_v, Nat.reduceMod, Nat.reduceDiv, jx_cl9_i, xe_icmp_ne, xx_1, xi_0, xx_0, xe_ifeq, xe_iadd, xe_inv1, xe_zreturn, xZ, jx_s1, List.set_cons_zero, List.set_cons_succ, jx_2_i, jx_2_l, jx_2_r, jx_2_n, jx_2_u, jx_2_s, jx_2_q, jx_k_i, jx_k_l, jx_k_r, jx_k_n, jx_k_u, jx_k_s, jx_k_q, tw_r, tw_f, tw_s, tw_wo, pN_r, pN_w, pQ_r, pQ_w, tw_w30, tw_w31, tw_w36, va_up_s, eM, h3, Nat.add_zero]
  have lle : ltp (Qb 29) M n ≤ 500 := by
    by_cases hnM : n ≤ M
    · have := ll hnM; omega
    · rw [ltp_e (by omega)]; omega
  have es : nI (n + ltp (Qb 29) M n) - nI n = nI (ltp (Qb 29) M n) := by rw [pk_sub (by omega)]; congr 1; omega
  by_cases r0 : ltp (Qb 29) M n = st_n i
  · have hnM : n ≤ M := Nat.le_of_not_lt (fun z => by rw [ltp_e (by omega)] at r0; omega)
    have lln := ll hnM
    have l := jx_lp (d := d + 4) (y := 71) (L := 63) (n := st_n i) (γ := Unit) (ls := fun k _ => [.ref 113, .ref (4 + i), .int (nI (n + st_n i)), .int 1, .int (nI k)]) (H := fun _ _ => (tw h s a E (pN Nb (nI n) (f) (en) (de) (co) (op)) (pQ Qb (so) (nu) (on)) W))
      (I := fun k _ => ∀ j, j < k → Qb 29 (n + j) = st_c i j)
      (G := fun r => r = some (.inl (some (.int (sp_bl (wm (Qb 29) M n i)))), (tw h s a E (pN Nb (nI n) (f) (en) (de) (co) (op)) (pQ Qb (so) (nu) (on)) W))) ?_ ?_ (st_n i) 0 () (by omega) (fun j hj => absurd hj (by omega))
    · rw [nI_0] at l
      rw [r0] at l1 es
      simp only [cr_71 jx_ns_r, eb_71_0, jx_ns_r, jx_ns_n, jx_ns_q, jx_ns_i, jx_gl_0, jx_gl_s, if_true, if_false, ite_true, ite_false, eq_self, Bool.false_eq_true, List.length_cons, List.length_nil, Nat.zero_le, Nat.reduceAdd, Nat.reduceSub, Nat.reduceLeDiff, Nat.reduceLT, Nat.reduceEqDiff, Int.reduceToNat, reduceIte, xe_aload, jx_rv_r, jx_rv_n, jx_rv_q, xk_getf, jx_gf_i, jx_ov_s, ak_V, xe_istore, xe_goto_w, xk_iload, jx_iv_i, ak_I, xe_icmp_ge, xk_bald, ja_ba, ak_A, true_or, or_true, xe_iconst, xi_97, xe_icmp_lt, xi_122, xe_icmp_gt, xk_iinc, ak_C, xi_1, xe_goto, xe_isub, xe_inv0, jx_cc_i, jx_cc_v, Nat.reduceMod, Nat.reduceDiv, jx_cl9_i, xe_icmp_ne, xx_1, xi_0, xx_0, xe_ifeq, xe_iadd, xe_inv1, xe_zreturn, xZ, jx_s1, List.set_cons_zero, List.set_cons_succ, jx_2_i, jx_2_l, jx_2_r, jx_2_n, jx_2_u, jx_2_s, jx_2_q, jx_k_i, jx_k_l, jx_k_r, jx_k_n, jx_k_u, jx_k_s, jx_k_q, tw_r, tw_f, tw_s, tw_wo, pN_r, pN_w, pQ_r, pQ_w, tw_w30, tw_w31, tw_w36, va_up_s, l1, eb_71_41, eb_71_59, es, h19, sl]
      exact l
    · intro k _ hk hI
      have sc := fun d => String_charAt (d := d) hH hi hk
      have h3 : ¬ nI (st_n i) ≤ nI k := nI_ge hk (by omega)
      have i1 := sp_ix (show n + k < 400 by omega) (by decide)
      by_cases r : Qb 29 (n + k) = st_c i k
      · refine .inr ⟨(), fun j hj => ?_, ?_⟩
        · rcases (show j < k ∨ j = k by omega) with q | q
          · exact hI j q
          · subst q; exact r
        · rw [eb_71_63]
          simp only [eb_71_102, jx_ns_r, jx_ns_n, jx_ns_q, jx_ns_i, jx_gl_0, jx_gl_s, if_true, if_false, ite_true, ite_false, eq_self, Bool.false_eq_true, List.length_cons, List.length_nil, Nat.zero_le, Nat.reduceAdd, Nat.reduceSub, Nat.reduceLeDiff, Nat.reduceLT, Nat.reduceEqDiff, Int.reduceToNat, reduceIte, xe_aload, jx_rv_r, jx_rv_n, jx_rv_q, xk_getf, jx_gf_i, jx_ov_s, ak_V, xe_istore, xe_goto_w, xk_iload, jx_iv_i, ak_I, xe_icmp_ge, xk_bald, ja_ba, ak_A, true_or, or_true, xe_iconst, xi_97, xe_icmp_lt, xi_122, xe_icmp_gt, xk_iinc, ak_C, xi_1, xe_goto, xe_isub, xe_inv0, jx_cc_i, jx_cc_v, Nat.reduceMod, Nat.reduceDiv, jx_cl9_i, xe_icmp_ne, xx_1, xi_0, xx_0, xe_ifeq, xe_iadd, xe_inv1, xe_zreturn, xZ, jx_s1, List.set_cons_zero, List.set_cons_succ, jx_2_i, jx_2_l, jx_2_r, jx_2_n, jx_2_u, jx_2_s, jx_2_q, jx_k_i, jx_k_l, jx_k_r, jx_k_n, jx_k_u, jx_k_s, jx_k_q, tw_r, tw_f, tw_s, tw_wo, pN_r, pN_w, pQ_r, pQ_w, tw_w30, tw_w31, tw_w36, va_up_s, h19, sl, sc, sp_10, h3, nI_add, i1, r, nI_1]
      · refine .inl ?_
        rw [sp_bl_f (fun q => r (q.2 k hk)), eb_71_63]
        have h4 : ∀ z : Int32, True := fun _ => trivial
        simp only [eb_71_101, eb_71_102, jx_ns_r, jx_ns_n, jx_ns_q, jx_ns_i, jx_gl_0, jx_gl_s, if_true, if_false, ite_true, ite_false, eq_self, Bool.false_eq_true, List.length_cons, List.length_nil, Nat.zero_le, Nat.reduceAdd, Nat.reduceSub, Nat.reduceLeDiff, Nat.reduceLT, Nat.reduceEqDiff, Int.reduceToNat, reduceIte, xe_aload, jx_rv_r, jx_rv_n, jx_rv_q, xk_getf, jx_gf_i, jx_ov_s, ak_V, xe_istore, xe_goto_w, xk_iload, jx_iv_i, ak_I, xe_icmp_ge, xk_bald, ja_ba, ak_A, true_or, or_true, xe_iconst, xi_97, xe_icmp_lt, xi_122, xe_icmp_gt, xk_iinc, ak_C, xi_1, xe_goto, xe_isub, xe_inv0, jx_cc_i, jx_cc_v, Nat.reduceMod, Nat.reduceDiv, jx_cl9_i, xe_icmp_ne, xx_1, xi_0, xx_0, xe_ifeq, xe_iadd, xe_inv1, xe_zreturn, xZ, jx_s1, List.set_cons_zero, List.set_cons_succ, jx_2_i, jx_2_l, jx_2_r, jx_2_n, jx_2_u, jx_2_s, jx_2_q, jx_k_i, jx_k_l, jx_k_r, jx_k_n, jx_k_u, jx_k_s, jx_k_q, tw_r, tw_f, tw_s, tw_wo, pN_r, pN_w, pQ_r, pQ_w, tw_w30, tw_w31, tw_w36, va_up_s, h19, sl, sc, sp_10, h3, nI_add, i1, r]
        rw [eb_71_63]
        simp only [eb_71_109, jx_ns_r, jx_ns_n, jx_ns_q, jx_ns_i, jx_gl_0, jx_gl_s, if_true, if_false, ite_true, ite_false, eq_self, Bool.false_eq_true, List.length_cons, List.length_nil, Nat.zero_le, Nat.reduceAdd, Nat.reduceSub, Nat.reduceLeDiff, Nat.reduceLT, Nat.reduceEqDiff, Int.reduceToNat, reduceIte, xe_aload, jx_rv_r, jx_rv_n, jx_rv_q, xk_getf, jx_gf_i, jx_ov_s, ak_V, xe_istore, xe_goto_w, xk_iload, jx_iv_i, ak_I, xe_icmp_ge, xk_bald, ja_ba, ak_A, true_or, or_true, xe_iconst, xi_97, xe_icmp_lt, xi_122, xe_icmp_gt, xk_iinc, ak_C, xi_1, xe_goto, xe_isub, xe_inv0, jx_cc_i, jx_cc_v, Nat.reduceMod, Nat.reduceDiv, jx_cl9_i, xe_icmp_ne, xx_1, xi_0, xx_0, xe_ifeq, xe_iadd, xe_inv1, xe_zreturn, xZ, jx_s1, List.set_cons_zero, List.set_cons_succ, jx_2_i, jx_2_l, jx_2_r, jx_2_n, jx_2_u, jx_2_s, jx_2_q, jx_k_i, jx_k_l, jx_k_r, jx_k_n, jx_k_u, jx_k_s, jx_k_q, tw_r, tw_f, tw_s, tw_wo, pN_r, pN_w, pQ_r, pQ_w, tw_w30, tw_w31, tw_w36, va_up_s, h19, sl, xZ]
        split <;> rfl
    · intro _ hI
      have h3 : nI (st_n i) ≤ nI (st_n i) := (nI_leI (by omega) (by omega)).mpr (Nat.le_refl _)
      rw [sp_bl_t (show wm (Qb 29) M n i from ⟨r0, hI⟩), eb_71_63]
      simp only [eb_71_109, jx_ns_r, jx_ns_n, jx_ns_q, jx_ns_i, jx_gl_0, jx_gl_s, if_true, if_false, ite_true, ite_false, eq_self, Bool.false_eq_true, List.length_cons, List.length_nil, Nat.zero_le, Nat.reduceAdd, Nat.reduceSub, Nat.reduceLeDiff, Nat.reduceLT, Nat.reduceEqDiff, Int.reduceToNat, reduceIte, xe_aload, jx_rv_r, jx_rv_n, jx_rv_q, xk_getf, jx_gf_i, jx_ov_s, ak_V, xe_istore, xe_goto_w, xk_iload, jx_iv_i, ak_I, xe_icmp_ge, xk_bald, ja_ba, ak_A, true_or, or_true, xe_iconst, xi_97, xe_icmp_lt, xi_122, xe_icmp_gt, xk_iinc, ak_C, xi_1, xe_goto, xe_isub, xe_inv0, jx_cc_i, jx_cc_v, Nat.reduceMod, Nat.reduceDiv, jx_cl9_i, xe_icmp_ne, xx_1, xi_0, xx_0, xe_ifeq, xe_iadd, xe_inv1, xe_zreturn, xZ, jx_s1, List.set_cons_zero, List.set_cons_succ, jx_2_i, jx_2_l, jx_2_r, jx_2_n, jx_2_u, jx_2_s, jx_2_q, jx_k_i, jx_k_l, jx_k_r, jx_k_n, jx_k_u, jx_k_s, jx_k_q, tw_r, tw_f, tw_s, tw_wo, pN_r, pN_w, pQ_r, pQ_w, tw_w30, tw_w31, tw_w36, va_up_s, h19, sl, sp_10, h3, xZ]
  · have n0 : ¬ nI (ltp (Qb 29) M n) = nI (st_n i) := fun q => r0 ((nI_eq (by omega) (by omega)).mp q)
    rw [sp_bl_f (fun q => r0 q.1)]
    have h0 : ¬ nI (st_n i) ≤ 0 := nI_ge (a := 0) (b := st_n i) (by omega) (by omega)
    simp only [cr_71 jx_ns_r, eb_71_0, jx_ns_r, jx_ns_n, jx_ns_q, jx_ns_i, jx_gl_0, jx_gl_s, if_true, if_false, ite_true, ite_false, eq_self, Bool.false_eq_true, List.length_cons, List.length_nil, Nat.zero_le, Nat.reduceAdd, Nat.reduceSub, Nat.reduceLeDiff, Nat.reduceLT, Nat.reduceEqDiff, Int.reduceToNat, reduceIte, xe_aload, jx_rv_r, jx_rv_n, jx_rv_q, xk_getf, jx_gf_i, jx_ov_s, ak_V, xe_istore, xe_goto_w, xk_iload, jx_iv_i, ak_I, xe_icmp_ge, xk_bald, ja_ba, ak_A, true_or, or_true, xe_iconst, xi_97, xe_icmp_lt, xi_122, xe_icmp_gt, xk_iinc, ak_C, xi_1, xe_goto, xe_isub, xe_inv0, jx_cc_i, jx_cc_v, Nat.reduceMod, Nat.reduceDiv, jx_cl9_i, xe_icmp_ne, xx_1, xi_0, xx_0, xe_ifeq, xe_iadd, xe_inv1, xe_zreturn, xZ, jx_s1, List.set_cons_zero, List.set_cons_succ, jx_2_i, jx_2_l, jx_2_r, jx_2_n, jx_2_u, jx_2_s, jx_2_q, jx_k_i, jx_k_l, jx_k_r, jx_k_n, jx_k_u, jx_k_s, jx_k_q, tw_r, tw_f, tw_s, tw_wo, pN_r, pN_w, pQ_r, pQ_w, tw_w30, tw_w31, tw_w36, va_up_s, l1, eb_71_41, eb_71_58, eb_71_59, es, n0, h19, sl]
    rw [eb_71_63]
    simp only [eb_71_109, jx_ns_r, jx_ns_n, jx_ns_q, jx_ns_i, jx_gl_0, jx_gl_s, if_true, if_false, ite_true, ite_false, eq_self, Bool.false_eq_true, List.length_cons, List.length_nil, Nat.zero_le, Nat.reduceAdd, Nat.reduceSub, Nat.reduceLeDiff, Nat.reduceLT, Nat.reduceEqDiff, Int.reduceToNat, reduceIte, xe_aload, jx_rv_r, jx_rv_n, jx_rv_q, xk_getf, jx_gf_i, jx_ov_s, ak_V, xe_istore, xe_goto_w, xk_iload, jx_iv_i, ak_I, xe_icmp_ge, xk_bald, ja_ba, ak_A, true_or, or_true, xe_iconst, xi_97, xe_icmp_lt, xi_122, xe_icmp_gt, xk_iinc, ak_C, xi_1, xe_goto, xe_isub, xe_inv0, jx_cc_i, jx_cc_v, Nat.reduceMod, Nat.reduceDiv, jx_cl9_i, xe_icmp_ne, xx_1, xi_0, xx_0, xe_ifeq, xe_iadd, xe_inv1, xe_zreturn, xZ, jx_s1, List.set_cons_zero, List.set_cons_succ, jx_2_i, jx_2_l, jx_2_r, jx_2_n, jx_2_u, jx_2_s, jx_2_q, jx_k_i, jx_k_l, jx_k_r, jx_k_n, jx_k_u, jx_k_s, jx_k_q, tw_r, tw_f, tw_s, tw_wo, pN_r, pN_w, pQ_r, pQ_w, tw_w30, tw_w31, tw_w36, va_up_s, h19, sl, h0, xZ]
end PLF
