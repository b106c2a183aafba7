/-! THE TWIN'S PARSER: entries and what they come to; a value -/
set_option maxRecDepth 100000
def bov (k : Int32) (a b : Int64) : Int64 := if k = 2 then a + b else if k = 3 then a - b else if k = 13 then a * b else if k = 14 then (if b = 0 then 0 else a / b) else if k = 15 then (if b = 0 then 0 else a - a / b * b) else if k = 4 then (if a < b then 1 else 0) else if k = 5 then (if a ≤ b then 1 else 0) else if k = 6 then (if a = b then 1 else 0) else if k = 7 then (if b ≤ a then 1 else 0) else if k = 8 then (if b < a then 1 else 0) else if k = 10 then a &&& b else a ||| b
def ev1 (w : Nat → Int64) (k v : Int32) (st : List Int64) : List Int64 := if k = 0 then v.toInt64 :: st else if k = 1 then (if 0 ≤ v ∧ v < 12 then w v.toNatClampNeg :: st else List.replicate 1000 0) else if k = 9 then (match st with | x :: r => (1 - x) :: r | [] => List.replicate 1000 0) else match st with | y :: x :: r => bov k x y :: r | _ => List.replicate 1000 0
def evs (w : Nat → Int64) : List (Int32 × Int32) → List Int64 → List Int64
  | [], st => st
  | c :: l, st => evs w l (ev1 w c.1 c.2 st)
theorem evs_app {w : Nat → Int64} : ∀ (l1 l2 : List (Int32 × Int32)) (st : List Int64), evs w (l1 ++ l2) st = evs w l2 (evs w l1 st) := by
  intro l1
  induction l1 with
  | nil => intros; rfl
  | cons c l ih => intro l2 st; exact ih l2 _
/-- a row with more behind b -/
def apr : (Nat → Int32) → Nat → List Int32 → (Nat → Int32)
  | f, _, [] => f
  | f, b, v :: l => apr (upd f b v) (b + 1) l
theorem apr_app : ∀ (l1 l2 : List Int32) (f : Nat → Int32) (b : Nat), apr f b (l1 ++ l2) = apr (apr f b l1) (b + l1.length) l2 := by
  intro l1
  induction l1 with
  | nil => intros; rfl
  | cons c l ih =>
    intro l2 f b
    show apr (upd f b c) (b + 1) (l ++ l2) = apr (apr (upd f b c) (b + 1) l) (b + (l.length + 1)) l2
    rw [ih, show b + 1 + l.length = b + (l.length + 1) by omega]
theorem apr_lo : ∀ (l : List Int32) (f : Nat → Int32) (b k : Nat), (k < b ∨ b + l.length ≤ k) → apr f b l k = f k := by
  intro l
  induction l with
  | nil => intros; rfl
  | cons c l ih =>
    intro f b k h
    have hl : (c :: l).length = l.length + 1 := rfl
    show apr (upd f b c) (b + 1) l k = f k
    rw [ih _ _ _ (by omega), upd, if_neg (by omega)]
theorem nv_b {tp : Nat → Int32} {M n : Nat} : ∀ k, k ≤ 5 → k ≤ dgp tp M n → ∃ c, c < 10 ^ k ∧ nv tp n k = nI c := by
  intro k
  induction k with
  | zero => intro _ _; exact ⟨0, by decide, rfl⟩
  | succ k ih =>
    intro h5 hD
    obtain ⟨c, c1, c2⟩ := ih (by omega) (by omega)
    have ek := dgp_k (tp := tp) (M := M) (p := n) k (by omega)
    have pos : 0 < dgp tp M (n + k) := by omega
    have b := (dgp_0.mp pos).2
    have t := ix_c (m := 48) (n := 57) b.1 b.2 (by omega) (by omega)
    refine ⟨10 * c + (tp (n + k)).toNatClampNeg - 48, ?_, ?_⟩
    · rw [Nat.pow_succ]; omega
    · rw [nv, if_pos (by omega), c2, t.2.2, show (10 : Int32) * nI c = nI (10 * c) from (Int32.ofNat_mul 10 c).symm, nI_add, show (48 : Int32) = nI 48 from rfl, pk_sub (by omega), ← t.2.2]
section PLH
variable {d : Nat} {h : jx_H} {s : Nat → Int32} {a : Nat → Nat → Int32} {E Nb : Nat → Int32} {Qb : Nat → Nat → Int32} {W : Nat → Nat → Int64} {n M g sl i k : Nat} {p f en de co op v l : Int32} {so nu on : Nat → Int32}
theorem flt_0 {k pl : Int32} : flt 0 k pl = 1 + 8 * pl + k := if_pos rfl
theorem flt_n {k pl f : Int32} (h : ¬ f = 0) : flt f k pl = f := if_neg h
/-- a fault isn't none -/
theorem flt_z {k pl : Nat} (hk : k ≤ 4) (hp : pl ≤ 500) : ¬ (1 + 8 * nI pl + nI k) = 0 := by
  have e : (1 : Int32) + 8 * nI pl + nI k = nI (1 + 8 * pl + k) := by
    rw [show (8 : Int32) * nI pl = nI (8 * pl) from (Int32.ofNat_mul 8 pl).symm, show (1 : Int32) = nI 1 from rfl, nI_add, nI_add]
  rw [e]
  intro z
  have := (nI_eq (a := 1 + 8 * pl + k) (b := 0) (by omega) (by omega)).mp z
  omega
theorem m_value62 {e kw : Nat} (hs : ss_ok h) (e28 : Nb 28 = 12) (esl : Nb 22 = nI sl) (hsl : sl < 6) (kb : kw < 12) (g6 : g < 60) (he : e < 300) : jx_eb (d + 6) 76 62 [.ref 113, .int (nI n), .int (nI kw)] [] (tw h s a E (pN Nb (nI n) (0) (nI e) (de) (nI g) (op)) (pQ Qb (so) (nu) (on)) W) = some (.inl none, (tw h s a E (pN Nb (nI (n + st_n (nmw kw))) (0) (nI (e + 1)) (de) (nI (g + 1)) (op)) (pQ Qb (upd so (300 * sl + e) 1) (upd nu (300 * sl + e) (nI kw)) (on)) W)) := by
  have nb := nmw_b kb
  have n12 : ¬ nI kw = 12 := fun q => by
    have := (nI_eq (a := kw) (b := 12) (by omega) (by omega)).mp q
    omega
  have n60 : ¬ nI g = 60 := fun q => by
    have := (nI_eq (a := g) (b := 60) (by omega) (by omega)).mp q
    omega
  have mc := fun d => m_isCounted (d := d) (h := h) (s := s) (a := a) (E := E) (Nb := Nb) (Qb := Qb) (W := W) (p := nI n) (v := nI n) (f := 0) (en := nI e) (de := de) (co := nI g) (op := op) (so := so) (nu := nu) (on := on)
  simp only [if_neg n60, nI_1] at mc
  have hH : ss_ok (tw h s a E (pN Nb (nI n) (0) (nI e) (de) (nI (g + 1)) (op)) (pQ Qb (so) (nu) (on)) W) := ss_tw hs
  have sl' := fun d => String_length (d := d) hH nb.1
  obtain ⟨⟨fs, h19⟩, _⟩ := hH (nmw kw) nb.1
  have wo := fun (d : Nat) (H : jx_H) => m_wordOf (d := d) (H := H) kb
  have me := fun d => m_entry1 (d := d) (h := h) (s := s) (a := a) (E := E) (Nb := Nb) (Qb := Qb) (W := W) (p := nI (n + st_n (nmw kw))) (l := 1) (v := nI kw) (de := de) (co := nI (g + 1)) (op := op) (so := so) (nu := nu) (on := on) esl hsl he
  simp only [eb_76_62, eb_76_77, jx_ns_r, jx_ns_n, jx_ns_q, jx_ns_i, jx_gl_0, jx_gl_s, if_true, if_false, ite_true, ite_false, eq_self, Bool.false_eq_true, List.length_cons, List.length_nil, Nat.zero_le, Nat.reduceAdd, Nat.reduceSub, Nat.reduceLeDiff, Nat.reduceLT, Nat.reduceEqDiff, Int.reduceToNat, reduceIte, xe_aload, jx_rv_r, jx_rv_n, jx_rv_q, xe_inv0, jx_cc_i, jx_cc_v, Nat.reduceMod, Nat.reduceDiv, jx_cl9_i, xk_getf, jx_gf_i, jx_ov_s, ak_V, xe_istore, xe_ifeq, xe_iconst, xi_99999, xe_inv1, xk_iload, jx_iv_i, ak_I, xi_0, xx_0, xe_inv2, xe_return, xe_goto_w, xe_icmp_ge, xe_sta1, xe_ifne, xk_iinc, ak_C, xi_1, xe_goto, xe_icmp_ne, xe_dup, jx_2_i, jx_2_l, jx_2_r, jx_2_n, jx_2_q, or_self, xe_iadd, xk_putf, ak_P, jx_pf_i, jx_pf_z, jx_pf_l, jx_pf_r, jx_pf_n, jx_pf_q, xx_1, jx_s1, List.set_cons_zero, List.set_cons_succ, jx_2_u, jx_2_s, jx_k_i, jx_k_l, jx_k_r, jx_k_n, jx_k_u, jx_k_s, jx_k_q, tw_r, tw_f, tw_s, tw_wo, pN_r, pN_w, pQ_r, pQ_w, tw_w30, tw_w31, tw_w36, va_up_s, e28, n12, mc, wo, h19, sl', nI_add, me]
theorem m_value62f {e kw : Nat} (hs : ss_ok h) (e28 : Nb 28 = 12) (kb : kw < 12) (hn : n ≤ 400) : jx_eb (d + 6) 76 62 [.ref 113, .int (nI n), .int (nI kw)] [] (tw h s a E (pN Nb (nI n) (0) (nI e) (de) (nI 60) (op)) (pQ Qb (so) (nu) (on)) W) = some (.inl none, (tw h s a E (pN Nb (nI (n + st_n (nmw kw))) (1 + 8 * nI n + nI 3) (nI e) (de) (nI 60 + 1) (op)) (pQ Qb (so) (nu) (on)) W)) := by
  have nb := nmw_b kb
  have n12 : ¬ nI kw = 12 := fun q => by
    have := (nI_eq (a := kw) (b := 12) (by omega) (by omega)).mp q
    omega
  have n60 : nI 60 = 60 := rfl
  have mc := fun d => m_isCounted (d := d) (h := h) (s := s) (a := a) (E := E) (Nb := Nb) (Qb := Qb) (W := W) (p := nI n) (v := nI n) (f := 0) (en := nI e) (de := de) (co := nI 60) (op := op) (so := so) (nu := nu) (on := on)
  rw [if_pos n60, flt_0] at mc
  have k3 : nI 3 = 3 := rfl
  rw [k3]
  have f3 : ¬ (1 + 8 * nI n + 3 : Int32) = 0 := flt_z (k := 3) (by omega) (by omega)
  have hH : ss_ok (tw h s a E (pN Nb (nI n) (1 + 8 * nI n + 3) (nI e) (de) (nI 60 + 1) (op)) (pQ Qb (so) (nu) (on)) W) := ss_tw hs
  have sl' := fun d => String_length (d := d) hH nb.1
  obtain ⟨⟨fs, h19⟩, _⟩ := hH (nmw kw) nb.1
  have wo := fun (d : Nat) (H : jx_H) => m_wordOf (d := d) (H := H) kb
  have me := fun d => m_entry0 (d := d) (h := h) (s := s) (a := a) (E := E) (Nb := Nb) (Qb := Qb) (W := W) (p := nI (n + st_n (nmw kw))) (l := 1) (v := nI kw) (en := nI e) (de := de) (co := nI 60 + 1) (op := op) (so := so) (nu := nu) (on := on) f3
  simp only [eb_76_62, eb_76_77, jx_ns_r, jx_ns_n, jx_ns_q, jx_ns_i, jx_gl_0, jx_gl_s, if_true, if_false, ite_true, ite_false, eq_self, Bool.false_eq_true, List.length_cons, List.length_nil, Nat.zero_le, Nat.reduceAdd, Nat.reduceSub, Nat.reduceLeDiff, Nat.reduceLT, Nat.reduceEqDiff, Int.reduceToNat, reduceIte, xe_aload, jx_rv_r, jx_rv_n, jx_rv_q, xe_inv0, jx_cc_i, jx_cc_v, Nat.reduceMod, Nat.reduceDiv, jx_cl9_i, xk_getf, jx_gf_i, jx_ov_s, ak_V, xe_istore, xe_ifeq, xe_iconst, xi_99999, xe_inv1, xk_iload, jx_iv_i, ak_I, xi_0, xx_0, xe_inv2, xe_return, xe_goto_w, xe_icmp_ge, xe_sta1, xe_ifne, xk_iinc, ak_C, xi_1, xe_goto, xe_icmp_ne, xe_dup, jx_2_i, jx_2_l, jx_2_r, jx_2_n, jx_2_q, or_self, xe_iadd, xk_putf, ak_P, jx_pf_i, jx_pf_z, jx_pf_l, jx_pf_r, jx_pf_n, jx_pf_q, xx_1, jx_s1, List.set_cons_zero, List.set_cons_succ, jx_2_u, jx_2_s, jx_k_i, jx_k_l, jx_k_r, jx_k_n, jx_k_u, jx_k_s, jx_k_q, tw_r, tw_f, tw_s, tw_wo, pN_r, pN_w, pQ_r, pQ_w, tw_w30, tw_w31, tw_w36, va_up_s, e28, n12, mc, wo, h19, sl', nI_add, me]
theorem m_value (hs : ss_ok h) (eM : Nb 19 = nI M) (hM : M ≤ 400) (hb : tb (Qb 29)) (e28 : Nb 28 = 12) (esl : Nb 22 = nI sl) (hsl : sl < 6) {e : Nat} (hn : n ≤ M) (hg : g ≤ 60) (he : 2 * e ≤ n + 2 * g) :
    (∀ k pl, vl (Qb 29) M n g = .inl (k, pl) → ∃ n2 co2, n2 ≤ M ∧ jx_cr (d + 7) 76 [.ref 113] (tw h s a E (pN Nb (nI n) (0) (nI e) (de) (nI g) (op)) (pQ Qb (so) (nu) (on)) W) = some (.inl none, (tw h s a E (pN Nb (nI n2) (1 + 8 * nI pl + nI k) (nI e) (de) (co2) (op)) (pQ Qb (so) (nu) (on)) W))) ∧
    (∀ L m g2, vl (Qb 29) M n g = .inr (L, m, g2) → ∃ l, (∀ w st, evs w l st = L w :: st) ∧ 2 * l.length + 1 ≤ (m - n) + 2 * (g2 - g) ∧ jx_cr (d + 7) 76 [.ref 113] (tw h s a E (pN Nb (nI n) (0) (nI e) (de) (nI g) (op)) (pQ Qb (so) (nu) (on)) W) = some (.inl none, (tw h s a E (pN Nb (nI m) (0) (nI (e + l.length)) (de) (nI g2) (op)) (pQ Qb (apr so (300 * sl + e) (l.map Prod.fst)) (apr nu (300 * sl + e) (l.map Prod.snd)) (on)) W))) := by
  have s1 := fun d => m_blanks (d := d) (n := n) (h := h) (s := s) (a := a) (E := E) (Nb := Nb) (Qb := Qb) (W := W) (f := 0) (en := nI e) (de := de) (co := nI g) (op := op) (so := so) (nu := nu) (on := on) eM hM hb (by omega)
  have le := skp_le (tp := Qb 29) hn
  have ge := skp_ge (Qb 29) M n
  have ii := skp_i (tp := Qb 29) hn
  have en' : nmr (Qb 29) M (skp (Qb 29) M n) 0 99999 = if dgp (Qb 29) M (skp (Qb 29) M n) = 0 then .inl (0, skp (Qb 29) M n) else if dgp (Qb 29) M (skp (Qb 29) M n) ≤ 5 ∧ (0 : Int32) ≤ nv (Qb 29) (skp (Qb 29) M n) (dgp (Qb 29) M (skp (Qb 29) M n)) ∧ nv (Qb 29) (skp (Qb 29) M n) (dgp (Qb 29) M (skp (Qb 29) M n)) ≤ 99999 then .inr (nv (Qb 29) (skp (Qb 29) M n) (dgp (Qb 29) M (skp (Qb 29) M n)), skp (Qb 29) M n + dgp (Qb 29) M (skp (Qb 29) M n)) else .inl (1, skp (Qb 29) M n) := by rw [nmr, ii]
  rw [vl, en']
  clear en'
  generalize skp (Qb 29) M n = m at le ge ii s1 ⊢
  have dg := fun d => m_isDigit (d := d) (n := m) (h := h) (s := s) (a := a) (E := E) (Nb := Nb) (Qb := Qb) (W := W) (f := 0) (en := nI e) (de := de) (co := nI g) (op := op) (so := so) (nu := nu) (on := on) eM hM hb (by omega)
  have co60 : nI g = 60 ↔ ¬ g < 60 := ⟨fun z y => by have := (nI_eq (a := g) (b := 60) (by omega) (by omega)).mp z; omega, fun z => by rw [show g = 60 by omega]; rfl⟩
  by_cases r0 : 0 < dgp (Qb 29) M m
  · have rz : ¬ dgp (Qb 29) M m = 0 := by omega
    have dl := dgp_le (tp := Qb 29) le
    rw [if_pos r0] at dg ⊢
    rw [if_neg rz]
    have mdg := fun d => m_digits (d := d) (n := m) (h := h) (s := s) (a := a) (E := E) (Nb := Nb) (Qb := Qb) (W := W) (l := 99999) (f := 0) (en := nI e) (de := de) (co := nI g) (op := op) (so := so) (nu := nu) (on := on) eM hM hb (by omega)
    by_cases r5 : dgp (Qb 29) M m ≤ 5
    · obtain ⟨c, c1, c2⟩ := nv_b (tp := Qb 29) (M := M) (n := m) _ r5 (Nat.le_refl _)
      have c3 : c < 100000 := Nat.lt_of_lt_of_le c1 (Nat.pow_le_pow_right (by omega) r5)
      have v1 : (0 : Int32) ≤ nv (Qb 29) m (dgp (Qb 29) M m) := by rw [c2]; exact nI_le (a := 0) (by omega) (by omega)
      have v2 : nv (Qb 29) m (dgp (Qb 29) M m) ≤ 99999 := by rw [c2]; exact nI_le (b := 99999) (by omega) (by omega)
      have df : dgf (Qb 29) M m 99999 0 = 0 := by rw [dgf, if_neg rz, if_pos ⟨r5, v2⟩]
      rw [df] at mdg
      rw [if_pos ⟨r5, v1, v2⟩]
      dsimp only
      generalize nv (Qb 29) m (dgp (Qb 29) M m) = V at *
      generalize dgp (Qb 29) M m = D at *
      have mc := fun d => m_isCounted (d := d) (h := h) (s := s) (a := a) (E := E) (Nb := Nb) (Qb := Qb) (W := W) (p := nI (m + D)) (v := nI m) (f := 0) (en := nI e) (de := de) (co := nI g) (op := op) (so := so) (nu := nu) (on := on)
      by_cases g6 : g < 60
      · have n60 : ¬ nI g = 60 := fun z => co60.mp z g6
        rw [if_pos g6]
        simp only [if_neg n60, nI_1] at mc
        have me := fun d => m_entry1 (d := d) (h := h) (s := s) (a := a) (E := E) (Nb := Nb) (Qb := Qb) (W := W) (p := nI (m + D)) (l := 0) (v := V) (de := de) (co := nI (g + 1)) (op := op) (so := so) (nu := nu) (on := on) esl hsl (show e < 300 by omega)
        refine ⟨fun k pl hk => (by cases hk), fun L m2 g2 hk => ?_⟩
        cases hk
        refine ⟨[(0, V)], fun w st => rfl, by show 2 * 1 + 1 ≤ _; omega, ?_⟩
        show jx_cr _ _ _ _ = some (.inl none, (tw h s a E (pN Nb (nI (m + D)) (0) (nI (e + 1)) (de) (nI (g + 1)) (op)) (pQ Qb (upd so (300 * sl + e) 0) (upd nu (300 * sl + e) V) (on)) W))
        simp only [cr_76, eb_76_0, jx_ns_r, jx_ns_n, jx_ns_q, jx_ns_i, jx_gl_0, jx_gl_s, if_true, if_false, ite_true, ite_false, eq_self, Bool.false_eq_true, List.length_cons, List.length_nil, Nat.zero_le, Nat.reduceAdd, Nat.reduceSub, Nat.reduceLeDiff, Nat.reduceLT, Nat.reduceEqDiff, Int.reduceToNat, reduceIte, xe_aload, jx_rv_r, jx_rv_n, jx_rv_q, xe_inv0, jx_cc_i, jx_cc_v, Nat.reduceMod, Nat.reduceDiv, jx_cl9_i, xk_getf, jx_gf_i, jx_ov_s, ak_V, xe_istore, xe_ifeq, xe_iconst, xi_99999, xe_inv1, xk_iload, jx_iv_i, ak_I, xi_0, xx_0, xe_inv2, xe_return, xe_goto_w, xe_icmp_ge, xe_sta1, xe_ifne, xk_iinc, ak_C, xi_1, xe_goto, xe_icmp_ne, xe_dup, jx_2_i, jx_2_l, jx_2_r, jx_2_n, jx_2_q, or_self, xe_iadd, xk_putf, ak_P, jx_pf_i, jx_pf_z, jx_pf_l, jx_pf_r, jx_pf_n, jx_pf_q, xx_1, jx_s1, List.set_cons_zero, List.set_cons_succ, jx_2_u, jx_2_s, jx_k_i, jx_k_l, jx_k_r, jx_k_n, jx_k_u, jx_k_s, jx_k_q, tw_r, tw_f, tw_s, tw_wo, pN_r, pN_w, pQ_r, pQ_w, tw_w30, tw_w31, tw_w36, va_up_s, s1, dg, sp_10, mdg, mc, me]
      · have n60 : nI g = 60 := co60.mpr g6
        rw [if_neg g6]
        simp only [if_pos n60] at mc
        have k3 : nI 3 = 3 := rfl
        have f3 : ¬ (1 + 8 * nI m + 3 : Int32) = 0 := flt_z (k := 3) (by omega) (by omega)
        have me := fun d => m_entry0 (d := d) (h := h) (s := s) (a := a) (E := E) (Nb := Nb) (Qb := Qb) (W := W) (p := nI (m + D)) (l := 0) (v := V) (en := nI e) (de := de) (co := nI g + 1) (op := op) (so := so) (nu := nu) (on := on) f3
        refine ⟨fun k pl hk => ?_, fun L m2 g2 hk => (by cases hk)⟩
        cases hk
        refine ⟨m + D, nI g + 1, dl, ?_⟩
        simp only [cr_76, eb_76_0, jx_ns_r, jx_ns_n, jx_ns_q, jx_ns_i, jx_gl_0, jx_gl_s, if_true, if_false, ite_true, ite_false, eq_self, Bool.false_eq_true, List.length_cons, List.length_nil, Nat.zero_le, Nat.reduceAdd, Nat.reduceSub, Nat.reduceLeDiff, Nat.reduceLT, Nat.reduceEqDiff, Int.reduceToNat, reduceIte, xe_aload, jx_rv_r, jx_rv_n, jx_rv_q, xe_inv0, jx_cc_i, jx_cc_v, Nat.reduceMod, Nat.reduceDiv, jx_cl9_i, xk_getf, jx_gf_i, jx_ov_s, ak_V, xe_istore, xe_ifeq, xe_iconst, xi_99999, xe_inv1, xk_iload, jx_iv_i, ak_I, xi_0, xx_0, xe_inv2, xe_return, xe_goto_w, xe_icmp_ge, xe_sta1, xe_ifne, xk_iinc, ak_C, xi_1, xe_goto, xe_icmp_ne, xe_dup, jx_2_i, jx_2_l, jx_2_r, jx_2_n, jx_2_q, or_self, xe_iadd, xk_putf, ak_P, jx_pf_i, jx_pf_z, jx_pf_l, jx_pf_r, jx_pf_n, jx_pf_q, xx_1, jx_s1, List.set_cons_zero, List.set_cons_succ, jx_2_u, jx_2_s, jx_k_i, jx_k_l, jx_k_r, jx_k_n, jx_k_u, jx_k_s, jx_k_q, tw_r, tw_f, tw_s, tw_wo, pN_r, pN_w, pQ_r, pQ_w, tw_w30, tw_w31, tw_w36, va_up_s, s1, dg, sp_10, mdg, mc, flt_0, me, k3]
    · have df : dgf (Qb 29) M m 99999 0 = 1 + 8 * nI m + 1 := by rw [dgf, if_neg rz, if_neg (fun z => r5 z.1), flt_0]
      rw [df] at mdg
      rw [if_neg (fun z => r5 z.1)]
      have f1 : ¬ (1 + 8 * nI m + 1 : Int32) = 0 := flt_z (k := 1) (by omega) (by omega)
      generalize nv (Qb 29) m (dgp (Qb 29) M m) = V at *
      generalize dgp (Qb 29) M m = D at *
      have mc := fun d => m_isCounted (d := d) (h := h) (s := s) (a := a) (E := E) (Nb := Nb) (Qb := Qb) (W := W) (p := nI (m + D)) (v := nI m) (f := 1 + 8 * nI m + 1) (en := nI e) (de := de) (co := nI g) (op := op) (so := so) (nu := nu) (on := on)
      rw [flt_n f1, ite_self] at mc
      have me := fun d => m_entry0 (d := d) (h := h) (s := s) (a := a) (E := E) (Nb := Nb) (Qb := Qb) (W := W) (p := nI (m + D)) (l := 0) (v := V) (en := nI e) (de := de) (co := nI g + 1) (op := op) (so := so) (nu := nu) (on := on) f1
      have k1 : nI 1 = 1 := rfl
      refine ⟨fun k pl hk => ?_, fun L m2 g2 hk => (by cases hk)⟩
      cases hk
      refine ⟨m + D, nI g + 1, dl, ?_⟩
      simp only [cr_76, eb_76_0, jx_ns_r, jx_ns_n, jx_ns_q, jx_ns_i, jx_gl_0, jx_gl_s, if_true, if_false, ite_true, ite_false, eq_self, Bool.false_eq_true, List.length_cons, List.length_nil, Nat.zero_le, Nat.reduceAdd, Nat.reduceSub, Nat.reduceLeDiff, Nat.reduceLT, Nat.reduceEqDiff, Int.reduceToNat, reduceIte, xe_aload, jx_rv_r, jx_rv_n, jx_rv_q, xe_inv0, jx_cc_i, jx_cc_v, Nat.reduceMod, Nat.reduceDiv, jx_cl9_i, xk_getf, jx_gf_i, jx_ov_s, ak_V, xe_istore, xe_ifeq, xe_iconst, xi_99999, xe_inv1, xk_iload, jx_iv_i, ak_I, xi_0, xx_0, xe_inv2, xe_return, xe_goto_w, xe_icmp_ge, xe_sta1, xe_ifne, xk_iinc, ak_C, xi_1, xe_goto, xe_icmp_ne, xe_dup, jx_2_i, jx_2_l, jx_2_r, jx_2_n, jx_2_q, or_self, xe_iadd, xk_putf, ak_P, jx_pf_i, jx_pf_z, jx_pf_l, jx_pf_r, jx_pf_n, jx_pf_q, xx_1, jx_s1, List.set_cons_zero, List.set_cons_succ, jx_2_u, jx_2_s, jx_k_i, jx_k_l, jx_k_r, jx_k_n, jx_k_u, jx_k_s, jx_k_q, tw_r, tw_f, tw_s, tw_wo, pN_r, pN_w, pQ_r, pQ_w, tw_w30, tw_w31, tw_w36, va_up_s, s1, dg, sp_10, mdg, mc, me, k1]
  · rw [if_neg r0] at dg ⊢
    have sd := fun d i hi => m_stood (d := d) (i := i) (n := m) (h := h) (s := s) (a := a) (E := E) (Nb := Nb) (Qb := Qb) (W := W) (f := 0) (en := nI e) (de := de) (co := nI g) (op := op) (so := so) (nu := nu) (on := on) hs hi eM hM (by omega)
    have wo := fun (d k : Nat) (H : jx_H) (hk : k < 12) => m_wordOf (d := d) (H := H) hk
    have lp := jx_lp (d := d + 6) (y := 76) (L := 37) (n := 12) (γ := Unit) (ls := fun k _ => [.ref 113, .int (nI m), .int (nI k)]) (H := fun _ _ => (tw h s a E (pN Nb (nI m) (0) (nI e) (de) (nI g) (op)) (pQ Qb (so) (nu) (on)) W))
      (I := fun k _ => fd (fun k => wmb (Qb 29) M m (nmw k)) 12 0 = fd (fun k => wmb (Qb 29) M m (nmw k)) (12 - k) k)
      (G := fun r => r = jx_eb (d + 6) 76 62 [.ref 113, .int (nI m), .int (match fd (fun k => wmb (Qb 29) M m (nmw k)) 12 0 with | some k => nI k | none => 12)] [] (tw h s a E (pN Nb (nI m) (0) (nI e) (de) (nI g) (op)) (pQ Qb (so) (nu) (on)) W)) ?_ ?_ 12 0 () (by omega) rfl
    · have st : jx_cr (d + 7) 76 [.ref 113] (tw h s a E (pN Nb (nI n) (0) (nI e) (de) (nI g) (op)) (pQ Qb (so) (nu) (on)) W) = jx_eb (d + 6) 76 62 [.ref 113, .int (nI m), .int (match fd (fun k => wmb (Qb 29) M m (nmw k)) 12 0 with | some k => nI k | none => 12)] [] (tw h s a E (pN Nb (nI m) (0) (nI e) (de) (nI g) (op)) (pQ Qb (so) (nu) (on)) W) := by
        rw [nI_0] at lp
        simp only [cr_76, eb_76_0, eb_76_35, jx_ns_r, jx_ns_n, jx_ns_q, jx_ns_i, jx_gl_0, jx_gl_s, if_true, if_false, ite_true, ite_false, eq_self, Bool.false_eq_true, List.length_cons, List.length_nil, Nat.zero_le, Nat.reduceAdd, Nat.reduceSub, Nat.reduceLeDiff, Nat.reduceLT, Nat.reduceEqDiff, Int.reduceToNat, reduceIte, xe_aload, jx_rv_r, jx_rv_n, jx_rv_q, xe_inv0, jx_cc_i, jx_cc_v, Nat.reduceMod, Nat.reduceDiv, jx_cl9_i, xk_getf, jx_gf_i, jx_ov_s, ak_V, xe_istore, xe_ifeq, xe_iconst, xi_99999, xe_inv1, xk_iload, jx_iv_i, ak_I, xi_0, xx_0, xe_inv2, xe_return, xe_goto_w, xe_icmp_ge, xe_sta1, xe_ifne, xk_iinc, ak_C, xi_1, xe_goto, xe_icmp_ne, xe_dup, jx_2_i, jx_2_l, jx_2_r, jx_2_n, jx_2_q, or_self, xe_iadd, xk_putf, ak_P, jx_pf_i, jx_pf_z, jx_pf_l, jx_pf_r, jx_pf_n, jx_pf_q, xx_1, jx_s1, List.set_cons_zero, List.set_cons_succ, jx_2_u, jx_2_s, jx_k_i, jx_k_l, jx_k_r, jx_k_n, jx_k_u, jx_k_s, jx_k_q, tw_r, tw_f, tw_s, tw_wo, pN_r, pN_w, pQ_r, pQ_w, tw_w30, tw_w31, tw_w36, va_up_s, s1, dg]
        exact lp
      rw [st]
      cases hF : fd (fun k => wmb (Qb 29) M m (nmw k)) 12 0 with
      | none =>
        have k0 : nI 0 = 0 := rfl
        refine ⟨fun k pl hk => ?_, fun L m2 g2 hk => (by cases hk)⟩
        cases hk
        refine ⟨m, nI g, le, ?_⟩
        simp only [eb_76_62, jx_ns_r, jx_ns_n, jx_ns_q, jx_ns_i, jx_gl_0, jx_gl_s, if_true, if_false, ite_true, ite_false, eq_self, Bool.false_eq_true, List.length_cons, List.length_nil, Nat.zero_le, Nat.reduceAdd, Nat.reduceSub, Nat.reduceLeDiff, Nat.reduceLT, Nat.reduceEqDiff, Int.reduceToNat, reduceIte, xe_aload, jx_rv_r, jx_rv_n, jx_rv_q, xe_inv0, jx_cc_i, jx_cc_v, Nat.reduceMod, Nat.reduceDiv, jx_cl9_i, xk_getf, jx_gf_i, jx_ov_s, ak_V, xe_istore, xe_ifeq, xe_iconst, xi_99999, xe_inv1, xk_iload, jx_iv_i, ak_I, xi_0, xx_0, xe_inv2, xe_return, xe_goto_w, xe_icmp_ge, xe_sta1, xe_ifne, xk_iinc, ak_C, xi_1, xe_goto, xe_icmp_ne, xe_dup, jx_2_i, jx_2_l, jx_2_r, jx_2_n, jx_2_q, or_self, xe_iadd, xk_putf, ak_P, jx_pf_i, jx_pf_z, jx_pf_l, jx_pf_r, jx_pf_n, jx_pf_q, xx_1, jx_s1, List.set_cons_zero, List.set_cons_succ, jx_2_u, jx_2_s, jx_k_i, jx_k_l, jx_k_r, jx_k_n, jx_k_u, jx_k_s, jx_k_q, tw_r, tw_f, tw_s, tw_wo, pN_r, pN_w, pQ_r, pQ_w, tw_w30, tw_w31, tw_w36, va_up_s, e28, m_fails, flt_0, k0]
      | some kw =>
        have fk := fd_some _ _ _ hF
        have kb : kw < 12 := by omega
        have nb := nmw_b kb
        have sn := st_nb nb.1
        have wmk : wm (Qb 29) M m (nmw kw) := wmb_i.mp fk.2.2
        have wl := wm_le le wmk
        dsimp only
        by_cases g6 : g < 60
        · rw [if_pos g6]
          refine ⟨fun k pl hk => (by cases hk), fun L m2 g2 hk => ?_⟩
          cases hk
          refine ⟨[(1, nI kw)], fun w st => ?_, by show 2 * 1 + 1 ≤ _; omega, m_value62 hs e28 esl hsl kb g6 (by omega)⟩
          have z1 : (nI kw).toNatClampNeg = kw := nI_clamp (by omega)
          have z2 : (0 : Int32) ≤ nI kw ∧ nI kw < 12 := ⟨nI_pos' (by omega), nI_lt (b := 12) kb (by omega)⟩
          show (if (0 : Int32) ≤ nI kw ∧ nI kw < 12 then w (nI kw).toNatClampNeg :: st else List.replicate 1000 0) = w kw :: st
          rw [if_pos z2, z1]
        · rw [if_neg g6]
          have g60 : g = 60 := by omega
          subst g60
          refine ⟨fun k pl hk => ?_, fun L m2 g2 hk => (by cases hk)⟩
          cases hk
          exact ⟨m + st_n (nmw kw), nI 60 + 1, wl, m_value62f hs e28 kb (by omega)⟩
    · intro k _ hk hI
      have h3 : ¬ (12 : Int32) ≤ nI k := nI_ge (a := k) (b := 12) hk (by omega)
      have nb := nmw_b hk
      have s2 := fun d => sd d (nmw k) nb.1
      rw [fd_s hk] at hI
      by_cases r : wm (Qb 29) M m (nmw k)
      · rw [if_pos (wmb_i.mpr r)] at hI
        rw [sp_bl_t r] at s2
        refine .inl ?_
        rw [hI, eb_76_37]
        simp only [jx_ns_r, jx_ns_n, jx_ns_q, jx_ns_i, jx_gl_0, jx_gl_s, if_true, if_false, ite_true, ite_false, eq_self, Bool.false_eq_true, List.length_cons, List.length_nil, Nat.zero_le, Nat.reduceAdd, Nat.reduceSub, Nat.reduceLeDiff, Nat.reduceLT, Nat.reduceEqDiff, Int.reduceToNat, reduceIte, xe_aload, jx_rv_r, jx_rv_n, jx_rv_q, xe_inv0, jx_cc_i, jx_cc_v, Nat.reduceMod, Nat.reduceDiv, jx_cl9_i, xk_getf, jx_gf_i, jx_ov_s, ak_V, xe_istore, xe_ifeq, xe_iconst, xi_99999, xe_inv1, xk_iload, jx_iv_i, ak_I, xi_0, xx_0, xe_inv2, xe_return, xe_goto_w, xe_icmp_ge, xe_sta1, xe_ifne, xk_iinc, ak_C, xi_1, xe_goto, xe_icmp_ne, xe_dup, jx_2_i, jx_2_l, jx_2_r, jx_2_n, jx_2_q, or_self, xe_iadd, xk_putf, ak_P, jx_pf_i, jx_pf_z, jx_pf_l, jx_pf_r, jx_pf_n, jx_pf_q, xx_1, jx_s1, List.set_cons_zero, List.set_cons_succ, jx_2_u, jx_2_s, jx_k_i, jx_k_l, jx_k_r, jx_k_n, jx_k_u, jx_k_s, jx_k_q, tw_r, tw_f, tw_s, tw_wo, pN_r, pN_w, pQ_r, pQ_w, tw_w30, tw_w31, tw_w36, va_up_s, e28, h3, wo _ _ _ hk, s2, sp_10]
      · rw [if_neg (mt wmb_i.mp r)] at hI
        rw [sp_bl_f r] at s2
        refine .inr ⟨(), hI, ?_⟩
        rw [eb_76_37]
        simp only [jx_ns_r, jx_ns_n, jx_ns_q, jx_ns_i, jx_gl_0, jx_gl_s, if_true, if_false, ite_true, ite_false, eq_self, Bool.false_eq_true, List.length_cons, List.length_nil, Nat.zero_le, Nat.reduceAdd, Nat.reduceSub, Nat.reduceLeDiff, Nat.reduceLT, Nat.reduceEqDiff, Int.reduceToNat, reduceIte, xe_aload, jx_rv_r, jx_rv_n, jx_rv_q, xe_inv0, jx_cc_i, jx_cc_v, Nat.reduceMod, Nat.reduceDiv, jx_cl9_i, xk_getf, jx_gf_i, jx_ov_s, ak_V, xe_istore, xe_ifeq, xe_iconst, xi_99999, xe_inv1, xk_iload, jx_iv_i, ak_I, xi_0, xx_0, xe_inv2, xe_return, xe_goto_w, xe_icmp_ge, xe_sta1, xe_ifne, xk_iinc, ak_C, xi_1, xe_goto, xe_icmp_ne, xe_dup, jx_2_i, jx_2_l, jx_2_r, jx_2_n, jx_2_q, or_self, xe_iadd, xk_putf, ak_P, jx_pf_i, jx_pf_z, jx_pf_l, jx_pf_r, jx_pf_n, jx_pf_q, xx_1, jx_s1, List.set_cons_zero, List.set_cons_succ, jx_2_u, jx_2_s, jx_k_i, jx_k_l, jx_k_r, jx_k_n, jx_k_u, jx_k_s, jx_k_q, tw_r, tw_f, tw_s, tw_wo, pN_r, pN_w, pQ_r, pQ_w, tw_w30, tw_w31, tw_w36, va_up_s, e28, h3, wo _ _ _ hk, s2, nI_1]
    · intro _ hI
      have h3 : (12 : Int32) ≤ 12 := by decide
      have e12 : nI 12 = 12 := rfl
      rw [fd_n] at hI
      rw [hI, eb_76_37]
      simp only [jx_ns_r, jx_ns_n, jx_ns_q, jx_ns_i, jx_gl_0, jx_gl_s, if_true, if_false, ite_true, ite_false, eq_self, Bool.false_eq_true, List.length_cons, List.length_nil, Nat.zero_le, Nat.reduceAdd, Nat.reduceSub, Nat.reduceLeDiff, Nat.reduceLT, Nat.reduceEqDiff, Int.reduceToNat, reduceIte, xe_aload, jx_rv_r, jx_rv_n, jx_rv_q, xe_inv0, jx_cc_i, jx_cc_v, Nat.reduceMod, Nat.reduceDiv, jx_cl9_i, xk_getf, jx_gf_i, jx_ov_s, ak_V, xe_istore, xe_ifeq, xe_iconst, xi_99999, xe_inv1, xk_iload, jx_iv_i, ak_I, xi_0, xx_0, xe_inv2, xe_return, xe_goto_w, xe_icmp_ge, xe_sta1, xe_ifne, xk_iinc, ak_C, xi_1, xe_goto, xe_icmp_ne, xe_dup, jx_2_i, jx_2_l, jx_2_r, jx_2_n, jx_2_q, or_self, xe_iadd, xk_putf, ak_P, jx_pf_i, jx_pf_z, jx_pf_l, jx_pf_r, jx_pf_n, jx_pf_q, xx_1, jx_s1, List.set_cons_zero, List.set_cons_succ, jx_2_u, jx_2_s, jx_k_i, jx_k_l, jx_k_r, jx_k_n, jx_k_u, jx_k_s, jx_k_q, tw_r, tw_f, tw_s, tw_wo, pN_r, pN_w, pQ_r, pQ_w, tw_w30, tw_w31, tw_w36, va_up_s, e28, h3, e12]
end PLH
