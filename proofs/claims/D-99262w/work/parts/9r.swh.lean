/-! THE TWIN'S PARSER: terms and sums (second half printed by tools/wl3.py) -/
set_option maxRecDepth 100000
theorem apr_j2 {fn : Int32 × Int32 → Int32} {F : Nat → Int32} {b e : Nat} {l1 l2 : List (Int32 × Int32)} : apr (apr F (b + e) (l1.map fn)) (b + (e + l1.length)) (l2.map fn) = apr F (b + e) ((l1 ++ l2).map fn) := by
  rw [List.map_append, apr_app, List.length_map, show b + e + l1.length = b + (e + l1.length) by omega]
theorem len_j2 {e : Nat} {l1 l2 : List (Int32 × Int32)} : e + l1.length + l2.length = e + (l1 ++ l2).length := by
  rw [List.length_append]; omega
section PLV
variable {d : Nat} {h : jx_H} {s : Nat → Int32} {a : Nat → Nat → Int32} {E Nb : Nat → Int32} {Qb : Nat → Nat → Int32} {W : Nat → Nat → Int64} {n M g sl i k : Nat} {p f en de co op v l : Int32} {so nu on : Nat → Int32}
theorem m_term (hs : ss_ok h) (eM : Nb 19 = nI M) (hM : M ≤ 400) (hb : tb (Qb 29)) (e28 : Nb 28 = 12) (esl : Nb 22 = nI sl) (hsl : sl < 6) {e : Nat} (hn : n ≤ M) (hg : g ≤ 60) (he : 2 * e ≤ n + 2 * g) :
    (∀ k pl, tm (Qb 29) M n g = .inl (k, pl) → ∃ (n2 : Nat) (co2 : Int32) (l : List (Int32 × Int32)), n2 ≤ M ∧ e + l.length ≤ 300 ∧ jx_cr (d + 8) 77 [.ref 113] (tw h s a E (pN Nb (nI n) (0) (nI e) (de) (nI g) (op)) (pQ Qb (so) (nu) (on)) W) = some (.inl none, (tw h s a E (pN Nb (nI n2) (1 + 8 * nI pl + nI k) (nI (e + l.length)) (de) (co2) (op)) (pQ Qb (apr so (300 * sl + e) (l.map Prod.fst)) (apr nu (300 * sl + e) (l.map Prod.snd)) (on)) W))) ∧
    (∀ L m g2, tm (Qb 29) M n g = .inr (L, m, g2) → ∃ l : List (Int32 × Int32), (∀ w st, evs w l st = L w :: st) ∧ 2 * l.length + 1 ≤ (m - n) + 2 * (g2 - g) ∧ jx_cr (d + 8) 77 [.ref 113] (tw h s a E (pN Nb (nI n) (0) (nI e) (de) (nI g) (op)) (pQ Qb (so) (nu) (on)) W) = some (.inl none, (tw h s a E (pN Nb (nI m) (0) (nI (e + l.length)) (de) (nI g2) (op)) (pQ Qb (apr so (300 * sl + e) (l.map Prod.fst)) (apr nu (300 * sl + e) (l.map Prod.snd)) (on)) W))) := by
  have vv := m_value (d := d) (h := h) (s := s) (a := a) (E := E) (Nb := Nb) (Qb := Qb) (W := W) (n := n) (g := g) (e := e) (de := de) (op := op) (so := so) (nu := nu) (on := on) hs eM hM hb e28 esl hsl hn hg he
  rw [tm]
  cases hV : vl (Qb 29) M n g with
  | inl er =>
    refine ⟨fun k pl hk => ?_, fun L2 m2 g2 hk => (by cases hk)⟩
    cases hk
    obtain ⟨n2, co2, b1, b2⟩ := vv.1 _ _ hV
    have fb := vl_f (tp := Qb 29) hn hV
    have fz : ¬ (1 + 8 * nI pl + nI k : Int32) = 0 := flt_z fb.1 (by omega)
    have s2 := fun d => m_blanks (d := d) (n := n2) (h := h) (s := s) (a := a) (E := E) (Nb := Nb) (Qb := Qb) (W := W) (f := 1 + 8 * nI pl + nI k) (en := nI e) (de := de) (co := co2) (op := op) (so := so) (nu := nu) (on := on) eM hM hb (by omega)
    refine ⟨skp (Qb 29) M n2, co2, [], skp_le b1, by show e + 0 ≤ 300; omega, ?_⟩
    show jx_cr _ _ _ _ = some (.inl none, (tw h s a E (pN Nb (nI (skp (Qb 29) M n2)) (1 + 8 * nI pl + nI k) (nI e) (de) (co2) (op)) (pQ Qb (so) (nu) (on)) W))
    simp only [cr_77, eb_77_0, eb_77_8, eb_77_100, jx_ns_r, jx_ns_n, jx_ns_q, jx_ns_i, jx_gl_0, jx_gl_s, if_true, if_false, ite_true, ite_false, eq_self, Bool.false_eq_true, List.length_cons, List.length_nil, Nat.zero_le, Nat.reduceAdd, Nat.reduceSub, Nat.reduceLeDiff, Nat.reduceLT, Nat.reduceEqDiff, Int.reduceToNat, reduceIte, xe_aload, jx_rv_r, jx_rv_n, jx_rv_q, xe_inv0, jx_cc_i, jx_cc_v, Nat.reduceMod, Nat.reduceDiv, jx_cl9_i, xe_goto_w, xk_getf, jx_gf_i, jx_ov_s, ak_V, xe_ifne, xe_iconst, xi_42, xe_icmp_eq, xi_47, xi_37, xe_icmp_ne, xi_13, xx_13, xe_goto, xi_14, xx_14, xi_15, xx_15, xe_istore, xe_dup, jx_2_i, jx_2_l, jx_2_r, jx_2_n, jx_2_q, or_self, xi_1, xx_1, xe_iadd, xk_putf, ak_P, jx_pf_i, jx_pf_z, jx_pf_l, jx_pf_r, jx_pf_n, jx_pf_q, xk_iload, jx_iv_i, ak_I, xi_0, xx_0, xe_inv2, xe_return, jx_s1, List.set_cons_zero, List.set_cons_succ, jx_2_u, jx_2_s, jx_k_i, jx_k_l, jx_k_r, jx_k_n, jx_k_u, jx_k_s, jx_k_q, tw_r, tw_f, tw_s, tw_wo, pN_r, pN_w, pQ_r, pQ_w, tw_w30, tw_w31, tw_w36, va_up_s, b2, s2, fz]
  | inr X =>
    obtain ⟨L1, m1, g1⟩ := X
    obtain ⟨l1, b1, b2, b3⟩ := vv.2 _ _ _ hV
    have bb := vl_b (tp := Qb 29) hn hV
    have s2 := fun d => m_blanks (d := d) (n := m1) (h := h) (s := s) (a := a) (E := E) (Nb := Nb) (Qb := Qb) (W := W) (f := 0) (en := nI (e + l1.length)) (de := de) (co := nI g1) (op := op) (so := apr so (300 * sl + e) (l1.map Prod.fst)) (nu := apr nu (300 * sl + e) (l1.map Prod.snd)) (on := on) eM hM hb (by omega)
    have go := m_terml (sl := sl) (h := h) (s := s) (a := a) (E := E) (Nb := Nb) (Qb := Qb) (W := W) (de := de) (op := op) (on := on) hs eM hM hb e28 esl hsl (M + 1) d m1 g1 (e + l1.length) (apr so (300 * sl + e) (l1.map Prod.fst)) (apr nu (300 * sl + e) (l1.map Prod.snd)) L1 jx_un (.inl rfl) (by omega) bb.2.1 bb.2.2.2 (by omega)
    have st : jx_cr (d + 8) 77 [.ref 113] (tw h s a E (pN Nb (nI n) (0) (nI e) (de) (nI g) (op)) (pQ Qb (so) (nu) (on)) W) = jx_eb (d + 7) 77 8 [.ref 113, jx_un] [] (tw h s a E (pN Nb (nI (skp (Qb 29) M m1)) (0) (nI (e + l1.length)) (de) (nI g1) (op)) (pQ Qb (apr so (300 * sl + e) (l1.map Prod.fst)) (apr nu (300 * sl + e) (l1.map Prod.snd)) (on)) W) := by
      simp only [cr_77, eb_77_0, jx_ns_r, jx_ns_n, jx_ns_q, jx_ns_i, jx_gl_0, jx_gl_s, if_true, if_false, ite_true, ite_false, eq_self, Bool.false_eq_true, List.length_cons, List.length_nil, Nat.zero_le, Nat.reduceAdd, Nat.reduceSub, Nat.reduceLeDiff, Nat.reduceLT, Nat.reduceEqDiff, Int.reduceToNat, reduceIte, xe_aload, jx_rv_r, jx_rv_n, jx_rv_q, xe_inv0, jx_cc_i, jx_cc_v, Nat.reduceMod, Nat.reduceDiv, jx_cl9_i, xe_goto_w, xk_getf, jx_gf_i, jx_ov_s, ak_V, xe_ifne, xe_iconst, xi_42, xe_icmp_eq, xi_47, xi_37, xe_icmp_ne, xi_13, xx_13, xe_goto, xi_14, xx_14, xi_15, xx_15, xe_istore, xe_dup, jx_2_i, jx_2_l, jx_2_r, jx_2_n, jx_2_q, or_self, xi_1, xx_1, xe_iadd, xk_putf, ak_P, jx_pf_i, jx_pf_z, jx_pf_l, jx_pf_r, jx_pf_n, jx_pf_q, xk_iload, jx_iv_i, ak_I, xi_0, xx_0, xe_inv2, xe_return, jx_s1, List.set_cons_zero, List.set_cons_succ, jx_2_u, jx_2_s, jx_k_i, jx_k_l, jx_k_r, jx_k_n, jx_k_u, jx_k_s, jx_k_q, tw_r, tw_f, tw_s, tw_wo, pN_r, pN_w, pQ_r, pQ_w, tw_w30, tw_w31, tw_w36, va_up_s, b3, s2]
    rw [st]
    refine ⟨fun k pl hk => ?_, fun L2 m2 g2 hk => ?_⟩
    · obtain ⟨n2, co2, l2, y1, y2, y3⟩ := go.1 k pl hk
      refine ⟨n2, co2, l1 ++ l2, y1, by rw [← len_j2]; exact y2, ?_⟩
      rw [← len_j2, ← apr_j2, ← apr_j2]
      exact y3
    · obtain ⟨l2, y1, y2, y3⟩ := go.2 L2 m2 g2 hk
      have cb := chn_b (tp := Qb 29) (M := M) (S := sgm) (by decide) (fun n g L m g2 hn h => vl_b hn h) _ _ _ _ _ _ _ bb.2.1 bb.2.2.2 hk
      refine ⟨l1 ++ l2, fun w st => ?_, by rw [List.length_append]; omega, ?_⟩
      · rw [evs_app, b1]
        exact y1 w st
      · rw [← len_j2, ← apr_j2, ← apr_j2]
        exact y3
end PLV
