/-! THE TWIN'S PARSER: the loop of a term -/
set_option maxRecDepth 100000
section PLU
variable {d : Nat} {h : jx_H} {s : Nat → Int32} {a : Nat → Nat → Int32} {E Nb : Nat → Int32} {Qb : Nat → Nat → Int32} {W : Nat → Nat → Int64} {n M g sl i k : Nat} {p f en de co op v l : Int32} {so nu on : Nat → Int32}
theorem apr_join {fn : Int32 × Int32 → Int32} {F : Nat → Int32} {b e : Nat} {l1 l2 : List (Int32 × Int32)} {c : Int32 × Int32} : apr (upd (apr F (b + e) (l1.map fn)) (b + (e + l1.length)) (fn c)) (b + (e + l1.length + 1)) (l2.map fn) = apr F (b + e) ((l1 ++ c :: l2).map fn) := by
  rw [List.map_append, apr_app, List.length_map, show b + e + l1.length = b + (e + l1.length) by omega]
  rfl
theorem len_join {e : Nat} {l1 l2 : List (Int32 × Int32)} {c : Int32 × Int32} : e + l1.length + 1 + l2.length = e + (l1 ++ c :: l2).length := by
  rw [List.length_append, List.length_cons]; omega
theorem m_terml (hs : ss_ok h) (eM : Nb 19 = nI M) (hM : M ≤ 400) (hb : tb (Qb 29)) (e28 : Nb 28 = 12) (esl : Nb 22 = nI sl) (hsl : sl < 6) : ∀ fu d n g e so nu L lv, (lv = jx_un ∨ ∃ v, lv = .int v) → M - n < fu → n ≤ M → g ≤ 60 → 2 * e ≤ n + 2 * g →
    (∀ k pl, chn (Qb 29) M sgm (vl (Qb 29) M) fu L n g = .inl (k, pl) → ∃ (n2 : Nat) (co2 : Int32) (l : List (Int32 × Int32)), n2 ≤ M ∧ e + l.length ≤ 300 ∧ jx_eb (d + 7) 77 8 [.ref 113, lv] [] (tw h s a E (pN Nb (nI (skp (Qb 29) M n)) (0) (nI e) (de) (nI g) (op)) (pQ Qb (so) (nu) (on)) W) = some (.inl none, (tw h s a E (pN Nb (nI n2) (1 + 8 * nI pl + nI k) (nI (e + l.length)) (de) (co2) (op)) (pQ Qb (apr so (300 * sl + e) (l.map Prod.fst)) (apr nu (300 * sl + e) (l.map Prod.snd)) (on)) W))) ∧
    (∀ L2 m g2, chn (Qb 29) M sgm (vl (Qb 29) M) fu L n g = .inr (L2, m, g2) → ∃ l : List (Int32 × Int32), (∀ w st, evs w l (L w :: st) = L2 w :: st) ∧ 2 * l.length ≤ (m - n) + 2 * (g2 - g) ∧ jx_eb (d + 7) 77 8 [.ref 113, lv] [] (tw h s a E (pN Nb (nI (skp (Qb 29) M n)) (0) (nI e) (de) (nI g) (op)) (pQ Qb (so) (nu) (on)) W) = some (.inl none, (tw h s a E (pN Nb (nI m) (0) (nI (e + l.length)) (de) (nI g2) (op)) (pQ Qb (apr so (300 * sl + e) (l.map Prod.fst)) (apr nu (300 * sl + e) (l.map Prod.snd)) (on)) W))) := by
  intro fu
  induction fu with
  | zero => intro d n g e so nu L lv hlv hf; omega
  | succ fu ih =>
    intro d n g e so nu L lv hlv hf hn hg he
    have le := skp_le (tp := Qb 29) hn
    have ge := skp_ge (Qb 29) M n
    have ii := skp_i (tp := Qb 29) hn
    rw [chn]
    generalize skp (Qb 29) M n = m at le ge ii ⊢
    have s1 := fun d => m_sign (d := d) (n := m) (h := h) (s := s) (a := a) (E := E) (Nb := Nb) (Qb := Qb) (W := W) (f := 0) (en := nI e) (de := de) (co := nI g) (op := op) (so := so) (nu := nu) (on := on) eM hM (by omega)
    by_cases hq : sgm (sg (Qb 29) M m) = true
    · have mM : m < M := sg_lt (fun z => by rw [z] at hq; exact absurd hq (by decide))
      rw [if_pos hq]
      have bt := (tb_v (hb m)).1
      have sv : sg (Qb 29) M m = Qb 29 m &&& 255 := if_pos mM
      have tv : (sg (Qb 29) M m = 42 ∧ Qb 29 m = 42) ∨ (sg (Qb 29) M m = 47 ∧ Qb 29 m = 47) ∨ (sg (Qb 29) M m = 37 ∧ Qb 29 m = 37) := by
        rcases sgm_i.mp hq with w | w | w
        · exact .inl ⟨w, (bt 42 (by omega)).mp (sv.symm.trans w)⟩
        · exact .inr (.inl ⟨w, (bt 47 (by omega)).mp (sv.symm.trans w)⟩)
        · exact .inr (.inr ⟨w, (bt 37 (by omega)).mp (sv.symm.trans w)⟩)
      have ov : Qb 29 m = 43 ∨ Qb 29 m = 45 ∨ Qb 29 m = 42 ∨ Qb 29 m = 47 ∨ Qb 29 m = 37 := by
        rcases tv with w | w | w
        · exact .inr (.inr (.inl w.2))
        · exact .inr (.inr (.inr (.inl w.2)))
        · exact .inr (.inr (.inr (.inr w.2)))
      have vv := m_value (d := d) (h := h) (s := s) (a := a) (E := E) (Nb := Nb) (Qb := Qb) (W := W) (n := m + 1) (g := g) (e := e) (de := de) (op := op) (so := so) (nu := nu) (on := on) hs eM hM hb e28 esl hsl (by omega) hg (by omega)
      have hd : ∀ R, jx_eb (d + 7) 77 72 [.ref 113, lv] [.int (opk (Qb 29 m))] (tw h s a E (pN Nb (nI m) (0) (nI e) (de) (nI g) (op)) (pQ Qb (so) (nu) (on)) W) = R → jx_eb (d + 7) 77 8 [.ref 113, lv] [] (tw h s a E (pN Nb (nI m) (0) (nI e) (de) (nI g) (op)) (pQ Qb (so) (nu) (on)) W) = R := by
        intro R hR
        rw [← hR]
        rcases tv with ⟨w, w2⟩ | ⟨w, w2⟩ | ⟨w, w2⟩ <;> rw [w2] <;> rcases hlv with rfl | ⟨v, rfl⟩ <;> simp only [eb_77_8, eb_77_42, eb_77_56, eb_77_70, jx_ns_r, jx_ns_n, jx_ns_q, jx_ns_i, jx_gl_0, jx_gl_s, if_true, if_false, ite_true, ite_false, eq_self, Bool.false_eq_true, List.length_cons, List.length_nil, Nat.zero_le, Nat.reduceAdd, Nat.reduceSub, Nat.reduceLeDiff, Nat.reduceLT, Nat.reduceEqDiff, Int.reduceToNat, reduceIte, xe_aload, jx_rv_r, jx_rv_n, jx_rv_q, xe_inv0, jx_cc_i, jx_cc_v, Nat.reduceMod, Nat.reduceDiv, jx_cl9_i, xe_goto_w, xk_getf, jx_gf_i, jx_ov_s, ak_V, xe_ifne, xe_iconst, xi_42, xe_icmp_eq, xi_47, xi_37, xe_icmp_ne, xi_13, xx_13, xe_goto, xi_14, xx_14, xi_15, xx_15, xe_istore, xe_dup, jx_2_i, jx_2_l, jx_2_r, jx_2_n, jx_2_q, or_self, xi_1, xx_1, xe_iadd, xk_putf, ak_P, jx_pf_i, jx_pf_z, jx_pf_l, jx_pf_r, jx_pf_n, jx_pf_q, xk_iload, jx_iv_i, ak_I, xi_0, xx_0, xe_inv2, xe_return, jx_s1, List.set_cons_zero, List.set_cons_succ, jx_2_u, jx_2_s, jx_k_i, jx_k_l, jx_k_r, jx_k_n, jx_k_u, jx_k_s, jx_k_q, tw_r, tw_f, tw_s, tw_wo, pN_r, pN_w, pQ_r, pQ_w, tw_w30, tw_w31, tw_w36, va_up_s, s1, w, sg_ne] <;> rfl
      cases hV : vl (Qb 29) M (m + 1) g with
      | inl er =>
        refine ⟨fun k pl hk => ?_, fun L2 m2 g2 hk => (by cases hk)⟩
        cases hk
        obtain ⟨n2, co2, b1, b2⟩ := vv.1 _ _ hV
        have fb := vl_f (tp := Qb 29) (show m + 1 ≤ M by omega) hV
        have fz : ¬ (1 + 8 * nI pl + nI k : Int32) = 0 := flt_z fb.1 (by omega)
        have me := fun d => m_entry0 (d := d) (h := h) (s := s) (a := a) (E := E) (Nb := Nb) (Qb := Qb) (W := W) (p := nI n2) (l := opk (Qb 29 m)) (v := 0) (en := nI e) (de := de) (co := co2) (op := op) (so := so) (nu := nu) (on := on) fz
        have s2 := fun d => m_blanks (d := d) (n := n2) (h := h) (s := s) (a := a) (E := E) (Nb := Nb) (Qb := Qb) (W := W) (f := 1 + 8 * nI pl + nI k) (en := nI e) (de := de) (co := co2) (op := op) (so := so) (nu := nu) (on := on) eM hM hb (by omega)
        refine ⟨skp (Qb 29) M n2, co2, [], skp_le b1, by show e + 0 ≤ 300; omega, hd _ ?_⟩
        show jx_eb _ _ _ _ _ _ = some (.inl none, (tw h s a E (pN Nb (nI (skp (Qb 29) M n2)) (1 + 8 * nI pl + nI k) (nI e) (de) (co2) (op)) (pQ Qb (so) (nu) (on)) W))
        rcases hlv with rfl | ⟨v, rfl⟩ <;> simp only [eb_77_72, eb_77_8, eb_77_100, jx_ns_r, jx_ns_n, jx_ns_q, jx_ns_i, jx_gl_0, jx_gl_s, if_true, if_false, ite_true, ite_false, eq_self, Bool.false_eq_true, List.length_cons, List.length_nil, Nat.zero_le, Nat.reduceAdd, Nat.reduceSub, Nat.reduceLeDiff, Nat.reduceLT, Nat.reduceEqDiff, Int.reduceToNat, reduceIte, xe_aload, jx_rv_r, jx_rv_n, jx_rv_q, xe_inv0, jx_cc_i, jx_cc_v, Nat.reduceMod, Nat.reduceDiv, jx_cl9_i, xe_goto_w, xk_getf, jx_gf_i, jx_ov_s, ak_V, xe_ifne, xe_iconst, xi_42, xe_icmp_eq, xi_47, xi_37, xe_icmp_ne, xi_13, xx_13, xe_goto, xi_14, xx_14, xi_15, xx_15, xe_istore, xe_dup, jx_2_i, jx_2_l, jx_2_r, jx_2_n, jx_2_q, or_self, xi_1, xx_1, xe_iadd, xk_putf, ak_P, jx_pf_i, jx_pf_z, jx_pf_l, jx_pf_r, jx_pf_n, jx_pf_q, xk_iload, jx_iv_i, ak_I, xi_0, xx_0, xe_inv2, xe_return, jx_s1, List.set_cons_zero, List.set_cons_succ, jx_2_u, jx_2_s, jx_k_i, jx_k_l, jx_k_r, jx_k_n, jx_k_u, jx_k_s, jx_k_q, tw_r, tw_f, tw_s, tw_wo, pN_r, pN_w, pQ_r, pQ_w, tw_w30, tw_w31, tw_w36, va_up_s, nI_1, b2, me, s2, fz]
      | inr X =>
        obtain ⟨L1, m1, g1⟩ := X
        obtain ⟨l1, b1, b2, b3⟩ := vv.2 _ _ _ hV
        have bb := vl_b (tp := Qb 29) (show m + 1 ≤ M by omega) hV
        have me := fun d => m_entry1 (d := d) (h := h) (s := s) (a := a) (E := E) (Nb := Nb) (Qb := Qb) (W := W) (p := nI m1) (l := opk (Qb 29 m)) (v := 0) (de := de) (co := nI g1) (op := op) (so := apr so (300 * sl + e) (l1.map Prod.fst)) (nu := apr nu (300 * sl + e) (l1.map Prod.snd)) (on := on) esl hsl (show e + l1.length < 300 by omega)
        have s2 := fun d => m_blanks (d := d) (n := m1) (h := h) (s := s) (a := a) (E := E) (Nb := Nb) (Qb := Qb) (W := W) (f := 0) (en := nI (e + l1.length + 1)) (de := de) (co := nI g1) (op := op) (so := upd (apr so (300 * sl + e) (l1.map Prod.fst)) (300 * sl + (e + l1.length)) (opk (Qb 29 m))) (nu := upd (apr nu (300 * sl + e) (l1.map Prod.snd)) (300 * sl + (e + l1.length)) 0) (on := on) eM hM hb (by omega)
        have go := ih d m1 g1 (e + l1.length + 1) (upd (apr so (300 * sl + e) (l1.map Prod.fst)) (300 * sl + (e + l1.length)) (opk (Qb 29 m))) (upd (apr nu (300 * sl + e) (l1.map Prod.snd)) (300 * sl + (e + l1.length)) 0) (fun w => prv (Qb 29 m) (L w) (L1 w)) (.int (opk (Qb 29 m))) (.inr ⟨_, rfl⟩) (by omega) bb.2.1 bb.2.2.2 (by omega)
        have st : jx_eb (d + 7) 77 8 [.ref 113, lv] [] (tw h s a E (pN Nb (nI m) (0) (nI e) (de) (nI g) (op)) (pQ Qb (so) (nu) (on)) W) = jx_eb (d + 7) 77 8 [.ref 113, .int (opk (Qb 29 m))] [] (tw h s a E (pN Nb (nI (skp (Qb 29) M m1)) (0) (nI (e + l1.length + 1)) (de) (nI g1) (op)) (pQ Qb (upd (apr so (300 * sl + e) (l1.map Prod.fst)) (300 * sl + (e + l1.length)) (opk (Qb 29 m))) (upd (apr nu (300 * sl + e) (l1.map Prod.snd)) (300 * sl + (e + l1.length)) 0) (on)) W) := by
          refine hd _ ?_
          rcases hlv with rfl | ⟨v, rfl⟩ <;> simp only [eb_77_72, jx_ns_r, jx_ns_n, jx_ns_q, jx_ns_i, jx_gl_0, jx_gl_s, if_true, if_false, ite_true, ite_false, eq_self, Bool.false_eq_true, List.length_cons, List.length_nil, Nat.zero_le, Nat.reduceAdd, Nat.reduceSub, Nat.reduceLeDiff, Nat.reduceLT, Nat.reduceEqDiff, Int.reduceToNat, reduceIte, xe_aload, jx_rv_r, jx_rv_n, jx_rv_q, xe_inv0, jx_cc_i, jx_cc_v, Nat.reduceMod, Nat.reduceDiv, jx_cl9_i, xe_goto_w, xk_getf, jx_gf_i, jx_ov_s, ak_V, xe_ifne, xe_iconst, xi_42, xe_icmp_eq, xi_47, xi_37, xe_icmp_ne, xi_13, xx_13, xe_goto, xi_14, xx_14, xi_15, xx_15, xe_istore, xe_dup, jx_2_i, jx_2_l, jx_2_r, jx_2_n, jx_2_q, or_self, xi_1, xx_1, xe_iadd, xk_putf, ak_P, jx_pf_i, jx_pf_z, jx_pf_l, jx_pf_r, jx_pf_n, jx_pf_q, xk_iload, jx_iv_i, ak_I, xi_0, xx_0, xe_inv2, xe_return, jx_s1, List.set_cons_zero, List.set_cons_succ, jx_2_u, jx_2_s, jx_k_i, jx_k_l, jx_k_r, jx_k_n, jx_k_u, jx_k_s, jx_k_q, tw_r, tw_f, tw_s, tw_wo, pN_r, pN_w, pQ_r, pQ_w, tw_w30, tw_w31, tw_w36, va_up_s, nI_1, b3, me, s2]
        rw [st]
        refine ⟨fun k pl hk => ?_, fun L2 m2 g2 hk => ?_⟩
        · obtain ⟨n2, co2, l2, y1, y2, y3⟩ := go.1 k pl hk
          refine ⟨n2, co2, l1 ++ (opk (Qb 29 m), 0) :: l2, y1, by rw [← len_join]; exact y2, ?_⟩
          rw [← len_join, ← apr_join, ← apr_join]
          exact y3
        · obtain ⟨l2, y1, y2, y3⟩ := go.2 L2 m2 g2 hk
          have cb := chn_b (tp := Qb 29) (M := M) (S := sgm) (by decide) (fun n g L m g2 hn h => vl_b hn h) _ _ _ _ _ _ _ bb.2.1 bb.2.2.2 hk
          refine ⟨l1 ++ (opk (Qb 29 m), 0) :: l2, fun w st => ?_, by rw [List.length_append, List.length_cons]; omega, ?_⟩
          · rw [evs_app, b1]
            show evs w l2 (ev1 w (opk (Qb 29 m)) 0 (L1 w :: L w :: st)) = _
            rw [ev1_op opk_n.1 opk_n.2.1 opk_n.2.2, opk_v ov]
            exact y1 w st
          · rw [← len_join, ← apr_join, ← apr_join]
            exact y3
    · rw [if_neg hq]
      have q1 := mt sgm_i.mpr hq
      have q2 : ¬ sg (Qb 29) M m = 42 := fun z => q1 (.inl z)
      have q3 : ¬ sg (Qb 29) M m = 47 := fun z => q1 (.inr (.inl z))
      have q4 : ¬ sg (Qb 29) M m = 37 := fun z => q1 (.inr (.inr z))
      refine ⟨fun k pl hk => (by cases hk), fun L2 m2 g2 hk => ?_⟩
      cases hk
      refine ⟨[], fun w st => rfl, by show 2 * 0 ≤ _; omega, ?_⟩
      show jx_eb _ _ _ _ _ _ = some (.inl none, (tw h s a E (pN Nb (nI m) (0) (nI e) (de) (nI g) (op)) (pQ Qb (so) (nu) (on)) W))
      rcases hlv with rfl | ⟨v, rfl⟩ <;> simp only [eb_77_8, eb_77_100, jx_ns_r, jx_ns_n, jx_ns_q, jx_ns_i, jx_gl_0, jx_gl_s, if_true, if_false, ite_true, ite_false, eq_self, Bool.false_eq_true, List.length_cons, List.length_nil, Nat.zero_le, Nat.reduceAdd, Nat.reduceSub, Nat.reduceLeDiff, Nat.reduceLT, Nat.reduceEqDiff, Int.reduceToNat, reduceIte, xe_aload, jx_rv_r, jx_rv_n, jx_rv_q, xe_inv0, jx_cc_i, jx_cc_v, Nat.reduceMod, Nat.reduceDiv, jx_cl9_i, xe_goto_w, xk_getf, jx_gf_i, jx_ov_s, ak_V, xe_ifne, xe_iconst, xi_42, xe_icmp_eq, xi_47, xi_37, xe_icmp_ne, xi_13, xx_13, xe_goto, xi_14, xx_14, xi_15, xx_15, xe_istore, xe_dup, jx_2_i, jx_2_l, jx_2_r, jx_2_n, jx_2_q, or_self, xi_1, xx_1, xe_iadd, xk_putf, ak_P, jx_pf_i, jx_pf_z, jx_pf_l, jx_pf_r, jx_pf_n, jx_pf_q, xk_iload, jx_iv_i, ak_I, xi_0, xx_0, xe_inv2, xe_return, jx_s1, List.set_cons_zero, List.set_cons_succ, jx_2_u, jx_2_s, jx_k_i, jx_k_l, jx_k_r, jx_k_n, jx_k_u, jx_k_s, jx_k_q, tw_r, tw_f, tw_s, tw_wo, pN_r, pN_w, pQ_r, pQ_w, tw_w30, tw_w31, tw_w36, va_up_s, s1, q2, q3, q4]
end PLU
