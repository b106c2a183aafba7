/-! THE TWIN'S PARSER: sums -/
set_option maxRecDepth 100000
theorem chn_s {tp : Nat → Int32} {M : Nat} {S : Int32 → Bool} {el : Nat → Nat → Vr} (hS : S (-1) = false) (hel : ∀ n g L m g2, n ≤ M → el n g = .inr (L, m, g2) → n < m ∧ m ≤ M ∧ g ≤ g2 ∧ g2 ≤ 60) : ∀ f L0 n g L m g2, n ≤ M → chn tp M S el f L0 n g = .inr (L, m, g2) → skp tp M m = m := by
  intro f
  induction f with
  | zero =>
    intro L0 n g L m g2 hn e
    rw [chn] at e
    cases e
    exact skp_i hn
  | succ f ih =>
    intro L0 n g L m g2 hn e
    rw [chn] at e
    split at e
    · rename_i hs
      have lt := sg_lt (tp := tp) (M := M) (n := skp tp M n) (fun z => by rw [z, hS] at hs; cases hs)
      split at e
      · cases e
      · rename_i L2 m1 g1 h1
        have b := hel _ _ _ _ _ lt h1
        exact ih _ _ _ _ _ _ b.2.1 e
    · cases e; exact skp_i hn
theorem tm_s {tp : Nat → Int32} {M n m g g2 : Nat} {L : (Nat → Int64) → Int64} (hn : n ≤ M) (e : tm tp M n g = .inr (L, m, g2)) : skp tp M m = m := by
  rw [tm] at e
  split at e
  · cases e
  · rename_i L1 m1 g1 h1
    exact chn_s (S := sgm) (by decide) (fun n g L m g2 hn h => vl_b hn h) _ _ _ _ _ _ _ (vl_b hn h1).2.1 e
theorem sm_s {tp : Nat → Int32} {M n m g g2 : Nat} {L : (Nat → Int64) → Int64} (hn : n ≤ M) (e : sm tp M n g = .inr (L, m, g2)) : skp tp M m = m := by
  rw [sm] at e
  split at e
  · cases e
  · rename_i L1 m1 g1 h1
    exact chn_s (S := sga) (by decide) (fun n g L m g2 hn h => tm_b hn h) _ _ _ _ _ _ _ (tm_b hn h1).2.1 e
section PLW
variable {d : Nat} {h : jx_H} {s : Nat → Int32} {a : Nat → Nat → Int32} {E Nb : Nat → Int32} {Qb : Nat → Nat → Int32} {W : Nat → Nat → Int64} {n M g sl i k : Nat} {p f en de co op v l : Int32} {so nu on : Nat → Int32}
theorem m_suml (hs : ss_ok h) (eM : Nb 19 = nI M) (hM : M ≤ 400) (hb : tb (Qb 29)) (e28 : Nb 28 = 12) (esl : Nb 22 = nI sl) (hsl : sl < 6) : ∀ fu d n g e so nu L lv, (lv = jx_un ∨ ∃ v, lv = .int v) → skp (Qb 29) M n = n → M - n < fu → n ≤ M → g ≤ 60 → 2 * e ≤ n + 2 * g →
    (∀ k pl, chn (Qb 29) M sga (tm (Qb 29) M) fu L n g = .inl (k, pl) → ∃ (n2 : Nat) (co2 : Int32) (l : List (Int32 × Int32)), n2 ≤ M ∧ e + l.length ≤ 300 ∧ jx_eb (d + 8) 78 4 [.ref 113, lv] [] (tw h s a E (pN Nb (nI n) (0) (nI e) (de) (nI g) (op)) (pQ Qb (so) (nu) (on)) W) = some (.inl none, (tw h s a E (pN Nb (nI n2) (1 + 8 * nI pl + nI k) (nI (e + l.length)) (de) (co2) (op)) (pQ Qb (apr so (300 * sl + e) (l.map Prod.fst)) (apr nu (300 * sl + e) (l.map Prod.snd)) (on)) W))) ∧
    (∀ L2 m g2, chn (Qb 29) M sga (tm (Qb 29) M) fu L n g = .inr (L2, m, g2) → ∃ l : List (Int32 × Int32), (∀ w st, evs w l (L w :: st) = L2 w :: st) ∧ 2 * l.length ≤ (m - n) + 2 * (g2 - g) ∧ jx_eb (d + 8) 78 4 [.ref 113, lv] [] (tw h s a E (pN Nb (nI n) (0) (nI e) (de) (nI g) (op)) (pQ Qb (so) (nu) (on)) W) = some (.inl none, (tw h s a E (pN Nb (nI m) (0) (nI (e + l.length)) (de) (nI g2) (op)) (pQ Qb (apr so (300 * sl + e) (l.map Prod.fst)) (apr nu (300 * sl + e) (l.map Prod.snd)) (on)) W))) := by
  intro fu
  induction fu with
  | zero => intro d n g e so nu L lv hlv hsk hf; omega
  | succ fu ih =>
    intro d n g e so nu L lv hlv hsk hf hn hg he
    rw [chn, hsk]
    have s1 := fun d => m_sign (d := d) (n := n) (h := h) (s := s) (a := a) (E := E) (Nb := Nb) (Qb := Qb) (W := W) (f := 0) (en := nI e) (de := de) (co := nI g) (op := op) (so := so) (nu := nu) (on := on) eM hM (by omega)
    by_cases hq : sga (sg (Qb 29) M n) = true
    · have mM : n < M := sg_lt (fun z => by rw [z] at hq; exact absurd hq (by decide))
      rw [if_pos hq]
      have bt := (tb_v (hb n)).1
      have sv : sg (Qb 29) M n = Qb 29 n &&& 255 := if_pos mM
      have tv : (sg (Qb 29) M n = 43 ∧ Qb 29 n = 43) ∨ (sg (Qb 29) M n = 45 ∧ Qb 29 n = 45) := by
        rcases sga_i.mp hq with w | w
        · exact .inl ⟨w, (bt 43 (by omega)).mp (sv.symm.trans w)⟩
        · exact .inr ⟨w, (bt 45 (by omega)).mp (sv.symm.trans w)⟩
      have ov : Qb 29 n = 43 ∨ Qb 29 n = 45 ∨ Qb 29 n = 42 ∨ Qb 29 n = 47 ∨ Qb 29 n = 37 := by
        rcases tv with w | w
        · exact .inl w.2
        · exact .inr (.inl w.2)
      have vv := m_term (d := d) (h := h) (s := s) (a := a) (E := E) (Nb := Nb) (Qb := Qb) (W := W) (sl := sl) (n := n + 1) (g := g) (e := e) (de := de) (op := op) (so := so) (nu := nu) (on := on) hs eM hM hb e28 esl hsl (by omega) hg (by omega)
      have hd : ∀ R, jx_eb (d + 8) 78 43 [.ref 113, lv] [.int (opk (Qb 29 n))] (tw h s a E (pN Nb (nI n) (0) (nI e) (de) (nI g) (op)) (pQ Qb (so) (nu) (on)) W) = R → jx_eb (d + 8) 78 4 [.ref 113, lv] [] (tw h s a E (pN Nb (nI n) (0) (nI e) (de) (nI g) (op)) (pQ Qb (so) (nu) (on)) W) = R := by
        intro R hR
        rw [← hR]
        rcases tv with ⟨w, w2⟩ | ⟨w, w2⟩ <;> rw [w2] <;> rcases hlv with rfl | ⟨v, rfl⟩ <;> simp only [eb_78_4, eb_78_29, eb_78_42, jx_ns_r, jx_ns_n, jx_ns_q, jx_ns_i, jx_gl_0, jx_gl_s, if_true, if_false, ite_true, ite_false, eq_self, Bool.false_eq_true, List.length_cons, List.length_nil, Nat.zero_le, Nat.reduceAdd, Nat.reduceSub, Nat.reduceLeDiff, Nat.reduceLT, Nat.reduceEqDiff, Int.reduceToNat, reduceIte, xe_aload, jx_rv_r, jx_rv_n, jx_rv_q, xe_inv0, jx_cc_i, jx_cc_v, Nat.reduceMod, Nat.reduceDiv, jx_cl9_i, xe_goto_w, xk_getf, jx_gf_i, jx_ov_s, ak_V, xe_ifne, xe_iconst, xi_43, xe_icmp_eq, xi_45, xe_icmp_ne, xi_2, xx_2, xe_goto, xi_3, xx_3, xe_istore, xe_dup, jx_2_i, jx_2_l, jx_2_r, jx_2_n, jx_2_q, or_self, xi_1, xx_1, xe_iadd, xk_putf, ak_P, jx_pf_i, jx_pf_z, jx_pf_l, jx_pf_r, jx_pf_n, jx_pf_q, xk_iload, jx_iv_i, ak_I, xi_0, xx_0, xe_inv2, xe_return, jx_s1, List.set_cons_zero, List.set_cons_succ, jx_2_u, jx_2_s, jx_k_i, jx_k_l, jx_k_r, jx_k_n, jx_k_u, jx_k_s, jx_k_q, tw_r, tw_f, tw_s, tw_wo, pN_r, pN_w, pQ_r, pQ_w, tw_w30, tw_w31, tw_w36, va_up_s, s1, w, sg_ne] <;> rfl
      cases hV : tm (Qb 29) M (n + 1) g with
      | inl er =>
        refine ⟨fun k pl hk => ?_, fun L2 m2 g2 hk => (by cases hk)⟩
        cases hk
        obtain ⟨n2, co2, l1, b1, b0, b2⟩ := vv.1 _ _ hV
        have fb := tm_f (tp := Qb 29) (show n + 1 ≤ M by omega) hV
        have fz : ¬ (1 + 8 * nI pl + nI k : Int32) = 0 := flt_z fb.1 (by omega)
        have me := fun d so nu en => m_entry0 (d := d) (h := h) (s := s) (a := a) (E := E) (Nb := Nb) (Qb := Qb) (W := W) (p := nI n2) (l := opk (Qb 29 n)) (v := 0) (en := en) (de := de) (co := co2) (op := op) (so := so) (nu := nu) (on := on) fz
        refine ⟨n2, co2, l1, b1, b0, hd _ ?_⟩
        rcases hlv with rfl | ⟨v, rfl⟩ <;> simp only [eb_78_43, eb_78_4, eb_78_67, jx_ns_r, jx_ns_n, jx_ns_q, jx_ns_i, jx_gl_0, jx_gl_s, if_true, if_false, ite_true, ite_false, eq_self, Bool.false_eq_true, List.length_cons, List.length_nil, Nat.zero_le, Nat.reduceAdd, Nat.reduceSub, Nat.reduceLeDiff, Nat.reduceLT, Nat.reduceEqDiff, Int.reduceToNat, reduceIte, xe_aload, jx_rv_r, jx_rv_n, jx_rv_q, xe_inv0, jx_cc_i, jx_cc_v, Nat.reduceMod, Nat.reduceDiv, jx_cl9_i, xe_goto_w, xk_getf, jx_gf_i, jx_ov_s, ak_V, xe_ifne, xe_iconst, xi_43, xe_icmp_eq, xi_45, xe_icmp_ne, xi_2, xx_2, xe_goto, xi_3, xx_3, xe_istore, xe_dup, jx_2_i, jx_2_l, jx_2_r, jx_2_n, jx_2_q, or_self, xi_1, xx_1, xe_iadd, xk_putf, ak_P, jx_pf_i, jx_pf_z, jx_pf_l, jx_pf_r, jx_pf_n, jx_pf_q, xk_iload, jx_iv_i, ak_I, xi_0, xx_0, xe_inv2, xe_return, jx_s1, List.set_cons_zero, List.set_cons_succ, jx_2_u, jx_2_s, jx_k_i, jx_k_l, jx_k_r, jx_k_n, jx_k_u, jx_k_s, jx_k_q, tw_r, tw_f, tw_s, tw_wo, pN_r, pN_w, pQ_r, pQ_w, tw_w30, tw_w31, tw_w36, va_up_s, nI_1, b2, me, fz]
      | inr X =>
        obtain ⟨L1, m1, g1⟩ := X
        obtain ⟨l1, b1, b2, b3⟩ := vv.2 _ _ _ hV
        have bb := tm_b (tp := Qb 29) (show n + 1 ≤ M by omega) hV
        have bs := tm_s (tp := Qb 29) (show n + 1 ≤ M by omega) hV
        have me := fun d => m_entry1 (d := d) (h := h) (s := s) (a := a) (E := E) (Nb := Nb) (Qb := Qb) (W := W) (p := nI m1) (l := opk (Qb 29 n)) (v := 0) (de := de) (co := nI g1) (op := op) (so := apr so (300 * sl + e) (l1.map Prod.fst)) (nu := apr nu (300 * sl + e) (l1.map Prod.snd)) (on := on) esl hsl (show e + l1.length < 300 by omega)
        have go := ih d m1 g1 (e + l1.length + 1) (upd (apr so (300 * sl + e) (l1.map Prod.fst)) (300 * sl + (e + l1.length)) (opk (Qb 29 n))) (upd (apr nu (300 * sl + e) (l1.map Prod.snd)) (300 * sl + (e + l1.length)) 0) (fun w => prv (Qb 29 n) (L w) (L1 w)) (.int (opk (Qb 29 n))) (.inr ⟨_, rfl⟩) bs (by omega) bb.2.1 bb.2.2.2 (by omega)
        have st : jx_eb (d + 8) 78 4 [.ref 113, lv] [] (tw h s a E (pN Nb (nI n) (0) (nI e) (de) (nI g) (op)) (pQ Qb (so) (nu) (on)) W) = jx_eb (d + 8) 78 4 [.ref 113, .int (opk (Qb 29 n))] [] (tw h s a E (pN Nb (nI m1) (0) (nI (e + l1.length + 1)) (de) (nI g1) (op)) (pQ Qb (upd (apr so (300 * sl + e) (l1.map Prod.fst)) (300 * sl + (e + l1.length)) (opk (Qb 29 n))) (upd (apr nu (300 * sl + e) (l1.map Prod.snd)) (300 * sl + (e + l1.length)) 0) (on)) W) := by
          refine hd _ ?_
          rcases hlv with rfl | ⟨v, rfl⟩ <;> simp only [eb_78_43, jx_ns_r, jx_ns_n, jx_ns_q, jx_ns_i, jx_gl_0, jx_gl_s, if_true, if_false, ite_true, ite_false, eq_self, Bool.false_eq_true, List.length_cons, List.length_nil, Nat.zero_le, Nat.reduceAdd, Nat.reduceSub, Nat.reduceLeDiff, Nat.reduceLT, Nat.reduceEqDiff, Int.reduceToNat, reduceIte, xe_aload, jx_rv_r, jx_rv_n, jx_rv_q, xe_inv0, jx_cc_i, jx_cc_v, Nat.reduceMod, Nat.reduceDiv, jx_cl9_i, xe_goto_w, xk_getf, jx_gf_i, jx_ov_s, ak_V, xe_ifne, xe_iconst, xi_43, xe_icmp_eq, xi_45, xe_icmp_ne, xi_2, xx_2, xe_goto, xi_3, xx_3, xe_istore, xe_dup, jx_2_i, jx_2_l, jx_2_r, jx_2_n, jx_2_q, or_self, xi_1, xx_1, xe_iadd, xk_putf, ak_P, jx_pf_i, jx_pf_z, jx_pf_l, jx_pf_r, jx_pf_n, jx_pf_q, xk_iload, jx_iv_i, ak_I, xi_0, xx_0, xe_inv2, xe_return, jx_s1, List.set_cons_zero, List.set_cons_succ, jx_2_u, jx_2_s, jx_k_i, jx_k_l, jx_k_r, jx_k_n, jx_k_u, jx_k_s, jx_k_q, tw_r, tw_f, tw_s, tw_wo, pN_r, pN_w, pQ_r, pQ_w, tw_w30, tw_w31, tw_w36, va_up_s, nI_1, b3, me]
        rw [st]
        refine ⟨fun k pl hk => ?_, fun L2 m2 g2 hk => ?_⟩
        · obtain ⟨n2, co2, l2, y1, y2, y3⟩ := go.1 k pl hk
          refine ⟨n2, co2, l1 ++ (opk (Qb 29 n), 0) :: l2, y1, by rw [← len_join]; exact y2, ?_⟩
          rw [← len_join, ← apr_join, ← apr_join]
          exact y3
        · obtain ⟨l2, y1, y2, y3⟩ := go.2 L2 m2 g2 hk
          have cb := chn_b (tp := Qb 29) (M := M) (S := sga) (by decide) (fun n g L m g2 hn h => tm_b hn h) _ _ _ _ _ _ _ bb.2.1 bb.2.2.2 hk
          refine ⟨l1 ++ (opk (Qb 29 n), 0) :: l2, fun w st => ?_, by rw [List.length_append, List.length_cons]; omega, ?_⟩
          · rw [evs_app, b1]
            show evs w l2 (ev1 w (opk (Qb 29 n)) 0 (L1 w :: L w :: st)) = _
            rw [ev1_op opk_n.1 opk_n.2.1 opk_n.2.2, opk_v ov]
            exact y1 w st
          · rw [← len_join, ← apr_join, ← apr_join]
            exact y3
    · rw [if_neg hq]
      have q1 := mt sga_i.mpr hq
      have q2 : ¬ sg (Qb 29) M n = 43 := fun z => q1 (.inl z)
      have q3 : ¬ sg (Qb 29) M n = 45 := fun z => q1 (.inr z)
      refine ⟨fun k pl hk => (by cases hk), fun L2 m2 g2 hk => ?_⟩
      cases hk
      refine ⟨[], fun w st => rfl, by show 2 * 0 ≤ _; omega, ?_⟩
      show jx_eb _ _ _ _ _ _ = some (.inl none, (tw h s a E (pN Nb (nI n) (0) (nI e) (de) (nI g) (op)) (pQ Qb (so) (nu) (on)) W))
      rcases hlv with rfl | ⟨v, rfl⟩ <;> simp only [eb_78_4, eb_78_67, jx_ns_r, jx_ns_n, jx_ns_q, jx_ns_i, jx_gl_0, jx_gl_s, if_true, if_false, ite_true, ite_false, eq_self, Bool.false_eq_true, List.length_cons, List.length_nil, Nat.zero_le, Nat.reduceAdd, Nat.reduceSub, Nat.reduceLeDiff, Nat.reduceLT, Nat.reduceEqDiff, Int.reduceToNat, reduceIte, xe_aload, jx_rv_r, jx_rv_n, jx_rv_q, xe_inv0, jx_cc_i, jx_cc_v, Nat.reduceMod, Nat.reduceDiv, jx_cl9_i, xe_goto_w, xk_getf, jx_gf_i, jx_ov_s, ak_V, xe_ifne, xe_iconst, xi_43, xe_icmp_eq, xi_45, xe_icmp_ne, xi_2, xx_2, xe_goto, xi_3, xx_3, xe_istore, xe_dup, jx_2_i, jx_2_l, jx_2_r, jx_2_n, jx_2_q, or_self, xi_1, xx_1, xe_iadd, xk_putf, ak_P, jx_pf_i, jx_pf_z, jx_pf_l, jx_pf_r, jx_pf_n, jx_pf_q, xk_iload, jx_iv_i, ak_I, xi_0, xx_0, xe_inv2, xe_return, jx_s1, List.set_cons_zero, List.set_cons_succ, jx_2_u, jx_2_s, jx_k_i, jx_k_l, jx_k_r, jx_k_n, jx_k_u, jx_k_s, jx_k_q, tw_r, tw_f, tw_s, tw_wo, pN_r, pN_w, pQ_r, pQ_w, tw_w30, tw_w31, tw_w36, va_up_s, s1, q2, q3]
theorem m_sum (hs : ss_ok h) (eM : Nb 19 = nI M) (hM : M ≤ 400) (hb : tb (Qb 29)) (e28 : Nb 28 = 12) (esl : Nb 22 = nI sl) (hsl : sl < 6) {e : Nat} (hn : n ≤ M) (hg : g ≤ 60) (he : 2 * e ≤ n + 2 * g) :
    (∀ k pl, sm (Qb 29) M n g = .inl (k, pl) → ∃ (n2 : Nat) (co2 : Int32) (l : List (Int32 × Int32)), n2 ≤ M ∧ e + l.length ≤ 300 ∧ jx_cr (d + 9) 78 [.ref 113] (tw h s a E (pN Nb (nI n) (0) (nI e) (de) (nI g) (op)) (pQ Qb (so) (nu) (on)) W) = some (.inl none, (tw h s a E (pN Nb (nI n2) (1 + 8 * nI pl + nI k) (nI (e + l.length)) (de) (co2) (op)) (pQ Qb (apr so (300 * sl + e) (l.map Prod.fst)) (apr nu (300 * sl + e) (l.map Prod.snd)) (on)) W))) ∧
    (∀ L m g2, sm (Qb 29) M n g = .inr (L, m, g2) → ∃ l : List (Int32 × Int32), (∀ w st, evs w l st = L w :: st) ∧ 2 * l.length + 1 ≤ (m - n) + 2 * (g2 - g) ∧ jx_cr (d + 9) 78 [.ref 113] (tw h s a E (pN Nb (nI n) (0) (nI e) (de) (nI g) (op)) (pQ Qb (so) (nu) (on)) W) = some (.inl none, (tw h s a E (pN Nb (nI m) (0) (nI (e + l.length)) (de) (nI g2) (op)) (pQ Qb (apr so (300 * sl + e) (l.map Prod.fst)) (apr nu (300 * sl + e) (l.map Prod.snd)) (on)) W))) := by
  have vv := m_term (d := d) (h := h) (s := s) (a := a) (E := E) (Nb := Nb) (Qb := Qb) (W := W) (sl := sl) (n := n) (g := g) (e := e) (de := de) (op := op) (so := so) (nu := nu) (on := on) hs eM hM hb e28 esl hsl hn hg he
  rw [sm]
  cases hV : tm (Qb 29) M n g with
  | inl er =>
    refine ⟨fun k pl hk => ?_, fun L2 m2 g2 hk => (by cases hk)⟩
    cases hk
    obtain ⟨n2, co2, l1, b1, b0, b2⟩ := vv.1 _ _ hV
    have fb := tm_f (tp := Qb 29) hn hV
    have fz : ¬ (1 + 8 * nI pl + nI k : Int32) = 0 := flt_z fb.1 (by omega)
    refine ⟨n2, co2, l1, b1, b0, ?_⟩
    simp only [cr_78, eb_78_0, eb_78_4, eb_78_67, jx_ns_r, jx_ns_n, jx_ns_q, jx_ns_i, jx_gl_0, jx_gl_s, if_true, if_false, ite_true, ite_false, eq_self, Bool.false_eq_true, List.length_cons, List.length_nil, Nat.zero_le, Nat.reduceAdd, Nat.reduceSub, Nat.reduceLeDiff, Nat.reduceLT, Nat.reduceEqDiff, Int.reduceToNat, reduceIte, xe_aload, jx_rv_r, jx_rv_n, jx_rv_q, xe_inv0, jx_cc_i, jx_cc_v, Nat.reduceMod, Nat.reduceDiv, jx_cl9_i, xe_goto_w, xk_getf, jx_gf_i, jx_ov_s, ak_V, xe_ifne, xe_iconst, xi_43, xe_icmp_eq, xi_45, xe_icmp_ne, xi_2, xx_2, xe_goto, xi_3, xx_3, xe_istore, xe_dup, jx_2_i, jx_2_l, jx_2_r, jx_2_n, jx_2_q, or_self, xi_1, xx_1, xe_iadd, xk_putf, ak_P, jx_pf_i, jx_pf_z, jx_pf_l, jx_pf_r, jx_pf_n, jx_pf_q, xk_iload, jx_iv_i, ak_I, xi_0, xx_0, xe_inv2, xe_return, jx_s1, List.set_cons_zero, List.set_cons_succ, jx_2_u, jx_2_s, jx_k_i, jx_k_l, jx_k_r, jx_k_n, jx_k_u, jx_k_s, jx_k_q, tw_r, tw_f, tw_s, tw_wo, pN_r, pN_w, pQ_r, pQ_w, tw_w30, tw_w31, tw_w36, va_up_s, b2, fz]
  | inr X =>
    obtain ⟨L1, m1, g1⟩ := X
    obtain ⟨l1, b1, b2, b3⟩ := vv.2 _ _ _ hV
    have bb := tm_b (tp := Qb 29) hn hV
    have bs := tm_s (tp := Qb 29) hn hV
    have go := m_suml (sl := sl) (h := h) (s := s) (a := a) (E := E) (Nb := Nb) (Qb := Qb) (W := W) (de := de) (op := op) (on := on) hs eM hM hb e28 esl hsl (M + 1) d m1 g1 (e + l1.length) (apr so (300 * sl + e) (l1.map Prod.fst)) (apr nu (300 * sl + e) (l1.map Prod.snd)) L1 jx_un (.inl rfl) bs (by omega) bb.2.1 bb.2.2.2 (by omega)
    have st : jx_cr (d + 9) 78 [.ref 113] (tw h s a E (pN Nb (nI n) (0) (nI e) (de) (nI g) (op)) (pQ Qb (so) (nu) (on)) W) = jx_eb (d + 8) 78 4 [.ref 113, jx_un] [] (tw h s a E (pN Nb (nI m1) (0) (nI (e + l1.length)) (de) (nI g1) (op)) (pQ Qb (apr so (300 * sl + e) (l1.map Prod.fst)) (apr nu (300 * sl + e) (l1.map Prod.snd)) (on)) W) := by
      simp only [cr_78, eb_78_0, jx_ns_r, jx_ns_n, jx_ns_q, jx_ns_i, jx_gl_0, jx_gl_s, if_true, if_false, ite_true, ite_false, eq_self, Bool.false_eq_true, List.length_cons, List.length_nil, Nat.zero_le, Nat.reduceAdd, Nat.reduceSub, Nat.reduceLeDiff, Nat.reduceLT, Nat.reduceEqDiff, Int.reduceToNat, reduceIte, xe_aload, jx_rv_r, jx_rv_n, jx_rv_q, xe_inv0, jx_cc_i, jx_cc_v, Nat.reduceMod, Nat.reduceDiv, jx_cl9_i, xe_goto_w, xk_getf, jx_gf_i, jx_ov_s, ak_V, xe_ifne, xe_iconst, xi_43, xe_icmp_eq, xi_45, xe_icmp_ne, xi_2, xx_2, xe_goto, xi_3, xx_3, xe_istore, xe_dup, jx_2_i, jx_2_l, jx_2_r, jx_2_n, jx_2_q, or_self, xi_1, xx_1, xe_iadd, xk_putf, ak_P, jx_pf_i, jx_pf_z, jx_pf_l, jx_pf_r, jx_pf_n, jx_pf_q, xk_iload, jx_iv_i, ak_I, xi_0, xx_0, xe_inv2, xe_return, jx_s1, List.set_cons_zero, List.set_cons_succ, jx_2_u, jx_2_s, jx_k_i, jx_k_l, jx_k_r, jx_k_n, jx_k_u, jx_k_s, jx_k_q, tw_r, tw_f, tw_s, tw_wo, pN_r, pN_w, pQ_r, pQ_w, tw_w30, tw_w31, tw_w36, va_up_s, b3]
    rw [st]
    refine ⟨fun k pl hk => ?_, fun L2 m2 g2 hk => ?_⟩
    · obtain ⟨n2, co2, l2, y1, y2, y3⟩ := go.1 k pl hk
      refine ⟨n2, co2, l1 ++ l2, y1, by rw [← len_j2]; exact y2, ?_⟩
      rw [← len_j2, ← apr_j2, ← apr_j2]
      exact y3
    · obtain ⟨l2, y1, y2, y3⟩ := go.2 L2 m2 g2 hk
      have cb := chn_b (tp := Qb 29) (M := M) (S := sga) (by decide) (fun n g L m g2 hn h => tm_b hn h) _ _ _ _ _ _ _ bb.2.1 bb.2.2.2 hk
      refine ⟨l1 ++ l2, fun w st => ?_, by rw [List.length_append]; omega, ?_⟩
      · rw [evs_app, b1]
        exact y1 w st
      · rw [← len_j2, ← apr_j2, ← apr_j2]
        exact y3
end PLW
