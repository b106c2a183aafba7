/-! TEXTS: rules -/
set_option maxRecDepth 100000
/-- the clauses of a rule, u of them read already -/
noncomputable def rls (tp : Nat → Int32) (M : Nat) : Nat → Nat → Nat → Nat → (Nat × Nat) ⊕ List Cl
  | 0, _, _, _ => .inl (0, 0)
  | f + 1, u, n, g => if wmb tp M (skp tp M n) 6 = true then (if u < 12 then (match clh tp M (skp tp M n + 4) g with
      | .inl er => .inl er
      | .inr (C, m, g2) => if sg tp M (skp tp M m) = 59 then (match rls tp M f (u + 1) (skp tp M m + 1) g2 with
        | .inl er => .inl er
        | .inr cs => .inr (C :: cs))
        else if sg tp M (skp tp M m) = -1 then .inr [C] else .inl (0, skp tp M m)) else .inl (4, skp tp M n)) else .inl (0, skp tp M n)
theorem rul_snoc {H : jx_H} {lo hi r a c : Nat} {cs : List Cl} {C : Cl} {H0 : jx_H} {hi0 : Nat} (h : rul H0 lo hi0 r a cs) (hn : cs.length < 12) (hh : hi0 ≤ hi) (e1 : H.1 r = .inr (5, [.ref a, .int (nI (cs.length + 1))])) (e2 : ∀ ar, H0.1 a = .inl (6, 12, .inr (.inr (.inr (.inr ar)))) → H.1 a = .inl (6, 12, .inr (.inr (.inr (.inr (va_up ar cs.length (some c))))))) (hc : clv H (lo + 2) hi c C) (hk : ∀ C c, clv H0 (lo + 2) hi0 c C → clv H (lo + 2) hi c C) : rul H lo hi r a (cs ++ [C]) := by
  obtain ⟨⟨a1, a2, a3⟩, ⟨a4, a5⟩, a6, b1, ar, b2, b3⟩ := h
  have hl : (cs ++ [C]).length = cs.length + 1 := by rw [List.length_append]; rfl
  refine ⟨⟨a1, a2, by omega⟩, ⟨a4, by omega⟩, by omega, by rw [hl]; exact e1, _, e2 ar b2, fun k C' hk' => ?_⟩
  by_cases q : k < cs.length
  · rw [List.getElem?_append_left q] at hk'
    obtain ⟨c', c1, c2⟩ := b3 k C' hk'
    exact ⟨c', by rw [va_up, if_neg (by omega)]; exact c1, hk C' c' c2⟩
  · rw [List.getElem?_append_right (by omega)] at hk'
    have k0 : k - cs.length = 0 := by
      rcases Nat.eq_zero_or_pos (k - cs.length) with z | z
      · exact z
      · rw [List.getElem?_eq_none (by show 1 ≤ k - cs.length; omega)] at hk'; cases hk'
    rw [k0] at hk'
    cases hk'
    exact ⟨c, by rw [va_up, if_pos (by omega)], hc⟩
section SDN
variable {d : Nat} {h : jx_H} {cu : Option Nat} {F : Nat → Int32} {o p q z : cq_C} {T : List Value} {x : Int32 × Int32} {ru im : Nat → Option Nat} {tp : Nat → Int32} {R : Nat → Nat → Int32} {s : Nat → Int32} {a : Nat → Nat → Int32} {w : Nat → Int64}
variable {t M n g e u : Nat} {u' e' g' : Int32}
theorem T_ends1 (ht : 151 ≤ t) (eM : F 9 = nI M) (hM : M ≤ 400) (hn : n ≤ M) (hs : sg tp M (skp tp M n) = -1) : jx_cr (d + 2) 205 [.ref t] (sw (tx h t (nI n) (e') (g') u') cu F o p q z T x ru im tp R) = some (.inl none, (sw (tx h t (nI (skp tp M n)) (e') (g') u') cu F o p q z T x ru im tp R)) := by
  have s1 := fun d => T_see (d := d) (n := n) (h := h) (x := x) (cu := cu) (F := F) (o := o) (p := p) (q := q) (z := z) (T := T) (ru := ru) (im := im) (tp := tp) (R := R) (u' := u') (e' := e') (g' := g') ht eM hM hn
  simp only [cr_205, eb_205_0, eb_205_13, eb_205_14, jx_ns_r, jx_ns_n, jx_ns_q, jx_ns_i, jx_gl_0, jx_gl_s, if_true, if_false, ite_true, ite_false, eq_self, Bool.false_eq_true, List.length_cons, List.length_nil, Nat.zero_le, Nat.reduceAdd, Nat.reduceSub, Nat.reduceLeDiff, Nat.reduceLT, Nat.reduceEqDiff, Int.reduceToNat, reduceIte, xe_aload, jx_rv_r, jx_rv_n, jx_rv_q, xe_inv0, jx_cc_i, jx_cc_v, Nat.reduceMod, Nat.reduceDiv, jx_cl9_i, xe_iconst, xi_m1, xe_icmp_ne, xi_1, xx_1, xe_goto, xi_0, xx_0, xe_goto_w, xk_getf, jx_gf_i, jx_ov_s, ak_V, xe_inv3, xe_return, tx_r ht, sw_r, sw_f, tx_f, tx_s, s1, hs, T_demand1 (l := 1) (by decide)]
theorem T_ends0 (hT : T.length = 6) (ht : 151 ≤ t) (eM : F 9 = nI M) (hM : M ≤ 400) (hn : n ≤ M) (hs : ¬ sg tp M (skp tp M n) = -1) : jx_cr (d + 2) 205 [.ref t] (sw (tx h t (nI n) (e') (g') u') cu F o p q z T x ru im tp R) = some (.inr (), (sw (tx h t (nI (skp tp M n)) (e') (g') u') cu F o p q z T (0, nI (skp tp M n)) ru im tp R)) := by
  have s1 := fun d => T_see (d := d) (n := n) (h := h) (x := x) (cu := cu) (F := F) (o := o) (p := p) (q := q) (z := z) (T := T) (ru := ru) (im := im) (tp := tp) (R := R) (u' := u') (e' := e') (g' := g') ht eM hM hn
  have d0 := fun (d : Nat) => T_demand0 (d := d) (h := h) (x := x) (cu := cu) (F := F) (o := o) (p := p) (q := q) (z := z) (T := T) (ru := ru) (im := im) (tp := tp) (R := R) (u' := u') (t := t) (v := 0) (l := nI (skp tp M n)) (n' := nI (skp tp M n)) (e' := e') (g' := g') hT ht
  simp only [cr_205, eb_205_0, eb_205_13, eb_205_14, jx_ns_r, jx_ns_n, jx_ns_q, jx_ns_i, jx_gl_0, jx_gl_s, if_true, if_false, ite_true, ite_false, eq_self, Bool.false_eq_true, List.length_cons, List.length_nil, Nat.zero_le, Nat.reduceAdd, Nat.reduceSub, Nat.reduceLeDiff, Nat.reduceLT, Nat.reduceEqDiff, Int.reduceToNat, reduceIte, xe_aload, jx_rv_r, jx_rv_n, jx_rv_q, xe_inv0, jx_cc_i, jx_cc_v, Nat.reduceMod, Nat.reduceDiv, jx_cl9_i, xe_iconst, xi_m1, xe_icmp_ne, xi_1, xx_1, xe_goto, xi_0, xx_0, xe_goto_w, xk_getf, jx_gf_i, jx_ov_s, ak_V, xe_inv3, xe_return, tx_r ht, sw_r, sw_f, tx_f, tx_s, s1, hs, d0, jx_cc_x xh_205]
theorem T_rulel (hT : T.length = 6) (ht : 151 ≤ t) (eM : F 9 = nI M) (hM : M ≤ 400) {hB : jx_H} {lo : Nat} (hlo : hB.2.1 = lo) (htl : t < lo) (hsB : ss_ok hB) : ∀ f d h n g u x cs c lv, (lv = jx_un ∨ ∃ v, lv = .int v) → ex hB h c → rul h lo h.2.1 lo (lo + 1) cs → cs.length = u → M - n < f → n ≤ M → g ≤ 60 →
    (∀ k pl, rls tp M f u n g = .inl (k, pl) → (k ≤ 4 ∧ pl ≤ M) ∧ ∃ h1 n2 e2 g2 u2, ex hB h1 (c + (M - n)) ∧ jx_eb (d + 48) 214 8 [.ref t, .ref lo, lv] [] (sw (tx h t (nI n) (nI 0) (nI g) (nI u)) cu F o p q z T x ru im tp R) = some (.inr (), (sw (tx h1 t (n2) (e2) (g2) (u2)) cu F o p q z T (nI k, nI pl) ru im tp R))) ∧
    (∀ cs', rls tp M f u n g = .inr cs' → ∃ h1 n2 e2 g2 u2, ex hB h1 (c + (M - n)) ∧ rul h1 lo h1.2.1 lo (lo + 1) (cs ++ cs') ∧ jx_eb (d + 48) 214 8 [.ref t, .ref lo, lv] [] (sw (tx h t (nI n) (nI 0) (nI g) (nI u)) cu F o p q z T x ru im tp R) = some (.inl (some (.ref lo)), (sw (tx h1 t (n2) (e2) (g2) (u2)) cu F o p q z T x ru im tp R))) := by
  intro f
  induction f with
  | zero => intro d h n g u x cs c lv hlv e0 hr hu hf; omega
  | succ f ih =>
    intro d h n g u x cs c lv hlv e0 hr hu hf hn hg
    have t3 : 3 ≤ t := by omega
    have hs : ss_ok h := ex_ss e0 (by omega) hsB
    have hge : lo ≤ h.2.1 := by have := e0.1.1; omega
    have s1 := fun d => T_see (d := d) (n := n) (h := h) (x := x) (cu := cu) (F := F) (o := o) (p := p) (q := q) (z := z) (T := T) (ru := ru) (im := im) (tp := tp) (R := R) (u' := nI u) (e' := nI 0) (g' := nI g) ht eM hM hn
    have le := skp_le (tp := tp) hn
    have ge := skp_ge tp M n
    have ii := skp_i (tp := tp) hn
    rw [rls]
    generalize skp tp M n = m at le ge ii s1 ⊢
    have so := fun (d : Nat) => T_oneOf (d := d) (h := h) (x := x) (cu := cu) (F := F) (o := o) (p := p) (q := q) (z := z) (T := T) (ru := ru) (im := im) (tp := tp) (R := R) (u' := nI u) (n := m) (e' := nI 0) (g' := nI g) (nw := 1) (a := 104) (f := fun _ => 6) (ar := sw_cw) hs (fun k hk => by omega) (by omega) (by omega) (fun n' => sw_r.2.2.2.2.1) (fun k hk => rfl) ht eM hM le
    rw [ii] at so
    have d1 := fun (d : Nat) (k : Int32) => T_demand1 (d := d) (h := tx h t (nI m) (nI 0) (nI g) (nI u)) (cu := cu) (F := F) (o := o) (p := p) (q := q) (z := z) (T := T) (x := x) (ru := ru) (im := im) (tp := tp) (R := R) (t := t) (l := 1) (v := k) (n' := nI m) (by decide)
    have d0 := fun (d : Nat) (k : Int32) => T_demand0 (d := d) (h := h) (x := x) (cu := cu) (F := F) (o := o) (p := p) (q := q) (z := z) (T := T) (ru := ru) (im := im) (tp := tp) (R := R) (u' := nI u) (t := t) (v := k) (l := nI m) (n' := nI m) (e' := nI 0) (g' := nI g) hT ht
    have nz : ¬ (-1 : Int32) = 0 := by decide
    have z00 : (nI 0 = 0) = True := eq_true rfl
    by_cases hw : wm tp M m 6
    · have hwb := wmb_i.mpr hw
      have wl := wm_le le hw
      have sn : st_n 6 = 4 := rfl
      have so1 : fd (fun _ => wmb tp M m 6) 1 0 = some 0 := by rw [fd, if_pos hwb]
      rw [so1] at so
      rw [if_pos hwb]
      by_cases hu12 : u < 12
      · rw [if_pos hu12]
        have h12 : ¬ (12 : Int32) ≤ nI u := nI_ge (a := u) (b := 12) hu12 (by omega)
        have ch := T_clauseHere (cu := cu) (F := F) (o := o) (p := p) (q := q) (z := z) (T := T) (ru := ru) (im := im) (tp := tp) (R := R) (t := t) (u' := nI (u + 1)) hT ht eM hM (d + 1) h (m + 4) g x (by omega) hs (by omega) hg
        obtain ⟨⟨a1, a2, a3⟩, ⟨a4, a5⟩, a6, b1, ar, b2, b3⟩ := id hr
        rw [hu] at b1
        have n4 : nI m + 4 = nI (m + 4) := nI_add m 4
        have rdl := fun n' u' => txw_at (h := h) (x := x) (cu := cu) (F := F) (o := o) (p := p) (q := q) (z := z) (T := T) (ru := ru) (im := im) (tp := tp) (R := R) (t := t) (n' := n') (e' := nI 0) (g' := nI g) (u' := u') (k := lo) (by omega) (by omega)
        rw [b1] at rdl
        have lo3 : 3 ≤ lo + 1 := by omega
        have wu := fun n' => tx_w (h := h) (x := x) (cu := cu) (F := F) (o := o) (p := p) (q := q) (z := z) (T := T) (ru := ru) (im := im) (tp := tp) (R := R) (t := t) (n' := n') (e' := nI 0) (g' := nI g) (u' := nI u) (n2 := n') (e2 := nI 0) (g2 := nI g) (u2 := nI (u + 1)) ht
        cases hV : clh tp M (m + 4) g with
        | inl er =>
          refine ⟨fun k pl hk => ?_, fun cs' hk => (by cases hk)⟩
          cases hk
          obtain ⟨q1, h2, n2, e2, g2, q2, q3⟩ := ch.1 k pl hV
          refine ⟨q1, h2, n2, e2, g2, nI (u + 1), ex_tr e0 q2 (by omega), ?_⟩
          rcases hlv with rfl | ⟨v, rfl⟩ <;> simp only [eb_214_8, eb_214_38, eb_214_58, jx_ns_r, jx_ns_n, jx_ns_q, jx_ns_i, jx_gl_0, jx_gl_s, if_true, if_false, ite_true, ite_false, eq_self, Bool.false_eq_true, List.length_cons, List.length_nil, Nat.zero_le, Nat.reduceAdd, Nat.reduceSub, Nat.reduceLeDiff, Nat.reduceLT, Nat.reduceEqDiff, Int.reduceToNat, reduceIte, xe_new, xe_dup, jx_2_i, jx_2_l, jx_2_r, jx_2_n, jx_2_q, or_self, xe_spc0, jx_cc_i, jx_cc_v, Nat.reduceMod, Nat.reduceDiv, xe_astore, jx_rv_r, jx_rv_n, jx_rv_q, xe_goto_w, xe_aload, xe_inv0, jx_cl9_i, xe_pop, xk_getf, jx_gf_i, jx_ov_s, ak_V, xe_istore, xe_inv1, xe_ifne, xe_iconst, xi_1, xx_1, xe_goto, xi_0, xx_0, xk_iload, jx_iv_i, ak_I, xe_inv3, xi_12, xx_12, xe_icmp_ge, xi_4, xx_4, xe_iadd, xk_putf, ak_P, jx_pf_i, jx_pf_z, jx_pf_l, jx_pf_r, jx_pf_n, jx_pf_q, xk_qast, ja_qs, ak_R, and_self, and_true, true_and, xi_59, xe_areturn_n, xe_areturn_r, jx_s1, List.set_cons_zero, List.set_cons_succ, jx_2_u, jx_2_s, jx_k_i, jx_k_l, jx_k_r, jx_k_n, jx_k_u, jx_k_s, jx_k_q, tx_r ht, tx_w ht, sw_r, sw_f, tx_f, tx_s, s1, so, z00, sp_10, d1, h12, nI_1, n4, rdl, List.getElem?_cons_zero, List.getElem?_cons_succ, q3, jx_cc_x xh_214]
        | inr X =>
          obtain ⟨C1, m1, g1⟩ := X
          obtain ⟨⟨c1, c2, c3, c4⟩, h1, q2, q3, q4⟩ := ch.2 C1 m1 g1 hV
          have hb : h.2.1 ≤ h1.2.1 := q2.1.1
          have l3 := q3.1
          dsimp only
          have rl1 := fun n' => txw_at (h := h1) (x := x) (cu := cu) (F := F) (o := o) (p := p) (q := q) (z := z) (T := T) (ru := ru) (im := im) (tp := tp) (R := R) (t := t) (n' := n') (e' := nI 0) (g' := nI g1) (u' := nI (u + 1)) (k := lo + 1) (by omega) (by omega)
          rw [q2.2.2.1 _ (by omega), b2] at rl1
          obtain ⟨sC, tvC, eC, _⟩ := id q3.2
          have rdc := txw_at (h := h1) (x := x) (cu := cu) (F := F) (o := o) (p := p) (q := q) (z := z) (T := T) (ru := ru) (im := im) (tp := tp) (R := R) (t := t) (n' := nI m1) (e' := nI 0) (g' := nI g1) (u' := nI (u + 1)) (k := h.2.1) (by omega) (by omega)
          rw [eC] at rdc
          have l3o : 3 ≤ lo := by omega
          have et6 : (6 = jx_et 6) = True := eq_true rfl
          have iu := sp_ix hu12 (show 12 < 2 ^ 31 by omega)
          have pa := fun y => txw_put (h := h1) (x := x) (cu := cu) (F := F) (o := o) (p := p) (q := q) (z := z) (T := T) (ru := ru) (im := im) (tp := tp) (R := R) (t := t) (n' := nI m1) (e' := nI 0) (g' := nI g1) (u' := nI (u + 1)) (k := lo + 1) (y := y) (by omega) (by omega)
          have rl2 : (sw (tx (jx_put h1 (lo + 1) (.inl (6, 12, .inr (.inr (.inr (.inr (va_up ar u (some h.2.1)))))))) t (nI m1) (nI 0) (nI g1) (nI (u + 1))) cu F o p q z T x ru im tp R).1 lo = .inr (5, [.ref (lo + 1), .int (nI u)]) := by
            rw [txw_at (by omega) (by omega), jx_put_at, if_neg (by omega), q2.2.2.1 _ (by omega), b1]
          have pb := fun y => txw_put (h := jx_put h1 (lo + 1) (.inl (6, 12, .inr (.inr (.inr (.inr (va_up ar u (some h.2.1)))))))) (x := x) (cu := cu) (F := F) (o := o) (p := p) (q := q) (z := z) (T := T) (ru := ru) (im := im) (tp := tp) (R := R) (t := t) (n' := nI m1) (e' := nI 0) (g' := nI g1) (u' := nI (u + 1)) (k := lo) (y := y) (by omega) (by omega)
          generalize eh2 : jx_put (jx_put h1 (lo + 1) (.inl (6, 12, .inr (.inr (.inr (.inr (va_up ar u (some h.2.1)))))))) lo (.inr (5, [.ref (lo + 1), .int (nI (u + 1))])) = h2 at *
          have hz2 : h2.2 = h1.2 := by rw [← eh2]; rfl
          have at2 : ∀ j, ¬ j = lo → ¬ j = lo + 1 → h2.1 j = h1.1 j := fun j j1 j2 => by rw [← eh2, jx_put_at, if_neg j1, jx_put_at, if_neg j2]
          have e2 : ex hB h2 (c + (m1 - m)) := by rw [← eh2]; exact ex_put (ex_put (ex_tr e0 q2 (by omega)) rfl (by omega)) rfl (by omega)
          have r2 : rul h2 lo h2.2.1 lo (lo + 1) (cs ++ [C1]) := by
            refine rul_snoc (c := h.2.1) hr (by omega) (by rw [hz2]; exact hb) (by rw [← eh2, jx_put_at, if_pos rfl, hu]) (fun ar' har => ?_) ?_ (fun C c hc => ?_)
            · rw [b2] at har
              cases har
              rw [← eh2, jx_put_at, if_neg (by omega), jx_put_at, if_pos rfl, hu]
            · rw [hz2]
              exact clv_mono q3 (by omega) (by omega) (Nat.le_refl _) (fun j j1 j2 => at2 j (by omega) (by omega))
            · rw [hz2]
              exact clv_mono hc (by omega) (Nat.le_refl _) hb (fun j j1 j2 => (at2 j (by omega) (by omega)).trans (q2.2.2.1 j j2))
          have ts := fun (d : Nat) => T_takesSign (d := d) (n := m1) (v := 59) (h := h2) (x := x) (cu := cu) (F := F) (o := o) (p := p) (q := q) (z := z) (T := T) (ru := ru) (im := im) (tp := tp) (R := R) (u' := nI (u + 1)) (e' := nI 0) (g' := nI g1) ht eM hM c2
          have le1 := skp_le (tp := tp) c2
          have ge1 := skp_ge tp M m1
          have ii1 := skp_i (tp := tp) c2
          by_cases h59 : sg tp M (skp tp M m1) = 59
          · simp only [if_pos h59] at ts ⊢
            have m2M := sg_lt (fun z => by rw [z] at h59; exact absurd h59 (by decide))
            have go := ih d h2 (skp tp M m1 + 1) g1 (u + 1) x (cs ++ [C1]) _ (.int (nI m)) (.inr ⟨_, rfl⟩) e2 r2 (by rw [List.length_append, hu]; rfl) (by omega) m2M c4
            have st : jx_eb (d + 48) 214 8 [.ref t, .ref lo, lv] [] (sw (tx h t (nI n) (nI 0) (nI g) (nI u)) cu F o p q z T x ru im tp R) = jx_eb (d + 48) 214 8 [.ref t, .ref lo, .int (nI m)] [] (sw (tx h2 t (nI (skp tp M m1 + 1)) (nI 0) (nI g1) (nI (u + 1))) cu F o p q z T x ru im tp R) := by
              rw [eb_214_8]
              rcases hlv with rfl | ⟨v, rfl⟩ <;> simp only [eb_214_38, eb_214_58, jx_ns_r, jx_ns_n, jx_ns_q, jx_ns_i, jx_gl_0, jx_gl_s, if_true, if_false, ite_true, ite_false, eq_self, Bool.false_eq_true, List.length_cons, List.length_nil, Nat.zero_le, Nat.reduceAdd, Nat.reduceSub, Nat.reduceLeDiff, Nat.reduceLT, Nat.reduceEqDiff, Int.reduceToNat, reduceIte, xe_new, xe_dup, jx_2_i, jx_2_l, jx_2_r, jx_2_n, jx_2_q, or_self, xe_spc0, jx_cc_i, jx_cc_v, Nat.reduceMod, Nat.reduceDiv, xe_astore, jx_rv_r, jx_rv_n, jx_rv_q, xe_goto_w, xe_aload, xe_inv0, jx_cl9_i, xe_pop, xk_getf, jx_gf_i, jx_ov_s, ak_V, xe_istore, xe_inv1, xe_ifne, xe_iconst, xi_1, xx_1, xe_goto, xi_0, xx_0, xk_iload, jx_iv_i, ak_I, xe_inv3, xi_12, xx_12, xe_icmp_ge, xi_4, xx_4, xe_iadd, xk_putf, ak_P, jx_pf_i, jx_pf_z, jx_pf_l, jx_pf_r, jx_pf_n, jx_pf_q, xk_qast, ja_qs, ak_R, and_self, and_true, true_and, xi_59, xe_areturn_n, xe_areturn_r, jx_s1, List.set_cons_zero, List.set_cons_succ, jx_2_u, jx_2_s, jx_k_i, jx_k_l, jx_k_r, jx_k_n, jx_k_u, jx_k_s, jx_k_q, tx_r ht, tx_w ht, sw_r, sw_f, tx_f, tx_s, s1, so, z00, sp_10, d1, h12, nI_1, n4, rdl, List.getElem?_cons_zero, List.getElem?_cons_succ, List.set_cons_zero, List.set_cons_succ, q4, rl1, rdc, iu, et6, pa, rl2, pb, eh2, ts]
            rw [st]
            cases hR : rls tp M f (u + 1) (skp tp M m1 + 1) g1 with
            | inl er =>
              refine ⟨fun k pl hk => ?_, fun cs' hk => (by cases hk)⟩
              cases hk
              obtain ⟨y1, h3, n3, e3, g3, u3, y2, y3⟩ := go.1 k pl hR
              exact ⟨y1, h3, n3, e3, g3, u3, ex_le y2 (by omega), y3⟩
            | inr cs2 =>
              refine ⟨fun k pl hk => (by cases hk), fun cs' hk => ?_⟩
              cases hk
              obtain ⟨h3, n3, e3, g3, u3, y2, y3, y4⟩ := go.2 cs2 hR
              rw [List.append_assoc] at y3
              exact ⟨h3, n3, e3, g3, u3, ex_le y2 (by omega), y3, y4⟩
          · simp only [if_neg h59] at ts ⊢
            by_cases hm1 : sg tp M (skp tp M m1) = -1
            · rw [if_pos hm1]
              have te := fun (d : Nat) => T_ends1 (d := d) (n := skp tp M m1) (h := h2) (x := x) (cu := cu) (F := F) (o := o) (p := p) (q := q) (z := z) (T := T) (ru := ru) (im := im) (tp := tp) (R := R) (u' := nI (u + 1)) (e' := nI 0) (g' := nI g1) ht eM hM le1 (by rw [ii1]; exact hm1)
              rw [ii1] at te
              refine ⟨fun k pl hk => (by cases hk), fun cs' hk => ?_⟩
              cases hk
              refine ⟨h2, nI (skp tp M m1), nI 0, nI g1, nI (u + 1), ex_le e2 (by omega), r2, ?_⟩
              rw [eb_214_8]
              rcases hlv with rfl | ⟨v, rfl⟩ <;> simp only [eb_214_38, eb_214_58, jx_ns_r, jx_ns_n, jx_ns_q, jx_ns_i, jx_gl_0, jx_gl_s, if_true, if_false, ite_true, ite_false, eq_self, Bool.false_eq_true, List.length_cons, List.length_nil, Nat.zero_le, Nat.reduceAdd, Nat.reduceSub, Nat.reduceLeDiff, Nat.reduceLT, Nat.reduceEqDiff, Int.reduceToNat, reduceIte, xe_new, xe_dup, jx_2_i, jx_2_l, jx_2_r, jx_2_n, jx_2_q, or_self, xe_spc0, jx_cc_i, jx_cc_v, Nat.reduceMod, Nat.reduceDiv, xe_astore, jx_rv_r, jx_rv_n, jx_rv_q, xe_goto_w, xe_aload, xe_inv0, jx_cl9_i, xe_pop, xk_getf, jx_gf_i, jx_ov_s, ak_V, xe_istore, xe_inv1, xe_ifne, xe_iconst, xi_1, xx_1, xe_goto, xi_0, xx_0, xk_iload, jx_iv_i, ak_I, xe_inv3, xi_12, xx_12, xe_icmp_ge, xi_4, xx_4, xe_iadd, xk_putf, ak_P, jx_pf_i, jx_pf_z, jx_pf_l, jx_pf_r, jx_pf_n, jx_pf_q, xk_qast, ja_qs, ak_R, and_self, and_true, true_and, xi_59, xe_areturn_n, xe_areturn_r, jx_s1, List.set_cons_zero, List.set_cons_succ, jx_2_u, jx_2_s, jx_k_i, jx_k_l, jx_k_r, jx_k_n, jx_k_u, jx_k_s, jx_k_q, tx_r ht, tx_w ht, sw_r, sw_f, tx_f, tx_s, s1, so, z00, sp_10, d1, h12, nI_1, n4, rdl, List.getElem?_cons_zero, List.getElem?_cons_succ, List.set_cons_zero, List.set_cons_succ, q4, rl1, rdc, iu, et6, pa, rl2, pb, eh2, ts, te, l3o]
            · rw [if_neg hm1]
              have te := fun (d : Nat) => T_ends0 (d := d) (n := skp tp M m1) (h := h2) (x := x) (cu := cu) (F := F) (o := o) (p := p) (q := q) (z := z) (T := T) (ru := ru) (im := im) (tp := tp) (R := R) (t := t) (u' := nI (u + 1)) (e' := nI 0) (g' := nI g1) hT ht eM hM le1 (by rw [ii1]; exact hm1)
              rw [ii1] at te
              have te2 : ∀ d, jx_cr (d + 2) 205 [.ref t] (sw (tx h2 t (nI (skp tp M m1)) (nI 0) (nI g1) (nI (u + 1))) cu F o p q z T x ru im tp R) = some (.inr (), (sw (tx h2 t (nI (skp tp M m1)) (nI 0) (nI g1) (nI (u + 1))) cu F o p q z T (nI 0, nI (skp tp M m1)) ru im tp R)) := te
              refine ⟨fun k pl hk => ?_, fun cs' hk => (by cases hk)⟩
              cases hk
              refine ⟨⟨by omega, le1⟩, h2, nI (skp tp M m1), nI 0, nI g1, nI (u + 1), ex_le e2 (by omega), ?_⟩
              rw [eb_214_8]
              rcases hlv with rfl | ⟨v, rfl⟩ <;> simp only [eb_214_38, eb_214_58, jx_ns_r, jx_ns_n, jx_ns_q, jx_ns_i, jx_gl_0, jx_gl_s, if_true, if_false, ite_true, ite_false, eq_self, Bool.false_eq_true, List.length_cons, List.length_nil, Nat.zero_le, Nat.reduceAdd, Nat.reduceSub, Nat.reduceLeDiff, Nat.reduceLT, Nat.reduceEqDiff, Int.reduceToNat, reduceIte, xe_new, xe_dup, jx_2_i, jx_2_l, jx_2_r, jx_2_n, jx_2_q, or_self, xe_spc0, jx_cc_i, jx_cc_v, Nat.reduceMod, Nat.reduceDiv, xe_astore, jx_rv_r, jx_rv_n, jx_rv_q, xe_goto_w, xe_aload, xe_inv0, jx_cl9_i, xe_pop, xk_getf, jx_gf_i, jx_ov_s, ak_V, xe_istore, xe_inv1, xe_ifne, xe_iconst, xi_1, xx_1, xe_goto, xi_0, xx_0, xk_iload, jx_iv_i, ak_I, xe_inv3, xi_12, xx_12, xe_icmp_ge, xi_4, xx_4, xe_iadd, xk_putf, ak_P, jx_pf_i, jx_pf_z, jx_pf_l, jx_pf_r, jx_pf_n, jx_pf_q, xk_qast, ja_qs, ak_R, and_self, and_true, true_and, xi_59, xe_areturn_n, xe_areturn_r, jx_s1, List.set_cons_zero, List.set_cons_succ, jx_2_u, jx_2_s, jx_k_i, jx_k_l, jx_k_r, jx_k_n, jx_k_u, jx_k_s, jx_k_q, tx_r ht, tx_w ht, sw_r, sw_f, tx_f, tx_s, s1, so, z00, sp_10, d1, h12, nI_1, n4, rdl, List.getElem?_cons_zero, List.getElem?_cons_succ, List.set_cons_zero, List.set_cons_succ, q4, rl1, rdc, iu, et6, pa, rl2, pb, eh2, ts, te2, jx_cc_x xh_214]
      · rw [if_neg hu12]
        have h12 : (12 : Int32) ≤ nI u := nI_le (a := 12) (by omega) (by have := hr.2.2.1; omega)
        refine ⟨fun k pl hk => ?_, fun cs' hk => (by cases hk)⟩
        cases hk
        have k4 : nI 4 = 4 := rfl
        refine ⟨⟨by omega, le⟩, h, nI m, nI 0, nI g, nI u, ex_le e0 (by omega), ?_⟩
        rcases hlv with rfl | ⟨v, rfl⟩ <;> simp only [eb_214_8, eb_214_38, eb_214_57, eb_214_58, jx_ns_r, jx_ns_n, jx_ns_q, jx_ns_i, jx_gl_0, jx_gl_s, if_true, if_false, ite_true, ite_false, eq_self, Bool.false_eq_true, List.length_cons, List.length_nil, Nat.zero_le, Nat.reduceAdd, Nat.reduceSub, Nat.reduceLeDiff, Nat.reduceLT, Nat.reduceEqDiff, Int.reduceToNat, reduceIte, xe_new, xe_dup, jx_2_i, jx_2_l, jx_2_r, jx_2_n, jx_2_q, or_self, xe_spc0, jx_cc_i, jx_cc_v, Nat.reduceMod, Nat.reduceDiv, xe_astore, jx_rv_r, jx_rv_n, jx_rv_q, xe_goto_w, xe_aload, xe_inv0, jx_cl9_i, xe_pop, xk_getf, jx_gf_i, jx_ov_s, ak_V, xe_istore, xe_inv1, xe_ifne, xe_iconst, xi_1, xx_1, xe_goto, xi_0, xx_0, xk_iload, jx_iv_i, ak_I, xe_inv3, xi_12, xx_12, xe_icmp_ge, xi_4, xx_4, xe_iadd, xk_putf, ak_P, jx_pf_i, jx_pf_z, jx_pf_l, jx_pf_r, jx_pf_n, jx_pf_q, xk_qast, ja_qs, ak_R, and_self, and_true, true_and, xi_59, xe_areturn_n, xe_areturn_r, jx_s1, List.set_cons_zero, List.set_cons_succ, jx_2_u, jx_2_s, jx_k_i, jx_k_l, jx_k_r, jx_k_n, jx_k_u, jx_k_s, jx_k_q, tx_r ht, sw_r, sw_f, tx_f, tx_s, s1, so, z00, sp_10, d1, h12, d0, k4, jx_cc_x xh_214]
    · have hwb := mt wmb_i.mp hw
      have so1 : fd (fun _ => wmb tp M m 6) 1 0 = none := by rw [fd, if_neg hwb]; rfl
      rw [so1] at so
      rw [if_neg hwb]
      refine ⟨fun k pl hk => ?_, fun cs' hk => (by cases hk)⟩
      cases hk
      have d00 : ∀ d, jx_cr (d + 1) 194 [.ref t, .int 0, .int 0, .int (nI m)] (sw (tx h t (nI m) (nI 0) (nI g) (nI u)) cu F o p q z T x ru im tp R) = some (.inr (), (sw (tx h t (nI m) (nI 0) (nI g) (nI u)) cu F o p q z T (nI 0, nI m) ru im tp R)) := fun d => d0 d 0
      refine ⟨⟨by omega, le⟩, h, nI m, nI 0, nI g, nI u, ex_le e0 (by omega), ?_⟩
      rcases hlv with rfl | ⟨v, rfl⟩ <;> simp only [eb_214_8, eb_214_37, eb_214_38, jx_ns_r, jx_ns_n, jx_ns_q, jx_ns_i, jx_gl_0, jx_gl_s, if_true, if_false, ite_true, ite_false, eq_self, Bool.false_eq_true, List.length_cons, List.length_nil, Nat.zero_le, Nat.reduceAdd, Nat.reduceSub, Nat.reduceLeDiff, Nat.reduceLT, Nat.reduceEqDiff, Int.reduceToNat, reduceIte, xe_new, xe_dup, jx_2_i, jx_2_l, jx_2_r, jx_2_n, jx_2_q, or_self, xe_spc0, jx_cc_i, jx_cc_v, Nat.reduceMod, Nat.reduceDiv, xe_astore, jx_rv_r, jx_rv_n, jx_rv_q, xe_goto_w, xe_aload, xe_inv0, jx_cl9_i, xe_pop, xk_getf, jx_gf_i, jx_ov_s, ak_V, xe_istore, xe_inv1, xe_ifne, xe_iconst, xi_1, xx_1, xe_goto, xi_0, xx_0, xk_iload, jx_iv_i, ak_I, xe_inv3, xi_12, xx_12, xe_icmp_ge, xi_4, xx_4, xe_iadd, xk_putf, ak_P, jx_pf_i, jx_pf_z, jx_pf_l, jx_pf_r, jx_pf_n, jx_pf_q, xk_qast, ja_qs, ak_R, and_self, and_true, true_and, xi_59, xe_areturn_n, xe_areturn_r, jx_s1, List.set_cons_zero, List.set_cons_succ, jx_2_u, jx_2_s, jx_k_i, jx_k_l, jx_k_r, jx_k_n, jx_k_u, jx_k_s, jx_k_q, tx_r ht, sw_r, sw_f, tx_f, tx_s, s1, so, nz, d00, jx_cc_x xh_214]
end SDN
