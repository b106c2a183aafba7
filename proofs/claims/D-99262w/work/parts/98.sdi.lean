/-! TEXTS: tests: ands and ors -/
set_option maxRecDepth 100000
abbrev Tr := (Nat × Nat) ⊕ (((Nat → Int64) → Bool) × Nat × Nat)
noncomputable def wch (tp : Nat → Int32) (M i : Nat) (v : Int32) (el : Nat → Nat → Tr) : Nat → ((Nat → Int64) → Bool) → Nat → Nat → Tr
  | 0, B, n, g => .inr (B, skp tp M n, g)
  | f + 1, B, n, g => if wmb tp M (skp tp M n) i = true then (match el (skp tp M n + st_n i) g with
    | .inl er => .inl er
    | .inr (B2, m, g2) => wch tp M i v el f (fun w => btv v (B w) (B2 w)) m g2) else .inr (B, skp tp M n, g)
noncomputable def prt (tp : Nat → Int32) (M : Nat) (el : Nat → Nat → Tr) (n g : Nat) : Tr := match el n g with
  | .inl er => .inl er
  | .inr (B, m, g2) => wch tp M 20 1 el (M + 1) B m g2
noncomputable def tst (tp : Nat → Int32) (M : Nat) (el : Nat → Nat → Tr) (n g : Nat) : Tr := match prt tp M el n g with
  | .inl er => .inl er
  | .inr (B, m, g2) => wch tp M 21 0 (prt tp M el) (M + 1) B m g2
theorem wmb_i {tp : Nat → Int32} {M m i : Nat} : wmb tp M m i = true ↔ wm tp M m i := by
  rw [wmb, @decide_eq_true_iff _ (Classical.propDecidable _)]
section SDI
variable {d : Nat} {h : jx_H} {cu : Option Nat} {F : Nat → Int32} {o p q z : cq_C} {T : List Value} {x : Int32 × Int32} {ru im : Nat → Option Nat} {tp : Nat → Int32} {R : Nat → Nat → Int32} {s : Nat → Int32} {a : Nat → Nat → Int32} {w : Nat → Int64}
variable {t M e D : Nat} {u' : Int32} {el : Nat → Nat → Tr}
theorem bt_dt {h1 h' : jx_H} {lo r r2 c : Nat} {L L2 : (Nat → Int64) → Bool} {v : Int32} (h3 : 3 ≤ lo) (q : ex (jx_new h1 (.inr (14, jx_nf 14)) (jx_nf 14).length) h' c) (d1 : dt h1 lo h1.2.1 r L) (d2 : dt h' (h1.2.1 + 1) h'.2.1 r2 L2) : dt (jx_put h' h1.2.1 (.inr (14, [.ref r, .ref r2, .int v]))) lo h'.2.1 h1.2.1 (fun w => btv v (L w) (L2 w)) := by
  have ge : h1.2.1 + 1 ≤ h'.2.1 := q.1.1
  have lr := d1.1
  refine dt_both (dt_mono d1 h3 (Nat.le_refl _) (Nat.le_refl _) (fun j j1 j2 => ?_)) (dt_mono d2 (by omega) (Nat.le_refl _) (Nat.le_refl _) (fun j j1 j2 => ?_)) (by rw [jx_put_at, if_pos rfl])
  · rw [jx_put_at, if_neg (by omega), q.2.2.1 j (by show j < h1.2.1 + 1; omega), jx_new_at, if_neg (by omega)]
  · rw [jx_put_at, if_neg (by omega)]
theorem T_partedl (hT : T.length = 6) (ht : 151 ≤ t) (eM : F 9 = nI M) (hM : M ≤ 400) (HF : (∀ d h n g x, t < h.2.1 → ss_ok h → n ≤ M → g ≤ 60 → (∀ k pl, el n g = .inl (k, pl) → (k ≤ 4 ∧ pl ≤ M) ∧ ∃ h1 n2 e2 g2, ex h h1 (M - n) ∧ jx_cr (d + D + 11) 217 [.ref t] (sw (tx h t (nI n) (nI e) (nI g) u') cu F o p q z T x ru im tp R) = some (.inr (), sw (tx h1 t n2 e2 g2 u') cu F o p q z T (nI k, nI pl) ru im tp R)) ∧ (∀ L m g2, el n g = .inr (L, m, g2) → (n < m ∧ m ≤ M ∧ g ≤ g2 ∧ g2 ≤ 60) ∧ ∃ h1 r, ex h h1 (m - n) ∧ dt h1 h.2.1 h1.2.1 r L ∧ jx_cr (d + D + 11) 217 [.ref t] (sw (tx h t (nI n) (nI e) (nI g) u') cu F o p q z T x ru im tp R) = some (.inl (some (.ref r)), sw (tx h1 t (nI m) (nI e) (nI g2) u') cu F o p q z T x ru im tp R)))) : ∀ f d h n g x lo r L, t < lo → dt h lo h.2.1 r L → ss_ok h → M - n < f → n ≤ M → g ≤ 60 →
    (∀ k pl, wch tp M 20 1 el f L n g = .inl (k, pl) → (k ≤ 4 ∧ pl ≤ M) ∧ ∃ h1 n2 e2 g2, ex h h1 (M - n) ∧ jx_eb (d + D + 11) 216 5 [.ref t, .ref r] [] (sw (tx h t (nI n) (nI e) (nI g) u') cu F o p q z T x ru im tp R) = some (.inr (), (sw (tx h1 t (n2) (e2) (g2) u') cu F o p q z T (nI k, nI pl) ru im tp R))) ∧
    (∀ L2 m g2, wch tp M 20 1 el f L n g = .inr (L2, m, g2) → (n ≤ m ∧ m ≤ M ∧ g ≤ g2 ∧ g2 ≤ 60) ∧ ∃ h1 r2, ex h h1 (m - n) ∧ dt h1 lo h1.2.1 r2 L2 ∧ jx_eb (d + D + 11) 216 5 [.ref t, .ref r] [] (sw (tx h t (nI n) (nI e) (nI g) u') cu F o p q z T x ru im tp R) = some (.inl (some (.ref r2)), (sw (tx h1 t (nI m) (nI e) (nI g2) u') cu F o p q z T x ru im tp R))) := by
  intro f
  induction f with
  | zero => intro d h n g x lo r L hlo hd hs hf; omega
  | succ f ih =>
    intro d h n g x lo r L hlo hd hs hf hn hg
    have t3 : 3 ≤ t := by omega
    have lr := hd.1
    have r3 : 3 ≤ r := by omega
    have s1 := T_takesWord (d := d + D + 5) (i := 20) (n := n) (h := h) (x := x) (cu := cu) (F := F) (o := o) (p := p) (q := q) (z := z) (T := T) (ru := ru) (im := im) (tp := tp) (R := R) (u' := u') (e' := nI e) (g' := nI g) hs (by omega) ht eM hM hn
    have le := skp_le (tp := tp) hn
    have ge := skp_ge tp M n
    rw [wch]
    generalize skp tp M n = m at le ge s1 ⊢
    have sn : st_n 20 = 3 := rfl
    by_cases hw : wm tp M m 20
    · have hq := wmb_i.mpr hw
      have wl := wm_le le hw
      rw [if_pos hw, sp_bl_t hw] at s1
      rw [if_pos hq]
      have vv := HF d (jx_new h (.inr (14, jx_nf 14)) (jx_nf 14).length) (m + st_n 20) g x (by rw [jx_new_sz]; show t < h.2.1 + 1; omega) (ex_ss (ex_new (c := 1) ex_refl rfl (by rw [nf_1.2.2.2.2.2.1]; show 3 ≤ 16; omega) (Nat.le_refl _)) (by omega) hs) (by omega) hg
      have e0 : ex h (jx_new h (.inr (14, jx_nf 14)) (jx_nf 14).length) 1 := ex_new ex_refl rfl (by rw [nf_1.2.2.2.2.2.1]; show 3 ≤ 16; omega) (Nat.le_refl _)
      have nw := txw_new (h := h) (x := x) (cu := cu) (F := F) (o := o) (p := p) (q := q) (z := z) (T := T) (ru := ru) (im := im) (tp := tp) (R := R) (u' := u') (t := t) (n' := nI (m + st_n 20)) (e' := nI e) (g' := nI g) (y := .inr (14, jx_nf 14)) (c := (jx_nf 14).length) (by omega) (by omega)
      have hr3 : 3 ≤ h.2.1 := by omega
      cases hV : el (m + st_n 20) g with
      | inl er =>
        refine ⟨fun k pl hk => ?_, fun L2 m2 g2 hk => (by cases hk)⟩
        cases hk
        obtain ⟨b1, h1, n2, e2, g2, b2, b3⟩ := vv.1 k pl hV
        refine ⟨b1, h1, n2, e2, g2, ex_tr e0 b2 (by omega), ?_⟩
        simp only [eb_216_5, jx_ns_r, jx_ns_n, jx_ns_q, jx_ns_i, jx_gl_0, jx_gl_s, if_true, if_false, ite_true, ite_false, eq_self, Bool.false_eq_true, List.length_cons, List.length_nil, Nat.zero_le, Nat.reduceAdd, Nat.reduceSub, Nat.reduceLeDiff, Nat.reduceLT, Nat.reduceEqDiff, Int.reduceToNat, reduceIte, xe_aload, jx_rv_r, jx_rv_n, jx_rv_q, xe_inv0, jx_cc_i, jx_cc_v, Nat.reduceMod, Nat.reduceDiv, jx_cl9_i, xe_astore, xe_goto_w, xe_ldc, xe_inv1, xe_ifeq, xe_new, xe_dup, jx_2_i, jx_2_l, jx_2_r, jx_2_n, jx_2_q, or_self, xe_iconst, xi_1, xx_1, xe_spc3, xe_goto, xe_areturn_n, xe_areturn_r, jx_s1, List.set_cons_zero, List.set_cons_succ, jx_2_u, jx_2_s, jx_k_i, jx_k_l, jx_k_r, jx_k_n, jx_k_u, jx_k_s, jx_k_q, tx_r ht, s1, sp_10, nw, r3, hr3, txw_sz, b3, jx_cc_x xh_216]
      | inr X =>
        obtain ⟨L1, m1, g1⟩ := X
        obtain ⟨⟨c1, c2, c3, c4⟩, h1, r1, b2, b3, b4⟩ := vv.2 L1 m1 g1 hV
        have hb : h.2.1 + 1 ≤ h1.2.1 := b2.1.1
        have pd := bt_dt (v := 1) (by omega) b2 hd b3
        have l1 := b3.1
        have r13 : 3 ≤ r1 := by omega
        have e1 : ex h (jx_put h1 h.2.1 (.inr (14, [.ref r, .ref r1, .int 1]))) (m1 - m) := ex_put (ex_tr e0 b2 (by omega)) rfl (Nat.le_refl _)
        have pi := Both_init (d := d + D + 9) (r := h.2.1) (r1 := r) (r2 := r1) (v := 1) (H := (sw (tx h1 t (nI m1) (nI e) (nI g1) u') cu F o p q z T x ru im tp R)) hr3 r3 r13 (by rw [txw_at (by omega) (by omega), b2.2.2.1 _ (by show h.2.1 < h.2.1 + 1; omega), jx_new_at, if_pos rfl]) (by decide)
        rw [txw_put (by omega) (by omega)] at pi
        have go := ih d (jx_put h1 h.2.1 (.inr (14, [.ref r, .ref r1, .int 1]))) m1 g1 x lo h.2.1 (fun w => btv 1 (L w) (L1 w)) hlo pd (ex_ss e1 (by omega) hs) (by omega) c2 c4
        have st : jx_eb (d + D + 11) 216 5 [.ref t, .ref r] [] (sw (tx h t (nI n) (nI e) (nI g) u') cu F o p q z T x ru im tp R) = jx_eb (d + D + 11) 216 5 [.ref t, .ref h.2.1] [] (sw (tx (jx_put h1 h.2.1 (.inr (14, [.ref r, .ref r1, .int 1]))) t (nI m1) (nI e) (nI g1) u') cu F o p q z T x ru im tp R) := by
          rw [eb_216_5]
          simp only [jx_ns_r, jx_ns_n, jx_ns_q, jx_ns_i, jx_gl_0, jx_gl_s, if_true, if_false, ite_true, ite_false, eq_self, Bool.false_eq_true, List.length_cons, List.length_nil, Nat.zero_le, Nat.reduceAdd, Nat.reduceSub, Nat.reduceLeDiff, Nat.reduceLT, Nat.reduceEqDiff, Int.reduceToNat, reduceIte, xe_aload, jx_rv_r, jx_rv_n, jx_rv_q, xe_inv0, jx_cc_i, jx_cc_v, Nat.reduceMod, Nat.reduceDiv, jx_cl9_i, xe_astore, xe_goto_w, xe_ldc, xe_inv1, xe_ifeq, xe_new, xe_dup, jx_2_i, jx_2_l, jx_2_r, jx_2_n, jx_2_q, or_self, xe_iconst, xi_1, xx_1, xe_spc3, xe_goto, xe_areturn_n, xe_areturn_r, jx_s1, List.set_cons_zero, List.set_cons_succ, jx_2_u, jx_2_s, jx_k_i, jx_k_l, jx_k_r, jx_k_n, jx_k_u, jx_k_s, jx_k_q, tx_r ht, s1, sp_10, nw, r3, hr3, r13, txw_sz, b4, pi]
        rw [st]
        refine ⟨fun k pl hk => ?_, fun L2 m2 g2 hk => ?_⟩
        · obtain ⟨b1, h2, n2, e2, g2, b5, b6⟩ := go.1 k pl hk
          exact ⟨b1, h2, n2, e2, g2, ex_tr e1 b5 (by omega), b6⟩
        · obtain ⟨⟨y1, y2, y3, y4⟩, h2, r2, b5, b6, b7⟩ := go.2 L2 m2 g2 hk
          exact ⟨⟨by omega, y2, by omega, y4⟩, h2, r2, ex_tr e1 b5 (by omega), b6, b7⟩
    · rw [if_neg hw, sp_bl_f hw] at s1
      rw [if_neg (mt wmb_i.mp hw)]
      refine ⟨fun k pl hk => (by cases hk), fun L2 m2 g2 hk => ?_⟩
      cases hk
      refine ⟨⟨ge, le, Nat.le_refl _, hg⟩, h, r, ex_le ex_refl (by omega), hd, ?_⟩
      simp only [eb_216_5, eb_216_31, jx_ns_r, jx_ns_n, jx_ns_q, jx_ns_i, jx_gl_0, jx_gl_s, if_true, if_false, ite_true, ite_false, eq_self, Bool.false_eq_true, List.length_cons, List.length_nil, Nat.zero_le, Nat.reduceAdd, Nat.reduceSub, Nat.reduceLeDiff, Nat.reduceLT, Nat.reduceEqDiff, Int.reduceToNat, reduceIte, xe_aload, jx_rv_r, jx_rv_n, jx_rv_q, xe_inv0, jx_cc_i, jx_cc_v, Nat.reduceMod, Nat.reduceDiv, jx_cl9_i, xe_astore, xe_goto_w, xe_ldc, xe_inv1, xe_ifeq, xe_new, xe_dup, jx_2_i, jx_2_l, jx_2_r, jx_2_n, jx_2_q, or_self, xe_iconst, xi_1, xx_1, xe_spc3, xe_goto, xe_areturn_n, xe_areturn_r, jx_s1, List.set_cons_zero, List.set_cons_succ, jx_2_u, jx_2_s, jx_k_i, jx_k_l, jx_k_r, jx_k_n, jx_k_u, jx_k_s, jx_k_q, tx_r ht, s1, r3]
theorem T_parted (hT : T.length = 6) (ht : 151 ≤ t) (eM : F 9 = nI M) (hM : M ≤ 400) (HF : (∀ d h n g x, t < h.2.1 → ss_ok h → n ≤ M → g ≤ 60 → (∀ k pl, el n g = .inl (k, pl) → (k ≤ 4 ∧ pl ≤ M) ∧ ∃ h1 n2 e2 g2, ex h h1 (M - n) ∧ jx_cr (d + D + 11) 217 [.ref t] (sw (tx h t (nI n) (nI e) (nI g) u') cu F o p q z T x ru im tp R) = some (.inr (), sw (tx h1 t n2 e2 g2 u') cu F o p q z T (nI k, nI pl) ru im tp R)) ∧ (∀ L m g2, el n g = .inr (L, m, g2) → (n < m ∧ m ≤ M ∧ g ≤ g2 ∧ g2 ≤ 60) ∧ ∃ h1 r, ex h h1 (m - n) ∧ dt h1 h.2.1 h1.2.1 r L ∧ jx_cr (d + D + 11) 217 [.ref t] (sw (tx h t (nI n) (nI e) (nI g) u') cu F o p q z T x ru im tp R) = some (.inl (some (.ref r)), sw (tx h1 t (nI m) (nI e) (nI g2) u') cu F o p q z T x ru im tp R)))) : (∀ d h n g x, t < h.2.1 → ss_ok h → n ≤ M → g ≤ 60 → (∀ k pl, prt tp M el n g = .inl (k, pl) → (k ≤ 4 ∧ pl ≤ M) ∧ ∃ h1 n2 e2 g2, ex h h1 (M - n) ∧ jx_cr (d + D + 12) 216 [.ref t] (sw (tx h t (nI n) (nI e) (nI g) u') cu F o p q z T x ru im tp R) = some (.inr (), sw (tx h1 t n2 e2 g2 u') cu F o p q z T (nI k, nI pl) ru im tp R)) ∧ (∀ L m g2, prt tp M el n g = .inr (L, m, g2) → (n < m ∧ m ≤ M ∧ g ≤ g2 ∧ g2 ≤ 60) ∧ ∃ h1 r, ex h h1 (m - n) ∧ dt h1 h.2.1 h1.2.1 r L ∧ jx_cr (d + D + 12) 216 [.ref t] (sw (tx h t (nI n) (nI e) (nI g) u') cu F o p q z T x ru im tp R) = some (.inl (some (.ref r)), sw (tx h1 t (nI m) (nI e) (nI g2) u') cu F o p q z T x ru im tp R))) := by
  intro d h n g x hth hs hn hg
  have t3 : 3 ≤ t := by omega
  have vv := HF d h n g x hth hs hn hg
  rw [prt]
  cases hV : el n g with
  | inl er =>
    refine ⟨fun k pl hk => ?_, fun L2 m2 g2 hk => (by cases hk)⟩
    cases hk
    obtain ⟨b1, h1, n2, e2, g2, b2, b3⟩ := vv.1 k pl hV
    refine ⟨b1, h1, n2, e2, g2, b2, ?_⟩
    have b4 : jx_cr (d + D + 11) 217 [.ref t] (sw (tx h t (nI n) (nI e) (nI g) u') cu F o p q z T x ru im tp R) = _ := b3
    show jx_cr (d + D + 11 + 1) _ _ _ = _
    simp only [cr_216, eb_216_0, jx_ns_r, jx_ns_n, jx_ns_q, jx_ns_i, jx_gl_0, jx_gl_s, if_true, if_false, ite_true, ite_false, eq_self, Bool.false_eq_true, List.length_cons, List.length_nil, Nat.zero_le, Nat.reduceAdd, Nat.reduceSub, Nat.reduceLeDiff, Nat.reduceLT, Nat.reduceEqDiff, Int.reduceToNat, reduceIte, xe_aload, jx_rv_r, jx_rv_n, jx_rv_q, xe_inv0, jx_cc_i, jx_cc_v, Nat.reduceMod, Nat.reduceDiv, jx_cl9_i, xe_astore, xe_goto_w, xe_ldc, xe_inv1, xe_ifeq, xe_new, xe_dup, jx_2_i, jx_2_l, jx_2_r, jx_2_n, jx_2_q, or_self, xe_iconst, xi_1, xx_1, xe_spc3, xe_goto, xe_areturn_n, xe_areturn_r, jx_s1, List.set_cons_zero, List.set_cons_succ, jx_2_u, jx_2_s, jx_k_i, jx_k_l, jx_k_r, jx_k_n, jx_k_u, jx_k_s, jx_k_q, tx_r ht, b4, jx_cc_x xh_216]
  | inr X =>
    obtain ⟨L1, m1, g1⟩ := X
    obtain ⟨⟨c1, c2, c3, c4⟩, h1, r1, b2, b3, b4⟩ := vv.2 L1 m1 g1 hV
    have l1 := b3.1
    have r13 : 3 ≤ r1 := by omega
    have go := T_partedl (e := e) (D := D) (cu := cu) (F := F) (o := o) (p := p) (q := q) (z := z) (T := T) (ru := ru) (im := im) (tp := tp) (R := R) (u' := u') (t := t) hT ht eM hM HF (M + 1) d h1 m1 g1 x h.2.1 r1 L1 hth b3 (ex_ss b2 (by omega) hs) (by omega) c2 c4
    have b5 : jx_cr (d + D + 11) 217 [.ref t] (sw (tx h t (nI n) (nI e) (nI g) u') cu F o p q z T x ru im tp R) = _ := b4
    have st : jx_cr (d + D + 11 + 1) 216 [.ref t] (sw (tx h t (nI n) (nI e) (nI g) u') cu F o p q z T x ru im tp R) = jx_eb (d + D + 11) 216 5 [.ref t, .ref r1] [] (sw (tx h1 t (nI m1) (nI e) (nI g1) u') cu F o p q z T x ru im tp R) := by
      simp only [cr_216, eb_216_0, jx_ns_r, jx_ns_n, jx_ns_q, jx_ns_i, jx_gl_0, jx_gl_s, if_true, if_false, ite_true, ite_false, eq_self, Bool.false_eq_true, List.length_cons, List.length_nil, Nat.zero_le, Nat.reduceAdd, Nat.reduceSub, Nat.reduceLeDiff, Nat.reduceLT, Nat.reduceEqDiff, Int.reduceToNat, reduceIte, xe_aload, jx_rv_r, jx_rv_n, jx_rv_q, xe_inv0, jx_cc_i, jx_cc_v, Nat.reduceMod, Nat.reduceDiv, jx_cl9_i, xe_astore, xe_goto_w, xe_ldc, xe_inv1, xe_ifeq, xe_new, xe_dup, jx_2_i, jx_2_l, jx_2_r, jx_2_n, jx_2_q, or_self, xe_iconst, xi_1, xx_1, xe_spc3, xe_goto, xe_areturn_n, xe_areturn_r, jx_s1, List.set_cons_zero, List.set_cons_succ, jx_2_u, jx_2_s, jx_k_i, jx_k_l, jx_k_r, jx_k_n, jx_k_u, jx_k_s, jx_k_q, tx_r ht, b5, r13]
    refine ⟨fun k pl hk => ?_, fun L2 m2 g2 hk => ?_⟩
    · obtain ⟨b1, h2, n2, e2, g2, b5, b6⟩ := go.1 k pl hk
      exact ⟨b1, h2, n2, e2, g2, ex_tr b2 b5 (by omega), st.trans b6⟩
    · obtain ⟨⟨y1, y2, y3, y4⟩, h2, r2, b5, b6, b7⟩ := go.2 L2 m2 g2 hk
      exact ⟨⟨by omega, y2, by omega, y4⟩, h2, r2, ex_tr b2 b5 (by omega), b6, st.trans b7⟩
theorem T_testedl (hT : T.length = 6) (ht : 151 ≤ t) (eM : F 9 = nI M) (hM : M ≤ 400) (HF : (∀ d h n g x, t < h.2.1 → ss_ok h → n ≤ M → g ≤ 60 → (∀ k pl, prt tp M el n g = .inl (k, pl) → (k ≤ 4 ∧ pl ≤ M) ∧ ∃ h1 n2 e2 g2, ex h h1 (M - n) ∧ jx_cr (d + D + 12) 216 [.ref t] (sw (tx h t (nI n) (nI e) (nI g) u') cu F o p q z T x ru im tp R) = some (.inr (), sw (tx h1 t n2 e2 g2 u') cu F o p q z T (nI k, nI pl) ru im tp R)) ∧ (∀ L m g2, prt tp M el n g = .inr (L, m, g2) → (n < m ∧ m ≤ M ∧ g ≤ g2 ∧ g2 ≤ 60) ∧ ∃ h1 r, ex h h1 (m - n) ∧ dt h1 h.2.1 h1.2.1 r L ∧ jx_cr (d + D + 12) 216 [.ref t] (sw (tx h t (nI n) (nI e) (nI g) u') cu F o p q z T x ru im tp R) = some (.inl (some (.ref r)), sw (tx h1 t (nI m) (nI e) (nI g2) u') cu F o p q z T x ru im tp R)))) : ∀ f d h n g x lo r L, t < lo → dt h lo h.2.1 r L → ss_ok h → M - n < f → n ≤ M → g ≤ 60 →
    (∀ k pl, wch tp M 21 0 (prt tp M el) f L n g = .inl (k, pl) → (k ≤ 4 ∧ pl ≤ M) ∧ ∃ h1 n2 e2 g2, ex h h1 (M - n) ∧ jx_eb (d + D + 12) 215 5 [.ref t, .ref r] [] (sw (tx h t (nI n) (nI e) (nI g) u') cu F o p q z T x ru im tp R) = some (.inr (), (sw (tx h1 t (n2) (e2) (g2) u') cu F o p q z T (nI k, nI pl) ru im tp R))) ∧
    (∀ L2 m g2, wch tp M 21 0 (prt tp M el) f L n g = .inr (L2, m, g2) → (n ≤ m ∧ m ≤ M ∧ g ≤ g2 ∧ g2 ≤ 60) ∧ ∃ h1 r2, ex h h1 (m - n) ∧ dt h1 lo h1.2.1 r2 L2 ∧ jx_eb (d + D + 12) 215 5 [.ref t, .ref r] [] (sw (tx h t (nI n) (nI e) (nI g) u') cu F o p q z T x ru im tp R) = some (.inl (some (.ref r2)), (sw (tx h1 t (nI m) (nI e) (nI g2) u') cu F o p q z T x ru im tp R))) := by
  intro f
  induction f with
  | zero => intro d h n g x lo r L hlo hd hs hf; omega
  | succ f ih =>
    intro d h n g x lo r L hlo hd hs hf hn hg
    have t3 : 3 ≤ t := by omega
    have lr := hd.1
    have r3 : 3 ≤ r := by omega
    have s1 := T_takesWord (d := d + D + 6) (i := 21) (n := n) (h := h) (x := x) (cu := cu) (F := F) (o := o) (p := p) (q := q) (z := z) (T := T) (ru := ru) (im := im) (tp := tp) (R := R) (u' := u') (e' := nI e) (g' := nI g) hs (by omega) ht eM hM hn
    have le := skp_le (tp := tp) hn
    have ge := skp_ge tp M n
    rw [wch]
    generalize skp tp M n = m at le ge s1 ⊢
    have sn : st_n 21 = 2 := rfl
    by_cases hw : wm tp M m 21
    · have hq := wmb_i.mpr hw
      have wl := wm_le le hw
      rw [if_pos hw, sp_bl_t hw] at s1
      rw [if_pos hq]
      have vv := HF d (jx_new h (.inr (14, jx_nf 14)) (jx_nf 14).length) (m + st_n 21) g x (by rw [jx_new_sz]; show t < h.2.1 + 1; omega) (ex_ss (ex_new (c := 1) ex_refl rfl (by rw [nf_1.2.2.2.2.2.1]; show 3 ≤ 16; omega) (Nat.le_refl _)) (by omega) hs) (by omega) hg
      have e0 : ex h (jx_new h (.inr (14, jx_nf 14)) (jx_nf 14).length) 1 := ex_new ex_refl rfl (by rw [nf_1.2.2.2.2.2.1]; show 3 ≤ 16; omega) (Nat.le_refl _)
      have nw := txw_new (h := h) (x := x) (cu := cu) (F := F) (o := o) (p := p) (q := q) (z := z) (T := T) (ru := ru) (im := im) (tp := tp) (R := R) (u' := u') (t := t) (n' := nI (m + st_n 21)) (e' := nI e) (g' := nI g) (y := .inr (14, jx_nf 14)) (c := (jx_nf 14).length) (by omega) (by omega)
      have hr3 : 3 ≤ h.2.1 := by omega
      cases hV : prt tp M el (m + st_n 21) g with
      | inl er =>
        refine ⟨fun k pl hk => ?_, fun L2 m2 g2 hk => (by cases hk)⟩
        cases hk
        obtain ⟨b1, h1, n2, e2, g2, b2, b3⟩ := vv.1 k pl hV
        refine ⟨b1, h1, n2, e2, g2, ex_tr e0 b2 (by omega), ?_⟩
        simp only [eb_215_5, jx_ns_r, jx_ns_n, jx_ns_q, jx_ns_i, jx_gl_0, jx_gl_s, if_true, if_false, ite_true, ite_false, eq_self, Bool.false_eq_true, List.length_cons, List.length_nil, Nat.zero_le, Nat.reduceAdd, Nat.reduceSub, Nat.reduceLeDiff, Nat.reduceLT, Nat.reduceEqDiff, Int.reduceToNat, reduceIte, xe_aload, jx_rv_r, jx_rv_n, jx_rv_q, xe_inv0, jx_cc_i, jx_cc_v, Nat.reduceMod, Nat.reduceDiv, jx_cl9_i, xe_astore, xe_goto_w, xe_ldc, xe_inv1, xe_ifeq, xe_new, xe_dup, jx_2_i, jx_2_l, jx_2_r, jx_2_n, jx_2_q, or_self, xe_iconst, xi_0, xx_0, xe_spc3, xe_goto, xe_areturn_n, xe_areturn_r, jx_s1, List.set_cons_zero, List.set_cons_succ, jx_2_u, jx_2_s, jx_k_i, jx_k_l, jx_k_r, jx_k_n, jx_k_u, jx_k_s, jx_k_q, tx_r ht, s1, sp_10, nw, r3, hr3, txw_sz, b3, jx_cc_x xh_215]
      | inr X =>
        obtain ⟨L1, m1, g1⟩ := X
        obtain ⟨⟨c1, c2, c3, c4⟩, h1, r1, b2, b3, b4⟩ := vv.2 L1 m1 g1 hV
        have hb : h.2.1 + 1 ≤ h1.2.1 := b2.1.1
        have pd := bt_dt (v := 0) (by omega) b2 hd b3
        have l1 := b3.1
        have r13 : 3 ≤ r1 := by omega
        have e1 : ex h (jx_put h1 h.2.1 (.inr (14, [.ref r, .ref r1, .int 0]))) (m1 - m) := ex_put (ex_tr e0 b2 (by omega)) rfl (Nat.le_refl _)
        have pi := Both_init (d := d + D + 10) (r := h.2.1) (r1 := r) (r2 := r1) (v := 0) (H := (sw (tx h1 t (nI m1) (nI e) (nI g1) u') cu F o p q z T x ru im tp R)) hr3 r3 r13 (by rw [txw_at (by omega) (by omega), b2.2.2.1 _ (by show h.2.1 < h.2.1 + 1; omega), jx_new_at, if_pos rfl]) (by decide)
        rw [txw_put (by omega) (by omega)] at pi
        have go := ih d (jx_put h1 h.2.1 (.inr (14, [.ref r, .ref r1, .int 0]))) m1 g1 x lo h.2.1 (fun w => btv 0 (L w) (L1 w)) hlo pd (ex_ss e1 (by omega) hs) (by omega) c2 c4
        have st : jx_eb (d + D + 12) 215 5 [.ref t, .ref r] [] (sw (tx h t (nI n) (nI e) (nI g) u') cu F o p q z T x ru im tp R) = jx_eb (d + D + 12) 215 5 [.ref t, .ref h.2.1] [] (sw (tx (jx_put h1 h.2.1 (.inr (14, [.ref r, .ref r1, .int 0]))) t (nI m1) (nI e) (nI g1) u') cu F o p q z T x ru im tp R) := by
          rw [eb_215_5]
          simp only [jx_ns_r, jx_ns_n, jx_ns_q, jx_ns_i, jx_gl_0, jx_gl_s, if_true, if_false, ite_true, ite_false, eq_self, Bool.false_eq_true, List.length_cons, List.length_nil, Nat.zero_le, Nat.reduceAdd, Nat.reduceSub, Nat.reduceLeDiff, Nat.reduceLT, Nat.reduceEqDiff, Int.reduceToNat, reduceIte, xe_aload, jx_rv_r, jx_rv_n, jx_rv_q, xe_inv0, jx_cc_i, jx_cc_v, Nat.reduceMod, Nat.reduceDiv, jx_cl9_i, xe_astore, xe_goto_w, xe_ldc, xe_inv1, xe_ifeq, xe_new, xe_dup, jx_2_i, jx_2_l, jx_2_r, jx_2_n, jx_2_q, or_self, xe_iconst, xi_0, xx_0, xe_spc3, xe_goto, xe_areturn_n, xe_areturn_r, jx_s1, List.set_cons_zero, List.set_cons_succ, jx_2_u, jx_2_s, jx_k_i, jx_k_l, jx_k_r, jx_k_n, jx_k_u, jx_k_s, jx_k_q, tx_r ht, s1, sp_10, nw, r3, hr3, r13, txw_sz, b4, pi]
        rw [st]
        refine ⟨fun k pl hk => ?_, fun L2 m2 g2 hk => ?_⟩
        · obtain ⟨b1, h2, n2, e2, g2, b5, b6⟩ := go.1 k pl hk
          exact ⟨b1, h2, n2, e2, g2, ex_tr e1 b5 (by omega), b6⟩
        · obtain ⟨⟨y1, y2, y3, y4⟩, h2, r2, b5, b6, b7⟩ := go.2 L2 m2 g2 hk
          exact ⟨⟨by omega, y2, by omega, y4⟩, h2, r2, ex_tr e1 b5 (by omega), b6, b7⟩
    · rw [if_neg hw, sp_bl_f hw] at s1
      rw [if_neg (mt wmb_i.mp hw)]
      refine ⟨fun k pl hk => (by cases hk), fun L2 m2 g2 hk => ?_⟩
      cases hk
      refine ⟨⟨ge, le, Nat.le_refl _, hg⟩, h, r, ex_le ex_refl (by omega), hd, ?_⟩
      simp only [eb_215_5, eb_215_31, jx_ns_r, jx_ns_n, jx_ns_q, jx_ns_i, jx_gl_0, jx_gl_s, if_true, if_false, ite_true, ite_false, eq_self, Bool.false_eq_true, List.length_cons, List.length_nil, Nat.zero_le, Nat.reduceAdd, Nat.reduceSub, Nat.reduceLeDiff, Nat.reduceLT, Nat.reduceEqDiff, Int.reduceToNat, reduceIte, xe_aload, jx_rv_r, jx_rv_n, jx_rv_q, xe_inv0, jx_cc_i, jx_cc_v, Nat.reduceMod, Nat.reduceDiv, jx_cl9_i, xe_astore, xe_goto_w, xe_ldc, xe_inv1, xe_ifeq, xe_new, xe_dup, jx_2_i, jx_2_l, jx_2_r, jx_2_n, jx_2_q, or_self, xe_iconst, xi_0, xx_0, xe_spc3, xe_goto, xe_areturn_n, xe_areturn_r, jx_s1, List.set_cons_zero, List.set_cons_succ, jx_2_u, jx_2_s, jx_k_i, jx_k_l, jx_k_r, jx_k_n, jx_k_u, jx_k_s, jx_k_q, tx_r ht, s1, r3]
theorem T_tested (hT : T.length = 6) (ht : 151 ≤ t) (eM : F 9 = nI M) (hM : M ≤ 400) (HF : (∀ d h n g x, t < h.2.1 → ss_ok h → n ≤ M → g ≤ 60 → (∀ k pl, prt tp M el n g = .inl (k, pl) → (k ≤ 4 ∧ pl ≤ M) ∧ ∃ h1 n2 e2 g2, ex h h1 (M - n) ∧ jx_cr (d + D + 12) 216 [.ref t] (sw (tx h t (nI n) (nI e) (nI g) u') cu F o p q z T x ru im tp R) = some (.inr (), sw (tx h1 t n2 e2 g2 u') cu F o p q z T (nI k, nI pl) ru im tp R)) ∧ (∀ L m g2, prt tp M el n g = .inr (L, m, g2) → (n < m ∧ m ≤ M ∧ g ≤ g2 ∧ g2 ≤ 60) ∧ ∃ h1 r, ex h h1 (m - n) ∧ dt h1 h.2.1 h1.2.1 r L ∧ jx_cr (d + D + 12) 216 [.ref t] (sw (tx h t (nI n) (nI e) (nI g) u') cu F o p q z T x ru im tp R) = some (.inl (some (.ref r)), sw (tx h1 t (nI m) (nI e) (nI g2) u') cu F o p q z T x ru im tp R)))) : (∀ d h n g x, t < h.2.1 → ss_ok h → n ≤ M → g ≤ 60 → (∀ k pl, tst tp M el n g = .inl (k, pl) → (k ≤ 4 ∧ pl ≤ M) ∧ ∃ h1 n2 e2 g2, ex h h1 (M - n) ∧ jx_cr (d + D + 13) 215 [.ref t] (sw (tx h t (nI n) (nI e) (nI g) u') cu F o p q z T x ru im tp R) = some (.inr (), sw (tx h1 t n2 e2 g2 u') cu F o p q z T (nI k, nI pl) ru im tp R)) ∧ (∀ L m g2, tst tp M el n g = .inr (L, m, g2) → (n < m ∧ m ≤ M ∧ g ≤ g2 ∧ g2 ≤ 60) ∧ ∃ h1 r, ex h h1 (m - n) ∧ dt h1 h.2.1 h1.2.1 r L ∧ jx_cr (d + D + 13) 215 [.ref t] (sw (tx h t (nI n) (nI e) (nI g) u') cu F o p q z T x ru im tp R) = some (.inl (some (.ref r)), sw (tx h1 t (nI m) (nI e) (nI g2) u') cu F o p q z T x ru im tp R))) := by
  intro d h n g x hth hs hn hg
  have t3 : 3 ≤ t := by omega
  have vv := HF d h n g x hth hs hn hg
  rw [tst]
  cases hV : prt tp M el n g with
  | inl er =>
    refine ⟨fun k pl hk => ?_, fun L2 m2 g2 hk => (by cases hk)⟩
    cases hk
    obtain ⟨b1, h1, n2, e2, g2, b2, b3⟩ := vv.1 k pl hV
    refine ⟨b1, h1, n2, e2, g2, b2, ?_⟩
    have b4 : jx_cr (d + D + 12) 216 [.ref t] (sw (tx h t (nI n) (nI e) (nI g) u') cu F o p q z T x ru im tp R) = _ := b3
    show jx_cr (d + D + 12 + 1) _ _ _ = _
    simp only [cr_215, eb_215_0, jx_ns_r, jx_ns_n, jx_ns_q, jx_ns_i, jx_gl_0, jx_gl_s, if_true, if_false, ite_true, ite_false, eq_self, Bool.false_eq_true, List.length_cons, List.length_nil, Nat.zero_le, Nat.reduceAdd, Nat.reduceSub, Nat.reduceLeDiff, Nat.reduceLT, Nat.reduceEqDiff, Int.reduceToNat, reduceIte, xe_aload, jx_rv_r, jx_rv_n, jx_rv_q, xe_inv0, jx_cc_i, jx_cc_v, Nat.reduceMod, Nat.reduceDiv, jx_cl9_i, xe_astore, xe_goto_w, xe_ldc, xe_inv1, xe_ifeq, xe_new, xe_dup, jx_2_i, jx_2_l, jx_2_r, jx_2_n, jx_2_q, or_self, xe_iconst, xi_0, xx_0, xe_spc3, xe_goto, xe_areturn_n, xe_areturn_r, jx_s1, List.set_cons_zero, List.set_cons_succ, jx_2_u, jx_2_s, jx_k_i, jx_k_l, jx_k_r, jx_k_n, jx_k_u, jx_k_s, jx_k_q, tx_r ht, b4, jx_cc_x xh_215]
  | inr X =>
    obtain ⟨L1, m1, g1⟩ := X
    obtain ⟨⟨c1, c2, c3, c4⟩, h1, r1, b2, b3, b4⟩ := vv.2 L1 m1 g1 hV
    have l1 := b3.1
    have r13 : 3 ≤ r1 := by omega
    have go := T_testedl (e := e) (D := D) (cu := cu) (F := F) (o := o) (p := p) (q := q) (z := z) (T := T) (ru := ru) (im := im) (tp := tp) (R := R) (u' := u') (t := t) hT ht eM hM HF (M + 1) d h1 m1 g1 x h.2.1 r1 L1 hth b3 (ex_ss b2 (by omega) hs) (by omega) c2 c4
    have b5 : jx_cr (d + D + 12) 216 [.ref t] (sw (tx h t (nI n) (nI e) (nI g) u') cu F o p q z T x ru im tp R) = _ := b4
    have st : jx_cr (d + D + 12 + 1) 215 [.ref t] (sw (tx h t (nI n) (nI e) (nI g) u') cu F o p q z T x ru im tp R) = jx_eb (d + D + 12) 215 5 [.ref t, .ref r1] [] (sw (tx h1 t (nI m1) (nI e) (nI g1) u') cu F o p q z T x ru im tp R) := by
      simp only [cr_215, eb_215_0, jx_ns_r, jx_ns_n, jx_ns_q, jx_ns_i, jx_gl_0, jx_gl_s, if_true, if_false, ite_true, ite_false, eq_self, Bool.false_eq_true, List.length_cons, List.length_nil, Nat.zero_le, Nat.reduceAdd, Nat.reduceSub, Nat.reduceLeDiff, Nat.reduceLT, Nat.reduceEqDiff, Int.reduceToNat, reduceIte, xe_aload, jx_rv_r, jx_rv_n, jx_rv_q, xe_inv0, jx_cc_i, jx_cc_v, Nat.reduceMod, Nat.reduceDiv, jx_cl9_i, xe_astore, xe_goto_w, xe_ldc, xe_inv1, xe_ifeq, xe_new, xe_dup, jx_2_i, jx_2_l, jx_2_r, jx_2_n, jx_2_q, or_self, xe_iconst, xi_0, xx_0, xe_spc3, xe_goto, xe_areturn_n, xe_areturn_r, jx_s1, List.set_cons_zero, List.set_cons_succ, jx_2_u, jx_2_s, jx_k_i, jx_k_l, jx_k_r, jx_k_n, jx_k_u, jx_k_s, jx_k_q, tx_r ht, b5, r13]
    refine ⟨fun k pl hk => ?_, fun L2 m2 g2 hk => ?_⟩
    · obtain ⟨b1, h2, n2, e2, g2, b5, b6⟩ := go.1 k pl hk
      exact ⟨b1, h2, n2, e2, g2, ex_tr b2 b5 (by omega), st.trans b6⟩
    · obtain ⟨⟨y1, y2, y3, y4⟩, h2, r2, b5, b6, b7⟩ := go.2 L2 m2 g2 hk
      exact ⟨⟨by omega, y2, by omega, y4⟩, h2, r2, ex_tr b2 b5 (by omega), b6, st.trans b7⟩
end SDI
