/-! TEXTS: terms and sums -/
set_option maxRecDepth 100000
def sgm (v : Int32) : Bool := decide (v = 42) || (decide (v = 47) || decide (v = 37))
def sga (v : Int32) : Bool := decide (v = 43) || decide (v = 45)
noncomputable def chn (tp : Nat → Int32) (M : Nat) (S : Int32 → Bool) (el : Nat → Nat → Vr) : Nat → ((Nat → Int64) → Int64) → Nat → Nat → Vr
  | 0, L, n, g => .inr (L, skp tp M n, g)
  | f + 1, L, n, g => if S (sg tp M (skp tp M n)) = true then (match el (skp tp M n + 1) g with
    | .inl er => .inl er
    | .inr (L2, m, g2) => chn tp M S el f (fun w => prv (tp (skp tp M n)) (L w) (L2 w)) m g2) else .inr (L, skp tp M n, g)
noncomputable def tm (tp : Nat → Int32) (M n g : Nat) : Vr := match vl tp M n g with
  | .inl er => .inl er
  | .inr (L, m, g2) => chn tp M sgm (vl tp M) (M + 1) L m g2
noncomputable def sm (tp : Nat → Int32) (M n g : Nat) : Vr := match tm tp M n g with
  | .inl er => .inl er
  | .inr (L, m, g2) => chn tp M sga (tm tp M) (M + 1) L m g2
theorem sg_lt {tp : Nat → Int32} {M n : Nat} (h : ¬ sg tp M n = -1) : n < M := by
  rw [sg] at h
  by_cases r : n < M
  · exact r
  · rw [if_neg r] at h; exact absurd rfl h
theorem sgm_i {v : Int32} : sgm v = true ↔ v = 42 ∨ v = 47 ∨ v = 37 := by
  simp only [sgm, Bool.or_eq_true, decide_eq_true_eq]
theorem sga_i {v : Int32} : sga v = true ↔ v = 43 ∨ v = 45 := by
  simp only [sga, Bool.or_eq_true, decide_eq_true_eq]
theorem sg_ne : ¬ (47 : Int32) = 42 ∧ ¬ (37 : Int32) = 42 ∧ ¬ (37 : Int32) = 47 ∧ ¬ (45 : Int32) = 43 ∧ ¬ (61 : Int32) = 60 ∧ ¬ (62 : Int32) = 60 ∧ ¬ (62 : Int32) = 61 ∧ ¬ (60 : Int32) = 61 := by decide
section SDH
variable {d : Nat} {h : jx_H} {cu : Option Nat} {F : Nat → Int32} {o p q z : cq_C} {T : List Value} {x : Int32 × Int32} {ru im : Nat → Option Nat} {tp : Nat → Int32} {R : Nat → Nat → Int32} {s : Nat → Int32} {a : Nat → Nat → Int32} {w : Nat → Int64}
variable {t M e : Nat} {u' : Int32}
/-- the pair over what was read and what is read next -/
theorem pr_dv {h1 h' : jx_H} {lo r r2 c : Nat} {L L2 : (Nat → Int64) → Int64} {v : Int32} (h3 : 3 ≤ lo) (q : ex (jx_new h1 (.inr (10, jx_nf 10)) (jx_nf 10).length) h' c) (d1 : dv h1 lo h1.2.1 r L) (d2 : dv h' (h1.2.1 + 1) h'.2.1 r2 L2) : dv (jx_put h' h1.2.1 (.inr (10, [.ref r, .ref r2, .int v]))) lo h'.2.1 h1.2.1 (fun w => prv v (L w) (L2 w)) := by
  have ge : h1.2.1 + 1 ≤ h'.2.1 := q.1.1
  have lr := d1.1
  refine dv_pair (dv_mono d1 h3 (Nat.le_refl _) (Nat.le_refl _) (fun j j1 j2 => ?_)) (dv_mono d2 (by omega) (Nat.le_refl _) (Nat.le_refl _) (fun j j1 j2 => ?_)) (by rw [jx_put_at, if_pos rfl])
  · rw [jx_put_at, if_neg (by omega), q.2.2.1 j (by show j < h1.2.1 + 1; omega), jx_new_at, if_neg (by omega)]
  · rw [jx_put_at, if_neg (by omega)]
theorem T_terml (hT : T.length = 6) (ht : 151 ≤ t) (eM : F 9 = nI M) (hM : M ≤ 400) : ∀ f d h n g x lo r L lv, (lv = jx_un ∨ ∃ v, lv = .int v) → t < lo → dv h lo h.2.1 r L → ss_ok h → M - n < f → n ≤ M → g ≤ 60 →
    (∀ k pl, chn tp M sgm (vl tp M) f L n g = .inl (k, pl) → (k ≤ 4 ∧ pl ≤ M) ∧ ∃ h1 n2 e2 g2, ex h h1 (M - n) ∧ jx_eb (d + 8) 220 5 [.ref t, .ref r, lv] [] (sw (tx h t (nI n) (nI e) (nI g) u') cu F o p q z T x ru im tp R) = some (.inr (), (sw (tx h1 t (n2) (e2) (g2) u') cu F o p q z T (nI k, nI pl) ru im tp R))) ∧
    (∀ L2 m g2, chn tp M sgm (vl tp M) f L n g = .inr (L2, m, g2) → (n ≤ m ∧ m ≤ M ∧ g ≤ g2 ∧ g2 ≤ 60) ∧ ∃ h1 r2, ex h h1 (m - n) ∧ dv h1 lo h1.2.1 r2 L2 ∧ jx_eb (d + 8) 220 5 [.ref t, .ref r, lv] [] (sw (tx h t (nI n) (nI e) (nI g) u') cu F o p q z T x ru im tp R) = some (.inl (some (.ref r2)), (sw (tx h1 t (nI m) (nI e) (nI g2) u') cu F o p q z T x ru im tp R))) := by
  intro f
  induction f with
  | zero => intro d h n g x lo r L lv hlv hlo hd hs hf; omega
  | succ f ih =>
    intro d h n g x lo r L lv hlv hlo hd hs hf hn hg
    have t3 : 3 ≤ t := by omega
    have lr := hd.1
    have r3 : 3 ≤ r := by omega
    have s1 := fun d n hn => T_see (d := d) (n := n) (h := h) (x := x) (cu := cu) (F := F) (o := o) (p := p) (q := q) (z := z) (T := T) (ru := ru) (im := im) (tp := tp) (R := R) (u' := u') (e' := nI e) (g' := nI g) ht eM hM hn
    have le := skp_le (tp := tp) hn
    have ge := skp_ge tp M n
    have ii := skp_i (tp := tp) hn
    have s2 := fun d => s1 d n hn
    have s3 := fun d => s1 d _ le
    rw [ii] at s3
    rw [chn]
    generalize skp tp M n = m at le ge ii s2 s3 ⊢
    by_cases hq : sgm (sg tp M m) = true
    · have mM : m < M := sg_lt (fun z => by rw [z] at hq; exact absurd hq (by decide))
      have i1 := sp_ix (show m < 400 by omega) (by decide)
      rw [if_pos hq]
      have vv := fun d => T_value (e := e) (cu := cu) (F := F) (o := o) (p := p) (q := q) (z := z) (T := T) (ru := ru) (im := im) (tp := tp) (R := R) (u' := u') (t := t) hT ht eM hM d (jx_new h (.inr (10, jx_nf 10)) (jx_nf 10).length) (m + 1) g x (by rw [jx_new_sz]; show t < h.2.1 + 1; omega) (ex_ss (ex_new (c := 1) ex_refl rfl (by rw [nf_1.2.2.1]; show 3 ≤ 16; omega) (Nat.le_refl _)) (by omega) hs) (by omega) hg
      have e0 : ex h (jx_new h (.inr (10, jx_nf 10)) (jx_nf 10).length) 1 := ex_new ex_refl rfl (by rw [nf_1.2.2.1]; show 3 ≤ 16; omega) (Nat.le_refl _)
      have nw := txw_new (h := h) (x := x) (cu := cu) (F := F) (o := o) (p := p) (q := q) (z := z) (T := T) (ru := ru) (im := im) (tp := tp) (R := R) (u' := u') (t := t) (n' := nI (m + 1)) (e' := nI e) (g' := nI g) (y := .inr (10, jx_nf 10)) (c := (jx_nf 10).length) (by omega) (by omega)
      have hr3 : 3 ≤ h.2.1 := by omega
      cases hV : vl tp M (m + 1) g with
      | inl er =>
        refine ⟨fun k pl hk => ?_, fun L2 m2 g2 hk => (by cases hk)⟩
        cases hk
        obtain ⟨b1, h1, n2, e2, g2, b2, b3⟩ := (vv d).1 k pl hV
        refine ⟨b1, h1, n2, e2, g2, ex_tr e0 b2 (by omega), ?_⟩
        rcases sgm_i.mp hq with w | w | w <;> rcases hlv with rfl | ⟨v, rfl⟩ <;> simp only [eb_220_5, eb_220_32, jx_ns_r, jx_ns_n, jx_ns_q, jx_ns_i, jx_gl_0, jx_gl_s, if_true, if_false, ite_true, ite_false, eq_self, Bool.false_eq_true, List.length_cons, List.length_nil, Nat.zero_le, Nat.reduceAdd, Nat.reduceSub, Nat.reduceLeDiff, Nat.reduceLT, Nat.reduceEqDiff, Int.reduceToNat, reduceIte, xe_aload, jx_rv_r, jx_rv_n, jx_rv_q, xe_inv0, jx_cc_i, jx_cc_v, Nat.reduceMod, Nat.reduceDiv, jx_cl9_i, xe_astore, xe_goto_w, xe_iconst, xi_42, xe_icmp_eq, xi_47, xi_37, xe_icmp_ne, xk_getf, jx_gf_i, jx_ov_s, ak_V, xk_bald, ja_ba, ak_A, ak_I, true_or, or_true, xe_istore, xe_dup, jx_2_i, jx_2_l, jx_2_r, jx_2_n, jx_2_q, or_self, xi_1, xx_1, xe_iadd, xk_putf, ak_P, jx_pf_i, jx_pf_z, jx_pf_l, jx_pf_r, jx_pf_n, jx_pf_q, xe_new, xk_iload, jx_iv_i, xe_spc3, xe_goto, xe_areturn_n, xe_areturn_r, jx_s1, List.set_cons_zero, List.set_cons_succ, jx_2_u, jx_2_s, jx_k_i, jx_k_l, jx_k_r, jx_k_n, jx_k_u, jx_k_s, jx_k_q, tx_r ht, tx_w ht, sw_r, sw_f, tx_f, tx_s, s2, s3, w, sg_ne, i1, nI_1, nw, r3, hr3, txw_sz, b3, jx_cc_x xh_220]
      | inr X =>
        obtain ⟨L1, m1, g1⟩ := X
        obtain ⟨⟨c1, c2, c3, c4⟩, h1, r1, b2, b3, b4⟩ := (vv d).2 L1 m1 g1 hV
        have hb : h.2.1 + 1 ≤ h1.2.1 := b2.1.1
        have pd := pr_dv (v := tp m) (by omega) b2 hd b3
        have l1 := b3.1
        have r13 : 3 ≤ r1 := by omega
        have e1 : ex h (jx_put h1 h.2.1 (.inr (10, [.ref r, .ref r1, .int (tp m)]))) (m1 - m) := ex_put (ex_tr e0 b2 (by omega)) rfl (Nat.le_refl _)
        have pi := Pair_init (d := d + 6) (r := h.2.1) (r1 := r) (r2 := r1) (v := tp m) (H := (sw (tx h1 t (nI m1) (nI e) (nI g1) u') cu F o p q z T x ru im tp R)) hr3 r3 r13 (by rw [txw_at (by omega) (by omega), b2.2.2.1 _ (by show h.2.1 < h.2.1 + 1; omega), jx_new_at, if_pos rfl])
        rw [txw_put (by omega) (by omega)] at pi
        have go := ih d (jx_put h1 h.2.1 (.inr (10, [.ref r, .ref r1, .int (tp m)]))) m1 g1 x lo h.2.1 (fun w => prv (tp m) (L w) (L1 w)) (.int (tp m)) (.inr ⟨_, rfl⟩) hlo pd (ex_ss e1 (by omega) hs) (by omega) c2 c4
        have st : jx_eb (d + 8) 220 5 [.ref t, .ref r, lv] [] (sw (tx h t (nI n) (nI e) (nI g) u') cu F o p q z T x ru im tp R) = jx_eb (d + 8) 220 5 [.ref t, .ref h.2.1, .int (tp m)] [] (sw (tx (jx_put h1 h.2.1 (.inr (10, [.ref r, .ref r1, .int (tp m)]))) t (nI m1) (nI e) (nI g1) u') cu F o p q z T x ru im tp R) := by
          rw [eb_220_5]
          rcases sgm_i.mp hq with w | w | w <;> rcases hlv with rfl | ⟨v, rfl⟩ <;> simp only [eb_220_32, jx_ns_r, jx_ns_n, jx_ns_q, jx_ns_i, jx_gl_0, jx_gl_s, if_true, if_false, ite_true, ite_false, eq_self, Bool.false_eq_true, List.length_cons, List.length_nil, Nat.zero_le, Nat.reduceAdd, Nat.reduceSub, Nat.reduceLeDiff, Nat.reduceLT, Nat.reduceEqDiff, Int.reduceToNat, reduceIte, xe_aload, jx_rv_r, jx_rv_n, jx_rv_q, xe_inv0, jx_cc_i, jx_cc_v, Nat.reduceMod, Nat.reduceDiv, jx_cl9_i, xe_astore, xe_goto_w, xe_iconst, xi_42, xe_icmp_eq, xi_47, xi_37, xe_icmp_ne, xk_getf, jx_gf_i, jx_ov_s, ak_V, xk_bald, ja_ba, ak_A, ak_I, true_or, or_true, xe_istore, xe_dup, jx_2_i, jx_2_l, jx_2_r, jx_2_n, jx_2_q, or_self, xi_1, xx_1, xe_iadd, xk_putf, ak_P, jx_pf_i, jx_pf_z, jx_pf_l, jx_pf_r, jx_pf_n, jx_pf_q, xe_new, xk_iload, jx_iv_i, xe_spc3, xe_goto, xe_areturn_n, xe_areturn_r, jx_s1, List.set_cons_zero, List.set_cons_succ, jx_2_u, jx_2_s, jx_k_i, jx_k_l, jx_k_r, jx_k_n, jx_k_u, jx_k_s, jx_k_q, tx_r ht, tx_w ht, sw_r, sw_f, tx_f, tx_s, s2, s3, w, sg_ne, i1, nI_1, nw, r3, hr3, r13, txw_sz, b4, pi]
        rw [st]
        refine ⟨fun k pl hk => ?_, fun L2 m2 g2 hk => ?_⟩
        · obtain ⟨b1, h2, n2, e2, g2, b5, b6⟩ := go.1 k pl hk
          exact ⟨b1, h2, n2, e2, g2, ex_tr e1 b5 (by omega), b6⟩
        · obtain ⟨⟨y1, y2, y3, y4⟩, h2, r2, b5, b6, b7⟩ := go.2 L2 m2 g2 hk
          exact ⟨⟨by omega, y2, by omega, y4⟩, h2, r2, ex_tr e1 b5 (by omega), b6, b7⟩
    · rw [if_neg hq]
      have q1 := mt sgm_i.mpr hq
      have q2 : ¬ sg tp M m = 42 := fun z => q1 (.inl z)
      have q3 : ¬ sg tp M m = 47 := fun z => q1 (.inr (.inl z))
      have q4 : ¬ sg tp M m = 37 := fun z => q1 (.inr (.inr z))
      refine ⟨fun k pl hk => (by cases hk), fun L2 m2 g2 hk => ?_⟩
      cases hk
      refine ⟨⟨ge, le, Nat.le_refl _, hg⟩, h, r, ex_le ex_refl (by omega), hd, ?_⟩
      rcases hlv with rfl | ⟨v, rfl⟩ <;> simp only [eb_220_5, eb_220_72, jx_ns_r, jx_ns_n, jx_ns_q, jx_ns_i, jx_gl_0, jx_gl_s, if_true, if_false, ite_true, ite_false, eq_self, Bool.false_eq_true, List.length_cons, List.length_nil, Nat.zero_le, Nat.reduceAdd, Nat.reduceSub, Nat.reduceLeDiff, Nat.reduceLT, Nat.reduceEqDiff, Int.reduceToNat, reduceIte, xe_aload, jx_rv_r, jx_rv_n, jx_rv_q, xe_inv0, jx_cc_i, jx_cc_v, Nat.reduceMod, Nat.reduceDiv, jx_cl9_i, xe_astore, xe_goto_w, xe_iconst, xi_42, xe_icmp_eq, xi_47, xi_37, xe_icmp_ne, xk_getf, jx_gf_i, jx_ov_s, ak_V, xk_bald, ja_ba, ak_A, ak_I, true_or, or_true, xe_istore, xe_dup, jx_2_i, jx_2_l, jx_2_r, jx_2_n, jx_2_q, or_self, xi_1, xx_1, xe_iadd, xk_putf, ak_P, jx_pf_i, jx_pf_z, jx_pf_l, jx_pf_r, jx_pf_n, jx_pf_q, xe_new, xk_iload, jx_iv_i, xe_spc3, xe_goto, xe_areturn_n, xe_areturn_r, jx_s1, List.set_cons_zero, List.set_cons_succ, jx_2_u, jx_2_s, jx_k_i, jx_k_l, jx_k_r, jx_k_n, jx_k_u, jx_k_s, jx_k_q, tx_r ht, s2, s3, q2, q3, q4, r3]
theorem T_term (hT : T.length = 6) (ht : 151 ≤ t) (eM : F 9 = nI M) (hM : M ≤ 400) : (∀ d h n g x, t < h.2.1 → ss_ok h → n ≤ M → g ≤ 60 → (∀ k pl, tm tp M n g = .inl (k, pl) → (k ≤ 4 ∧ pl ≤ M) ∧ ∃ h1 n2 e2 g2, ex h h1 (M - n) ∧ jx_cr (d + 9) 220 [.ref t] (sw (tx h t (nI n) (nI e) (nI g) u') cu F o p q z T x ru im tp R) = some (.inr (), sw (tx h1 t n2 e2 g2 u') cu F o p q z T (nI k, nI pl) ru im tp R)) ∧ (∀ L m g2, tm tp M n g = .inr (L, m, g2) → (n < m ∧ m ≤ M ∧ g ≤ g2 ∧ g2 ≤ 60) ∧ ∃ h1 r, ex h h1 (m - n) ∧ dv h1 h.2.1 h1.2.1 r L ∧ jx_cr (d + 9) 220 [.ref t] (sw (tx h t (nI n) (nI e) (nI g) u') cu F o p q z T x ru im tp R) = some (.inl (some (.ref r)), sw (tx h1 t (nI m) (nI e) (nI g2) u') cu F o p q z T x ru im tp R))) := by
  intro d h n g x hth hs hn hg
  have t3 : 3 ≤ t := by omega
  have vv := fun d => T_value (e := e) (cu := cu) (F := F) (o := o) (p := p) (q := q) (z := z) (T := T) (ru := ru) (im := im) (tp := tp) (R := R) (u' := u') (t := t) hT ht eM hM d h n g x hth hs hn hg
  rw [tm]
  cases hV : vl tp M n g with
  | inl er =>
    refine ⟨fun k pl hk => ?_, fun L2 m2 g2 hk => (by cases hk)⟩
    cases hk
    obtain ⟨b1, h1, n2, e2, g2, b2, b3⟩ := (vv d).1 k pl hV
    refine ⟨b1, h1, n2, e2, g2, b2, ?_⟩
    simp only [cr_220, eb_220_0, jx_ns_r, jx_ns_n, jx_ns_q, jx_ns_i, jx_gl_0, jx_gl_s, if_true, if_false, ite_true, ite_false, eq_self, Bool.false_eq_true, List.length_cons, List.length_nil, Nat.zero_le, Nat.reduceAdd, Nat.reduceSub, Nat.reduceLeDiff, Nat.reduceLT, Nat.reduceEqDiff, Int.reduceToNat, reduceIte, xe_aload, jx_rv_r, jx_rv_n, jx_rv_q, xe_inv0, jx_cc_i, jx_cc_v, Nat.reduceMod, Nat.reduceDiv, jx_cl9_i, xe_astore, xe_goto_w, xe_iconst, xi_42, xe_icmp_eq, xi_47, xi_37, xe_icmp_ne, xk_getf, jx_gf_i, jx_ov_s, ak_V, xk_bald, ja_ba, ak_A, ak_I, true_or, or_true, xe_istore, xe_dup, jx_2_i, jx_2_l, jx_2_r, jx_2_n, jx_2_q, or_self, xi_1, xx_1, xe_iadd, xk_putf, ak_P, jx_pf_i, jx_pf_z, jx_pf_l, jx_pf_r, jx_pf_n, jx_pf_q, xe_new, xk_iload, jx_iv_i, xe_spc3, xe_goto, xe_areturn_n, xe_areturn_r, jx_s1, List.set_cons_zero, List.set_cons_succ, jx_2_u, jx_2_s, jx_k_i, jx_k_l, jx_k_r, jx_k_n, jx_k_u, jx_k_s, jx_k_q, tx_r ht, b3, jx_cc_x xh_220]
  | inr X =>
    obtain ⟨L1, m1, g1⟩ := X
    obtain ⟨⟨c1, c2, c3, c4⟩, h1, r1, b2, b3, b4⟩ := (vv d).2 L1 m1 g1 hV
    have l1 := b3.1
    have r13 : 3 ≤ r1 := by omega
    have go := T_terml (e := e) (cu := cu) (F := F) (o := o) (p := p) (q := q) (z := z) (T := T) (ru := ru) (im := im) (tp := tp) (R := R) (u' := u') (t := t) hT ht eM hM (M + 1) d h1 m1 g1 x h.2.1 r1 L1 jx_un (.inl rfl) hth b3 (ex_ss b2 (by omega) hs) (by omega) c2 c4
    have st : jx_cr (d + 9) 220 [.ref t] (sw (tx h t (nI n) (nI e) (nI g) u') cu F o p q z T x ru im tp R) = jx_eb (d + 8) 220 5 [.ref t, .ref r1, jx_un] [] (sw (tx h1 t (nI m1) (nI e) (nI g1) u') cu F o p q z T x ru im tp R) := by
      simp only [cr_220, eb_220_0, jx_ns_r, jx_ns_n, jx_ns_q, jx_ns_i, jx_gl_0, jx_gl_s, if_true, if_false, ite_true, ite_false, eq_self, Bool.false_eq_true, List.length_cons, List.length_nil, Nat.zero_le, Nat.reduceAdd, Nat.reduceSub, Nat.reduceLeDiff, Nat.reduceLT, Nat.reduceEqDiff, Int.reduceToNat, reduceIte, xe_aload, jx_rv_r, jx_rv_n, jx_rv_q, xe_inv0, jx_cc_i, jx_cc_v, Nat.reduceMod, Nat.reduceDiv, jx_cl9_i, xe_astore, xe_goto_w, xe_iconst, xi_42, xe_icmp_eq, xi_47, xi_37, xe_icmp_ne, xk_getf, jx_gf_i, jx_ov_s, ak_V, xk_bald, ja_ba, ak_A, ak_I, true_or, or_true, xe_istore, xe_dup, jx_2_i, jx_2_l, jx_2_r, jx_2_n, jx_2_q, or_self, xi_1, xx_1, xe_iadd, xk_putf, ak_P, jx_pf_i, jx_pf_z, jx_pf_l, jx_pf_r, jx_pf_n, jx_pf_q, xe_new, xk_iload, jx_iv_i, xe_spc3, xe_goto, xe_areturn_n, xe_areturn_r, jx_s1, List.set_cons_zero, List.set_cons_succ, jx_2_u, jx_2_s, jx_k_i, jx_k_l, jx_k_r, jx_k_n, jx_k_u, jx_k_s, jx_k_q, tx_r ht, b4, r13]
    rw [st]
    refine ⟨fun k pl hk => ?_, fun L2 m2 g2 hk => ?_⟩
    · obtain ⟨b1, h2, n2, e2, g2, b5, b6⟩ := go.1 k pl hk
      exact ⟨b1, h2, n2, e2, g2, ex_tr b2 b5 (by omega), b6⟩
    · obtain ⟨⟨y1, y2, y3, y4⟩, h2, r2, b5, b6, b7⟩ := go.2 L2 m2 g2 hk
      exact ⟨⟨by omega, y2, by omega, y4⟩, h2, r2, ex_tr b2 b5 (by omega), b6, b7⟩
theorem T_suml (hT : T.length = 6) (ht : 151 ≤ t) (eM : F 9 = nI M) (hM : M ≤ 400) : ∀ f d h n g x lo r L lv, (lv = jx_un ∨ ∃ v, lv = .int v) → t < lo → dv h lo h.2.1 r L → ss_ok h → M - n < f → n ≤ M → g ≤ 60 →
    (∀ k pl, chn tp M sga (tm tp M) f L n g = .inl (k, pl) → (k ≤ 4 ∧ pl ≤ M) ∧ ∃ h1 n2 e2 g2, ex h h1 (M - n) ∧ jx_eb (d + 9) 219 5 [.ref t, .ref r, lv] [] (sw (tx h t (nI n) (nI e) (nI g) u') cu F o p q z T x ru im tp R) = some (.inr (), (sw (tx h1 t (n2) (e2) (g2) u') cu F o p q z T (nI k, nI pl) ru im tp R))) ∧
    (∀ L2 m g2, chn tp M sga (tm tp M) f L n g = .inr (L2, m, g2) → (n ≤ m ∧ m ≤ M ∧ g ≤ g2 ∧ g2 ≤ 60) ∧ ∃ h1 r2, ex h h1 (m - n) ∧ dv h1 lo h1.2.1 r2 L2 ∧ jx_eb (d + 9) 219 5 [.ref t, .ref r, lv] [] (sw (tx h t (nI n) (nI e) (nI g) u') cu F o p q z T x ru im tp R) = some (.inl (some (.ref r2)), (sw (tx h1 t (nI m) (nI e) (nI g2) u') cu F o p q z T x ru im tp R))) := by
  intro f
  induction f with
  | zero => intro d h n g x lo r L lv hlv hlo hd hs hf; omega
  | succ f ih =>
    intro d h n g x lo r L lv hlv hlo hd hs hf hn hg
    have t3 : 3 ≤ t := by omega
    have lr := hd.1
    have r3 : 3 ≤ r := by omega
    have s1 := fun d n hn => T_see (d := d) (n := n) (h := h) (x := x) (cu := cu) (F := F) (o := o) (p := p) (q := q) (z := z) (T := T) (ru := ru) (im := im) (tp := tp) (R := R) (u' := u') (e' := nI e) (g' := nI g) ht eM hM hn
    have le := skp_le (tp := tp) hn
    have ge := skp_ge tp M n
    have ii := skp_i (tp := tp) hn
    have s2 := fun d => s1 d n hn
    have s3 := fun d => s1 d _ le
    rw [ii] at s3
    rw [chn]
    generalize skp tp M n = m at le ge ii s2 s3 ⊢
    by_cases hq : sga (sg tp M m) = true
    · have mM : m < M := sg_lt (fun z => by rw [z] at hq; exact absurd hq (by decide))
      have i1 := sp_ix (show m < 400 by omega) (by decide)
      rw [if_pos hq]
      have vv := fun d => T_term (e := e) (cu := cu) (F := F) (o := o) (p := p) (q := q) (z := z) (T := T) (ru := ru) (im := im) (tp := tp) (R := R) (u' := u') (t := t) hT ht eM hM d (jx_new h (.inr (10, jx_nf 10)) (jx_nf 10).length) (m + 1) g x (by rw [jx_new_sz]; show t < h.2.1 + 1; omega) (ex_ss (ex_new (c := 1) ex_refl rfl (by rw [nf_1.2.2.1]; show 3 ≤ 16; omega) (Nat.le_refl _)) (by omega) hs) (by omega) hg
      have e0 : ex h (jx_new h (.inr (10, jx_nf 10)) (jx_nf 10).length) 1 := ex_new ex_refl rfl (by rw [nf_1.2.2.1]; show 3 ≤ 16; omega) (Nat.le_refl _)
      have nw := txw_new (h := h) (x := x) (cu := cu) (F := F) (o := o) (p := p) (q := q) (z := z) (T := T) (ru := ru) (im := im) (tp := tp) (R := R) (u' := u') (t := t) (n' := nI (m + 1)) (e' := nI e) (g' := nI g) (y := .inr (10, jx_nf 10)) (c := (jx_nf 10).length) (by omega) (by omega)
      have hr3 : 3 ≤ h.2.1 := by omega
      cases hV : tm tp M (m + 1) g with
      | inl er =>
        refine ⟨fun k pl hk => ?_, fun L2 m2 g2 hk => (by cases hk)⟩
        cases hk
        obtain ⟨b1, h1, n2, e2, g2, b2, b3⟩ := (vv d).1 k pl hV
        refine ⟨b1, h1, n2, e2, g2, ex_tr e0 b2 (by omega), ?_⟩
        rcases sga_i.mp hq with w | w <;> rcases hlv with rfl | ⟨v, rfl⟩ <;> simp only [eb_219_5, eb_219_23, jx_ns_r, jx_ns_n, jx_ns_q, jx_ns_i, jx_gl_0, jx_gl_s, if_true, if_false, ite_true, ite_false, eq_self, Bool.false_eq_true, List.length_cons, List.length_nil, Nat.zero_le, Nat.reduceAdd, Nat.reduceSub, Nat.reduceLeDiff, Nat.reduceLT, Nat.reduceEqDiff, Int.reduceToNat, reduceIte, xe_aload, jx_rv_r, jx_rv_n, jx_rv_q, xe_inv0, jx_cc_i, jx_cc_v, Nat.reduceMod, Nat.reduceDiv, jx_cl9_i, xe_astore, xe_goto_w, xe_iconst, xi_43, xe_icmp_eq, xi_45, xe_icmp_ne, xk_getf, jx_gf_i, jx_ov_s, ak_V, xk_bald, ja_ba, ak_A, ak_I, true_or, or_true, xe_istore, xe_dup, jx_2_i, jx_2_l, jx_2_r, jx_2_n, jx_2_q, or_self, xi_1, xx_1, xe_iadd, xk_putf, ak_P, jx_pf_i, jx_pf_z, jx_pf_l, jx_pf_r, jx_pf_n, jx_pf_q, xe_new, xk_iload, jx_iv_i, xe_spc3, xe_goto, xe_areturn_n, xe_areturn_r, jx_s1, List.set_cons_zero, List.set_cons_succ, jx_2_u, jx_2_s, jx_k_i, jx_k_l, jx_k_r, jx_k_n, jx_k_u, jx_k_s, jx_k_q, tx_r ht, tx_w ht, sw_r, sw_f, tx_f, tx_s, s2, s3, w, sg_ne, i1, nI_1, nw, r3, hr3, txw_sz, b3, jx_cc_x xh_219]
      | inr X =>
        obtain ⟨L1, m1, g1⟩ := X
        obtain ⟨⟨c1, c2, c3, c4⟩, h1, r1, b2, b3, b4⟩ := (vv d).2 L1 m1 g1 hV
        have hb : h.2.1 + 1 ≤ h1.2.1 := b2.1.1
        have pd := pr_dv (v := tp m) (by omega) b2 hd b3
        have l1 := b3.1
        have r13 : 3 ≤ r1 := by omega
        have e1 : ex h (jx_put h1 h.2.1 (.inr (10, [.ref r, .ref r1, .int (tp m)]))) (m1 - m) := ex_put (ex_tr e0 b2 (by omega)) rfl (Nat.le_refl _)
        have pi := Pair_init (d := d + 7) (r := h.2.1) (r1 := r) (r2 := r1) (v := tp m) (H := (sw (tx h1 t (nI m1) (nI e) (nI g1) u') cu F o p q z T x ru im tp R)) hr3 r3 r13 (by rw [txw_at (by omega) (by omega), b2.2.2.1 _ (by show h.2.1 < h.2.1 + 1; omega), jx_new_at, if_pos rfl])
        rw [txw_put (by omega) (by omega)] at pi
        have go := ih d (jx_put h1 h.2.1 (.inr (10, [.ref r, .ref r1, .int (tp m)]))) m1 g1 x lo h.2.1 (fun w => prv (tp m) (L w) (L1 w)) (.int (tp m)) (.inr ⟨_, rfl⟩) hlo pd (ex_ss e1 (by omega) hs) (by omega) c2 c4
        have st : jx_eb (d + 9) 219 5 [.ref t, .ref r, lv] [] (sw (tx h t (nI n) (nI e) (nI g) u') cu F o p q z T x ru im tp R) = jx_eb (d + 9) 219 5 [.ref t, .ref h.2.1, .int (tp m)] [] (sw (tx (jx_put h1 h.2.1 (.inr (10, [.ref r, .ref r1, .int (tp m)]))) t (nI m1) (nI e) (nI g1) u') cu F o p q z T x ru im tp R) := by
          rw [eb_219_5]
          rcases sga_i.mp hq with w | w <;> rcases hlv with rfl | ⟨v, rfl⟩ <;> simp only [eb_219_23, jx_ns_r, jx_ns_n, jx_ns_q, jx_ns_i, jx_gl_0, jx_gl_s, if_true, if_false, ite_true, ite_false, eq_self, Bool.false_eq_true, List.length_cons, List.length_nil, Nat.zero_le, Nat.reduceAdd, Nat.reduceSub, Nat.reduceLeDiff, Nat.reduceLT, Nat.reduceEqDiff, Int.reduceToNat, reduceIte, xe_aload, jx_rv_r, jx_rv_n, jx_rv_q, xe_inv0, jx_cc_i, jx_cc_v, Nat.reduceMod, Nat.reduceDiv, jx_cl9_i, xe_astore, xe_goto_w, xe_iconst, xi_43, xe_icmp_eq, xi_45, xe_icmp_ne, xk_getf, jx_gf_i, jx_ov_s, ak_V, xk_bald, ja_ba, ak_A, ak_I, true_or, or_true, xe_istore, xe_dup, jx_2_i, jx_2_l, jx_2_r, jx_2_n, jx_2_q, or_self, xi_1, xx_1, xe_iadd, xk_putf, ak_P, jx_pf_i, jx_pf_z, jx_pf_l, jx_pf_r, jx_pf_n, jx_pf_q, xe_new, xk_iload, jx_iv_i, xe_spc3, xe_goto, xe_areturn_n, xe_areturn_r, jx_s1, List.set_cons_zero, List.set_cons_succ, jx_2_u, jx_2_s, jx_k_i, jx_k_l, jx_k_r, jx_k_n, jx_k_u, jx_k_s, jx_k_q, tx_r ht, tx_w ht, sw_r, sw_f, tx_f, tx_s, s2, s3, w, sg_ne, i1, nI_1, nw, r3, hr3, r13, txw_sz, b4, pi]
        rw [st]
        refine ⟨fun k pl hk => ?_, fun L2 m2 g2 hk => ?_⟩
        · obtain ⟨b1, h2, n2, e2, g2, b5, b6⟩ := go.1 k pl hk
          exact ⟨b1, h2, n2, e2, g2, ex_tr e1 b5 (by omega), b6⟩
        · obtain ⟨⟨y1, y2, y3, y4⟩, h2, r2, b5, b6, b7⟩ := go.2 L2 m2 g2 hk
          exact ⟨⟨by omega, y2, by omega, y4⟩, h2, r2, ex_tr e1 b5 (by omega), b6, b7⟩
    · rw [if_neg hq]
      have q1 := mt sga_i.mpr hq
      have q2 : ¬ sg tp M m = 43 := fun z => q1 (.inl z)
      have q3 : ¬ sg tp M m = 45 := fun z => q1 (.inr z)
      refine ⟨fun k pl hk => (by cases hk), fun L2 m2 g2 hk => ?_⟩
      cases hk
      refine ⟨⟨ge, le, Nat.le_refl _, hg⟩, h, r, ex_le ex_refl (by omega), hd, ?_⟩
      rcases hlv with rfl | ⟨v, rfl⟩ <;> simp only [eb_219_5, eb_219_63, jx_ns_r, jx_ns_n, jx_ns_q, jx_ns_i, jx_gl_0, jx_gl_s, if_true, if_false, ite_true, ite_false, eq_self, Bool.false_eq_true, List.length_cons, List.length_nil, Nat.zero_le, Nat.reduceAdd, Nat.reduceSub, Nat.reduceLeDiff, Nat.reduceLT, Nat.reduceEqDiff, Int.reduceToNat, reduceIte, xe_aload, jx_rv_r, jx_rv_n, jx_rv_q, xe_inv0, jx_cc_i, jx_cc_v, Nat.reduceMod, Nat.reduceDiv, jx_cl9_i, xe_astore, xe_goto_w, xe_iconst, xi_43, xe_icmp_eq, xi_45, xe_icmp_ne, xk_getf, jx_gf_i, jx_ov_s, ak_V, xk_bald, ja_ba, ak_A, ak_I, true_or, or_true, xe_istore, xe_dup, jx_2_i, jx_2_l, jx_2_r, jx_2_n, jx_2_q, or_self, xi_1, xx_1, xe_iadd, xk_putf, ak_P, jx_pf_i, jx_pf_z, jx_pf_l, jx_pf_r, jx_pf_n, jx_pf_q, xe_new, xk_iload, jx_iv_i, xe_spc3, xe_goto, xe_areturn_n, xe_areturn_r, jx_s1, List.set_cons_zero, List.set_cons_succ, jx_2_u, jx_2_s, jx_k_i, jx_k_l, jx_k_r, jx_k_n, jx_k_u, jx_k_s, jx_k_q, tx_r ht, s2, s3, q2, q3, r3]
theorem T_sum (hT : T.length = 6) (ht : 151 ≤ t) (eM : F 9 = nI M) (hM : M ≤ 400) : (∀ d h n g x, t < h.2.1 → ss_ok h → n ≤ M → g ≤ 60 → (∀ k pl, sm tp M n g = .inl (k, pl) → (k ≤ 4 ∧ pl ≤ M) ∧ ∃ h1 n2 e2 g2, ex h h1 (M - n) ∧ jx_cr (d + 10) 219 [.ref t] (sw (tx h t (nI n) (nI e) (nI g) u') cu F o p q z T x ru im tp R) = some (.inr (), sw (tx h1 t n2 e2 g2 u') cu F o p q z T (nI k, nI pl) ru im tp R)) ∧ (∀ L m g2, sm tp M n g = .inr (L, m, g2) → (n < m ∧ m ≤ M ∧ g ≤ g2 ∧ g2 ≤ 60) ∧ ∃ h1 r, ex h h1 (m - n) ∧ dv h1 h.2.1 h1.2.1 r L ∧ jx_cr (d + 10) 219 [.ref t] (sw (tx h t (nI n) (nI e) (nI g) u') cu F o p q z T x ru im tp R) = some (.inl (some (.ref r)), sw (tx h1 t (nI m) (nI e) (nI g2) u') cu F o p q z T x ru im tp R))) := by
  intro d h n g x hth hs hn hg
  have t3 : 3 ≤ t := by omega
  have vv := fun d => T_term (e := e) (cu := cu) (F := F) (o := o) (p := p) (q := q) (z := z) (T := T) (ru := ru) (im := im) (tp := tp) (R := R) (u' := u') (t := t) hT ht eM hM d h n g x hth hs hn hg
  rw [sm]
  cases hV : tm tp M n g with
  | inl er =>
    refine ⟨fun k pl hk => ?_, fun L2 m2 g2 hk => (by cases hk)⟩
    cases hk
    obtain ⟨b1, h1, n2, e2, g2, b2, b3⟩ := (vv d).1 k pl hV
    refine ⟨b1, h1, n2, e2, g2, b2, ?_⟩
    simp only [cr_219, eb_219_0, jx_ns_r, jx_ns_n, jx_ns_q, jx_ns_i, jx_gl_0, jx_gl_s, if_true, if_false, ite_true, ite_false, eq_self, Bool.false_eq_true, List.length_cons, List.length_nil, Nat.zero_le, Nat.reduceAdd, Nat.reduceSub, Nat.reduceLeDiff, Nat.reduceLT, Nat.reduceEqDiff, Int.reduceToNat, reduceIte, xe_aload, jx_rv_r, jx_rv_n, jx_rv_q, xe_inv0, jx_cc_i, jx_cc_v, Nat.reduceMod, Nat.reduceDiv, jx_cl9_i, xe_astore, xe_goto_w, xe_iconst, xi_43, xe_icmp_eq, xi_45, xe_icmp_ne, xk_getf, jx_gf_i, jx_ov_s, ak_V, xk_bald, ja_ba, ak_A, ak_I, true_or, or_true, xe_istore, xe_dup, jx_2_i, jx_2_l, jx_2_r, jx_2_n, jx_2_q, or_self, xi_1, xx_1, xe_iadd, xk_putf, ak_P, jx_pf_i, jx_pf_z, jx_pf_l, jx_pf_r, jx_pf_n, jx_pf_q, xe_new, xk_iload, jx_iv_i, xe_spc3, xe_goto, xe_areturn_n, xe_areturn_r, jx_s1, List.set_cons_zero, List.set_cons_succ, jx_2_u, jx_2_s, jx_k_i, jx_k_l, jx_k_r, jx_k_n, jx_k_u, jx_k_s, jx_k_q, tx_r ht, b3, jx_cc_x xh_219]
  | inr X =>
    obtain ⟨L1, m1, g1⟩ := X
    obtain ⟨⟨c1, c2, c3, c4⟩, h1, r1, b2, b3, b4⟩ := (vv d).2 L1 m1 g1 hV
    have l1 := b3.1
    have r13 : 3 ≤ r1 := by omega
    have go := T_suml (e := e) (cu := cu) (F := F) (o := o) (p := p) (q := q) (z := z) (T := T) (ru := ru) (im := im) (tp := tp) (R := R) (u' := u') (t := t) hT ht eM hM (M + 1) d h1 m1 g1 x h.2.1 r1 L1 jx_un (.inl rfl) hth b3 (ex_ss b2 (by omega) hs) (by omega) c2 c4
    have st : jx_cr (d + 10) 219 [.ref t] (sw (tx h t (nI n) (nI e) (nI g) u') cu F o p q z T x ru im tp R) = jx_eb (d + 9) 219 5 [.ref t, .ref r1, jx_un] [] (sw (tx h1 t (nI m1) (nI e) (nI g1) u') cu F o p q z T x ru im tp R) := by
      simp only [cr_219, eb_219_0, jx_ns_r, jx_ns_n, jx_ns_q, jx_ns_i, jx_gl_0, jx_gl_s, if_true, if_false, ite_true, ite_false, eq_self, Bool.false_eq_true, List.length_cons, List.length_nil, Nat.zero_le, Nat.reduceAdd, Nat.reduceSub, Nat.reduceLeDiff, Nat.reduceLT, Nat.reduceEqDiff, Int.reduceToNat, reduceIte, xe_aload, jx_rv_r, jx_rv_n, jx_rv_q, xe_inv0, jx_cc_i, jx_cc_v, Nat.reduceMod, Nat.reduceDiv, jx_cl9_i, xe_astore, xe_goto_w, xe_iconst, xi_43, xe_icmp_eq, xi_45, xe_icmp_ne, xk_getf, jx_gf_i, jx_ov_s, ak_V, xk_bald, ja_ba, ak_A, ak_I, true_or, or_true, xe_istore, xe_dup, jx_2_i, jx_2_l, jx_2_r, jx_2_n, jx_2_q, or_self, xi_1, xx_1, xe_iadd, xk_putf, ak_P, jx_pf_i, jx_pf_z, jx_pf_l, jx_pf_r, jx_pf_n, jx_pf_q, xe_new, xk_iload, jx_iv_i, xe_spc3, xe_goto, xe_areturn_n, xe_areturn_r, jx_s1, List.set_cons_zero, List.set_cons_succ, jx_2_u, jx_2_s, jx_k_i, jx_k_l, jx_k_r, jx_k_n, jx_k_u, jx_k_s, jx_k_q, tx_r ht, b4, r13]
    rw [st]
    refine ⟨fun k pl hk => ?_, fun L2 m2 g2 hk => ?_⟩
    · obtain ⟨b1, h2, n2, e2, g2, b5, b6⟩ := go.1 k pl hk
      exact ⟨b1, h2, n2, e2, g2, ex_tr b2 b5 (by omega), b6⟩
    · obtain ⟨⟨y1, y2, y3, y4⟩, h2, r2, b5, b6, b7⟩ := go.2 L2 m2 g2 hk
      exact ⟨⟨by omega, y2, by omega, y4⟩, h2, r2, ex_tr b2 b5 (by omega), b6, b7⟩
end SDH
