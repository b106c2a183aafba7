/-! SpoonCourt: heldBy, areNotesSo, gathersRules, ruled -/
set_option maxRecDepth 100000
/-- all notes are as the row f (by hours) has it -/
def sp_ns (a : Nat → Nat → Int32) (nm : Nat) (f : Nat → Int32) : Prop := ∀ i, i < nm → f (a 5 (2 * i)).toNatClampNeg = a 5 (2 * i + 1)
/-- notes: how many, and hours that can be -/
def sp_nt (s : Nat → Int32) (a : Nat → Nat → Int32) (nm : Nat) : Prop := s 4 = nI nm ∧ nm ≤ 10 ∧ ∀ i, i < nm → ∃ n, n ≤ 60 ∧ a 5 (2 * i) = nI n
/-- the law k: 0 none -/
def sp_lk (Lr : Nat → (Nat → Int64) → Int64) (k : Nat) : Option ((Nat → Int64) → Int64) := if k = 0 then none else some (Lr (k - 1))
/-- what he held in the hour n by the law k, all as told -/
def sp_hk (Lr : Nat → (Nat → Int64) → Int64) (s : Nat → Int32) (a : Nat → Nat → Int32) (k n : Nat) : Int32 := sp_hd (sp_lk Lr k) (cq_bgs s, cq_bgn a) n
/-- the rules that are told -/
def sp_rs (D : Nat) (h : jx_H) (ru : Nat → Option Nat) (Lr : Nat → (Nat → Int64) → Int64) (rm : Nat) : Prop := rm ≤ 6 ∧ ∀ k, k < rm → ∃ r, ru k = some r ∧ sp_rule D h r (Lr k)
noncomputable def sp_fit (Lr : Nat → (Nat → Int64) → Int64) (s : Nat → Int32) (a : Nat → Nat → Int32) (nm k : Nat) : Bool := @decide (sp_ns a nm (sp_hk Lr s a k)) (Classical.propDecidable _)
def sp_h4 (f : Nat → Nat → Int32) (j : Nat) : Int32 := f (j / 61) (j % 61)
theorem sp_h4_e {f : Nat → Nat → Int32} {k n : Nat} (hn : n < 61) : sp_h4 f (61 * k + n) = f k n := by
  rw [sp_h4, show (61 * k + n) / 61 = k by omega, show (61 * k + n) % 61 = n by omega]
theorem sp_m61 {u v : Nat} : (61 : Int32) * nI u + nI v = nI (61 * u + v) := by
  rw [show (61 : Int32) * nI u = nI (61 * u) from (Int32.ofNat_mul 61 u).symm, nI_add]
theorem sp_bl_01 {P : Prop} : sp_bl P &&& 1 = sp_bl P := by
  by_cases h : P
  · rw [sp_bl_t h]; decide
  · rw [sp_bl_f h]; decide
section ST
variable {d : Nat} {h : jx_H} {cu : Option Nat} {F : Nat → Int32} {o p q z : cq_C} {T : List Value} {x : Int32 × Int32} {ru im : Nat → Option Nat} {tp : Nat → Int32} {R : Nat → Nat → Int32} {s : Nat → Int32} {a : Nat → Nat → Int32} {w : Nat → Int64}
variable {i k : Int32} {t tm pm day um now D n : Nat} {lo : Option Nat} {Lo : Option ((Nat → Int64) → Int64)} {ps : Nat → Int32} {pa : Nat → Nat → Int32} {pw : Nat → Int64}
variable {u v nm rm : Nat} {Lr : Nat → (Nat → Int64) → Int64}
theorem cq_iv_bg (iv : cq_iv s a day tm pm now) : cq_iv (cq_bgs s) (cq_bgn a) day tm pm 0 := by
  obtain ⟨e0, d1, d2, e2, t6, e3, p6, e7, h8, h9, hg, hr⟩ := iv
  exact ⟨e0, d1, d2, e2, t6, e3, p6, rfl, .inl rfl, .inl rfl, ⟨0, by omega, rfl⟩, hr⟩
theorem sp_bs_bg (ht : tm ≤ 6) (hp : pm ≤ 6) (e : sp_bs tm pm day s ps a pa) : cq_eq tm pm day (cq_bgs s) (cq_bgs ps) (cq_bgn a) (cq_bgn pa) := by
  refine ⟨fun k h1 h2 h3 h4 => ?_, fun k hk => ⟨(e.2.1 k hk).1, (e.2.1 k hk).2, ?_⟩, e.2.2.1, fun k hk => ⟨(e.2.2.2 k hk).1, (e.2.2.2 k hk).2, ?_, ?_, ?_⟩⟩
  · simp only [cq_bgs]
    by_cases h7 : k < 7
    · rw [e.1 k h7]
    · rcases (by omega : k = 7 ∨ k = 8 ∨ k = 9 ∨ k = 10) with q | q | q | q <;> subst q <;> rfl
  · show cq_fl 6 (fun _ => 0) (a 6) k = cq_fl 6 (fun _ => 0) (pa 6) k
    rw [cq_fl_lt (by omega), cq_fl_lt (by omega)]
  · show cq_fl 6 (a 3) (a 7) k = cq_fl 6 (pa 3) (pa 7) k
    rw [cq_fl_lt (by omega), cq_fl_lt (by omega)]
    exact (e.2.2.2 k hk).1
  · show cq_fl 6 (fun _ => 0) (a 8) k = cq_fl 6 (fun _ => 0) (pa 8) k
    rw [cq_fl_lt (by omega), cq_fl_lt (by omega)]
  · show cq_fl 6 (fun _ => 0) (a 9) k = cq_fl 6 (fun _ => 0) (pa 9) k
    rw [cq_fl_lt (by omega), cq_fl_lt (by omega)]
theorem sp_bs_b2 (e : sp_bs tm pm day s ps a pa) : sp_bs tm pm day s (cq_bgs ps) a (cq_bgn pa) := by
  refine ⟨fun k hk => ?_, e.2.1, e.2.2.1, e.2.2.2⟩
  simp only [cq_bgs]
  rw [if_neg (by omega), if_neg (by omega), if_neg (by omega), if_neg (by omega)]
  exact e.1 k hk
theorem sp_heldBy (hu : u ≤ 6) (hv : v ≤ 60) : jx_cr (d + 1) 43 [.ref 48, .int (nI u), .int (nI v)] (sw h cu F o p q z T x ru im tp R) = some (.inl (some (.int (R 4 (61 * u + v)))), (sw h cu F o p q z T x ru im tp R)) := by
  have i1 := sp_ix (show 61 * u + v < 427 by omega) (by decide)
  simp only [cr_43, eb_43_0, jx_ns_r, jx_ns_n, jx_ns_q, jx_ns_i, jx_gl_0, jx_gl_s, if_true, if_false, ite_true, ite_false, eq_self, Bool.false_eq_true, List.length_cons, List.length_nil, Nat.zero_le, Nat.reduceAdd, Nat.reduceSub, Nat.reduceLeDiff, Nat.reduceLT, Nat.reduceEqDiff, Int.reduceToNat, reduceIte, xe_aload, jx_rv_r, jx_rv_n, jx_rv_q, xk_getf, jx_gf_i, jx_ov_s, ak_V, xe_iconst, xi_61, xk_iload, jx_iv_i, ak_I, xe_imul, xe_iadd, xk_iald, ja_ia, ak_A, true_or, or_true, xe_ireturn, sw_r, sw_f, sw_s, sw_wo, sw_ro, sw_rp, sw_woo, sw_wor, sw_wpo, sw_wpr, cq_f, cq_s, va_up_s, va_rf_s, va_rf_n, sp_m61, i1]
theorem sp_notesSo (hu : u ≤ 6) (hN : sp_nt s a nm) : jx_cr (d + 2) 44 [.ref 48, .int (nI u)] (sw h (some 49) F (s, a, w) p q z T x ru im tp R) = some (.inl (some (.int (sp_bl (sp_ns a nm (fun n => R 4 (61 * u + n)))))), (sw h (some 49) F (s, a, w) p q z T x ru im tp R)) := by
  obtain ⟨e4, n10, hN⟩ := hN
  have m2 : (2 : Int32) * nI nm = nI (2 * nm) := (Int32.ofNat_mul 2 nm).symm
  have key := jx_lp (d := d + 1) (y := 44) (L := 2) (n := nm) (γ := Unit) (ls := fun m _ => [.ref 48, .int (nI u), .int (nI (2 * m))]) (H := fun _ _ => (sw h (some 49) F (s, a, w) p q z T x ru im tp R))
    (I := fun m _ => ∀ i, i < m → R 4 (61 * u + (a 5 (2 * i)).toNatClampNeg) = a 5 (2 * i + 1))
    (G := fun r => r = some (.inl (some (.int (sp_bl (sp_ns a nm (fun n => R 4 (61 * u + n)))))), (sw h (some 49) F (s, a, w) p q z T x ru im tp R))) ?_ ?_ nm 0 () (by omega) (fun t ht => absurd ht (by omega))
  · rw [Nat.mul_zero, nI_0] at key
    simp only [cr_44, eb_44_0, jx_ns_r, jx_ns_n, jx_ns_q, jx_ns_i, jx_gl_0, jx_gl_s, if_true, if_false, ite_true, ite_false, eq_self, Bool.false_eq_true, List.length_cons, List.length_nil, Nat.zero_le, Nat.reduceAdd, Nat.reduceSub, Nat.reduceLeDiff, Nat.reduceLT, Nat.reduceEqDiff, Int.reduceToNat, reduceIte, xe_iconst, xi_0, xx_0, xe_istore, xe_goto_w, xk_iload, jx_iv_i, ak_I, xi_2, xx_2, xe_aload, jx_rv_r, jx_rv_n, jx_rv_q, xk_getf, jx_gf_i, jx_ov_s, ak_V, xe_imul, xe_icmp_ge, xk_iald, ja_ia, ak_A, true_or, or_true, xe_inv2, jx_cc_i, jx_cc_v, Nat.reduceMod, Nat.reduceDiv, jx_cl9_i, xi_1, xx_1, xe_iadd, xe_icmp_eq, xe_zreturn, xZ, xk_iinc, ak_C, xe_goto, jx_s1, List.set_cons_zero, List.set_cons_succ, jx_2_i, jx_2_l, jx_2_r, jx_2_n, jx_2_u, jx_2_s, jx_2_q, jx_k_i, jx_k_l, jx_k_r, jx_k_n, jx_k_u, jx_k_s, jx_k_q]
    exact key
  · intro m _ hm hI
    have h3 : ¬ nI (2 * nm) ≤ nI (2 * m) := nI_ge (by omega) (by omega)
    have i1 := sp_ix (show 2 * m < 20 by omega) (by decide)
    have i2 := sp_ix (show 2 * m + 1 < 20 by omega) (by decide)
    obtain ⟨n, hn, e5⟩ := hN m hm
    have hh := fun (d : Nat) => sp_heldBy (d := d) (h := h) (cu := some 49) (F := F) (o := (s, a, w)) (p := p) (q := q) (z := z) (T := T) (x := x) (ru := ru) (im := im) (tp := tp) (R := R) hu hn
    have c5 : (a 5 (2 * m)).toNatClampNeg = n := by rw [e5, nI_clamp (by omega)]
    by_cases r1 : R 4 (61 * u + n) = a 5 (2 * m + 1)
    · refine .inr ⟨(), fun k hk => ?_, ?_⟩
      · rcases (show k < m ∨ k = m by omega) with r | r
        · exact hI k r
        · subst r; rw [c5]; exact r1
      · have n2 : nI (2 * m) + 2 = nI (2 * (m + 1)) := nI_ad (j := 2)
        rw [eb_44_2]
        simp only [eb_44_45, jx_ns_r, jx_ns_n, jx_ns_q, jx_ns_i, jx_gl_0, jx_gl_s, if_true, if_false, ite_true, ite_false, eq_self, Bool.false_eq_true, List.length_cons, List.length_nil, Nat.zero_le, Nat.reduceAdd, Nat.reduceSub, Nat.reduceLeDiff, Nat.reduceLT, Nat.reduceEqDiff, Int.reduceToNat, reduceIte, xe_iconst, xi_0, xx_0, xe_istore, xe_goto_w, xk_iload, jx_iv_i, ak_I, xi_2, xx_2, xe_aload, jx_rv_r, jx_rv_n, jx_rv_q, xk_getf, jx_gf_i, jx_ov_s, ak_V, xe_imul, xe_icmp_ge, xk_iald, ja_ia, ak_A, true_or, or_true, xe_inv2, jx_cc_i, jx_cc_v, Nat.reduceMod, Nat.reduceDiv, jx_cl9_i, xi_1, xx_1, xe_iadd, xe_icmp_eq, xe_zreturn, xZ, xk_iinc, ak_C, xe_goto, jx_s1, List.set_cons_zero, List.set_cons_succ, jx_2_i, jx_2_l, jx_2_r, jx_2_n, jx_2_u, jx_2_s, jx_2_q, jx_k_i, jx_k_l, jx_k_r, jx_k_n, jx_k_u, jx_k_s, jx_k_q, sw_r, sw_f, sw_s, sw_wo, sw_ro, sw_rp, sw_woo, sw_wor, sw_wpo, sw_wpr, cq_f, cq_s, va_up_s, va_rf_s, va_rf_n, e4, m2, h3, i1, i2, e5, hh, r1, nI_1, n2]
    · refine .inl ?_
      rw [sp_bl_f (show ¬ sp_ns a nm (fun n => R 4 (61 * u + n)) from fun c => r1 (by have := c m hm; rw [c5] at this; exact this))]
      simp only [eb_44_2, jx_ns_r, jx_ns_n, jx_ns_q, jx_ns_i, jx_gl_0, jx_gl_s, if_true, if_false, ite_true, ite_false, eq_self, Bool.false_eq_true, List.length_cons, List.length_nil, Nat.zero_le, Nat.reduceAdd, Nat.reduceSub, Nat.reduceLeDiff, Nat.reduceLT, Nat.reduceEqDiff, Int.reduceToNat, reduceIte, xe_iconst, xi_0, xx_0, xe_istore, xe_goto_w, xk_iload, jx_iv_i, ak_I, xi_2, xx_2, xe_aload, jx_rv_r, jx_rv_n, jx_rv_q, xk_getf, jx_gf_i, jx_ov_s, ak_V, xe_imul, xe_icmp_ge, xk_iald, ja_ia, ak_A, true_or, or_true, xe_inv2, jx_cc_i, jx_cc_v, Nat.reduceMod, Nat.reduceDiv, jx_cl9_i, xi_1, xx_1, xe_iadd, xe_icmp_eq, xe_zreturn, xZ, xk_iinc, ak_C, xe_goto, jx_s1, List.set_cons_zero, List.set_cons_succ, jx_2_i, jx_2_l, jx_2_r, jx_2_n, jx_2_u, jx_2_s, jx_2_q, jx_k_i, jx_k_l, jx_k_r, jx_k_n, jx_k_u, jx_k_s, jx_k_q, sw_r, sw_f, sw_s, sw_wo, sw_ro, sw_rp, sw_woo, sw_wor, sw_wpo, sw_wpr, cq_f, cq_s, va_up_s, va_rf_s, va_rf_n, e4, m2, h3, i1, i2, e5, hh, r1, nI_1]
  · intro _ hI
    have h3 : nI (2 * nm) ≤ nI (2 * nm) := (nI_leI (by omega) (by omega)).mpr (Nat.le_refl _)
    rw [sp_bl_t (show sp_ns a nm (fun n => R 4 (61 * u + n)) from hI)]
    simp only [eb_44_2, eb_44_51, jx_ns_r, jx_ns_n, jx_ns_q, jx_ns_i, jx_gl_0, jx_gl_s, if_true, if_false, ite_true, ite_false, eq_self, Bool.false_eq_true, List.length_cons, List.length_nil, Nat.zero_le, Nat.reduceAdd, Nat.reduceSub, Nat.reduceLeDiff, Nat.reduceLT, Nat.reduceEqDiff, Int.reduceToNat, reduceIte, xe_iconst, xi_0, xx_0, xe_istore, xe_goto_w, xk_iload, jx_iv_i, ak_I, xi_2, xx_2, xe_aload, jx_rv_r, jx_rv_n, jx_rv_q, xk_getf, jx_gf_i, jx_ov_s, ak_V, xe_imul, xe_icmp_ge, xk_iald, ja_ia, ak_A, true_or, or_true, xe_inv2, jx_cc_i, jx_cc_v, Nat.reduceMod, Nat.reduceDiv, jx_cl9_i, xi_1, xx_1, xe_iadd, xe_icmp_eq, xe_zreturn, xZ, xk_iinc, ak_C, xe_goto, jx_s1, List.set_cons_zero, List.set_cons_succ, jx_2_i, jx_2_l, jx_2_r, jx_2_n, jx_2_u, jx_2_s, jx_2_q, jx_k_i, jx_k_l, jx_k_r, jx_k_n, jx_k_u, jx_k_s, jx_k_q, sw_r, sw_f, sw_s, sw_wo, sw_ro, sw_rp, sw_woo, sw_wor, sw_wpo, sw_wpr, cq_f, cq_s, va_up_s, va_rf_s, va_rf_n, e4, m2, h3]
/-- the law k: its reference -/
theorem sp_lk_ok (hR : sp_rs D h ru Lr rm) {k : Nat} (hk : k ≤ rm) : ∃ lo, sp_lw D h lo (sp_lk Lr k) ∧ (k = 0 → lo = none) ∧ (0 < k → ∃ r, 3 ≤ r ∧ ru (k - 1) = some r ∧ lo = some r) := by
  rcases Nat.eq_zero_or_pos k with r | r
  · subst r; exact ⟨none, trivial, fun _ => rfl, fun r => absurd r (by omega)⟩
  · obtain ⟨q, e, hq⟩ := hR.2 (k - 1) (by omega)
    refine ⟨some q, ?_, fun r2 => absurd r2 (by omega), fun _ => ⟨q, by have := hq.1; omega, e, rfl⟩⟩
    rw [sp_lk, if_neg (by omega)]
    exact hq
/-- hours under the law u -/
theorem sp_gr1 (iv : cq_iv s a day tm pm now) (hR : sp_rs (D + 2) h ru Lr rm) (hu : u ≤ rm) (hb : sp_bs tm pm day s ps a pa) :
    ∃ g : cq_C, sp_bs tm pm day s g.1 a g.2.1 ∧ jx_eb (d + D + 6) 45 31 [.ref 48, .int (nI u), .int 0] [] (sw h (some 49) F (s, a, w) (cq_bgs ps, cq_bgn pa, pw) q z T x ru im tp (va_up R 4 (cq_fl (61 * u) (sp_h4 (sp_hk Lr s a)) (R 4)))) = jx_eb (d + D + 6) 45 85 [.ref 48, .int (nI u), .int (nI 61)] [] (sw h (some 49) F (s, a, w) g q z T x ru im tp (va_up R 4 (cq_fl (61 * (u + 1)) (sp_h4 (sp_hk Lr s a)) (R 4)))) := by
  have t6 := iv.2.2.2.2.1; have p6 := iv.2.2.2.2.2.2.1; have es := iv.2.2.2.2.2.1; have et := iv.2.2.2.1; have d12 := iv.2.2.1; have d1 := iv.2.1
  have rm6 := hR.1
  obtain ⟨lo, hL, hl0, hl1⟩ := sp_lk_ok hR hu
  have ce := sp_bs_bg t6 p6 hb
  have iv1 := cq_iv_bg iv
  have iv2 := cq_iv_c iv1 ce
  have key := jx_lp (d := d + D + 6) (y := 45) (L := 31) (n := 61) (γ := Nat → Int64) (ls := fun m _ => [.ref 48, .int (nI u), .int (nI m)]) (H := fun m g => sw h (some 49) F (s, a, w) ((cq_gn (sp_lk Lr u) m (cq_bgs ps, cq_bgn pa)).1, (cq_gn (sp_lk Lr u) m (cq_bgs ps, cq_bgn pa)).2, g) q z T x ru im tp (va_up R 4 (cq_fl (61 * u + m) (sp_h4 (sp_hk Lr s a)) (R 4))))
    (I := fun _ _ => True)
    (G := fun r => ∃ g : Nat → Int64, r = jx_eb (d + D + 6) 45 85 [.ref 48, .int (nI u), .int (nI 61)] [] (sw h (some 49) F (s, a, w) ((cq_gn (sp_lk Lr u) 61 (cq_bgs ps, cq_bgn pa)).1, (cq_gn (sp_lk Lr u) 61 (cq_bgs ps, cq_bgn pa)).2, g) q z T x ru im tp (va_up R 4 (cq_fl (61 * u + 61) (sp_h4 (sp_hk Lr s a)) (R 4))))) ?_ ?_ 61 0 pw (by omega) trivial
  · obtain ⟨g, e⟩ := key
    refine ⟨((cq_gn (sp_lk Lr u) 61 (cq_bgs ps, cq_bgn pa)).1, (cq_gn (sp_lk Lr u) 61 (cq_bgs ps, cq_bgn pa)).2, g), sp_bs_gn (sp_bs_b2 hb), ?_⟩
    rw [nI_0, Nat.add_zero] at e
    exact e
  · rintro m g hm -
    have h3 : ¬ (60 : Int32) < nI m := nI_nlt (b := m) (a := 60) (by omega) (by omega)
    have i1 := sp_ix (show 61 * u + m < 427 by omega) (by decide)
    have ea : 61 * u + m + 1 = 61 * u + (m + 1) := by omega
    obtain ⟨w1, e1⟩ := sp_hour (d := d + 1) (cu := some 49) (F := F) (o := (s, a, w)) (q := q) (z := z) (T := T) (x := x) (ru := ru) (im := im) (tp := tp) (R := va_up R 4 (cq_fl (61 * u + m) (sp_h4 (sp_hk Lr s a)) (R 4))) (pw := g) (cq_iv_gn (n := m) (Lo := sp_lk Lr u) iv2 (by omega)) (by omega) hL
    rw [show d + 1 + D + 5 = d + D + 6 by omega] at e1
    have e8 : sp_h4 (sp_hk Lr s a) (61 * u + m) = (cq_go (sp_lk Lr u) ((cq_gn (sp_lk Lr u) m (cq_bgs ps, cq_bgn pa)).1, (cq_gn (sp_lk Lr u) m (cq_bgs ps, cq_bgn pa)).2)).1 8 :=
      (sp_h4_e hm).trans ((cq_gn_c (n := m + 1) (Lo := sp_lk Lr u) iv1 (by omega) ce).1 8 (by decide) (by decide) (by decide) (by decide))
    have eR : ∀ f g : Nat → Int32, va_up (va_up R 4 g) 4 f = va_up R 4 f := by
      intro f g
      funext j
      simp only [va_up]
      by_cases j1 : j = 4
      · rw [if_pos j1, if_pos j1]
      · rw [if_neg j1, if_neg j1, if_neg j1]
    refine .inr ⟨w1, trivial, ?_⟩
    rw [eb_45_31]
    rcases Nat.eq_zero_or_pos u with r | r
    · have hl := hl0 r
      have u0 : nI u = 0 := by rw [r]; rfl
      subst hl
      rw [va_rf_n] at e1
      simp only [eb_45_57, jx_ns_r, jx_ns_n, jx_ns_q, jx_ns_i, jx_gl_0, jx_gl_s, if_true, if_false, ite_true, ite_false, eq_self, Bool.false_eq_true, List.length_cons, List.length_nil, Nat.zero_le, Nat.reduceAdd, Nat.reduceSub, Nat.reduceLeDiff, Nat.reduceLT, Nat.reduceEqDiff, Int.reduceToNat, reduceIte, xe_aload, jx_rv_r, jx_rv_n, jx_rv_q, xk_getf, jx_gf_i, jx_ov_s, ak_V, xe_inv1, jx_cc_i, jx_cc_v, Nat.reduceMod, Nat.reduceDiv, jx_cl9_i, xe_pop, jx_2_i, jx_2_l, jx_2_r, jx_2_n, jx_2_q, or_self, xe_iconst, xi_0, xx_0, xe_istore, xe_goto_w, xk_iload, jx_iv_i, ak_I, xe_icmp_gt, xe_inv0, xi_60, xe_ifne, xe_null, xe_goto, xi_1, xx_1, xe_isub, xk_qald, ja_qa, ak_A, ak_Q, true_or, or_true, and_self, and_true, true_and, xi_61, xe_imul, xe_iadd, xk_iast, ja_is, ak_S, ak_P, xk_iinc, ak_C, xk_bast, ja_bsb, ja_bsz, xe_return, jx_s1, List.set_cons_zero, List.set_cons_succ, jx_2_u, jx_2_s, jx_k_i, jx_k_l, jx_k_r, jx_k_n, jx_k_u, jx_k_s, jx_k_q, sw_r, sw_f, sw_s, sw_wo, sw_ro, sw_rp, sw_woo, sw_wor, sw_wpo, sw_wpr, cq_f, cq_s, va_up_s, va_rf_s, va_rf_n, sw_wR, h3, u0, e1]
      rw [← u0]
      simp only [jx_ns_r, jx_ns_n, jx_ns_q, jx_ns_i, jx_gl_0, jx_gl_s, if_true, if_false, ite_true, ite_false, eq_self, Bool.false_eq_true, List.length_cons, List.length_nil, Nat.zero_le, Nat.reduceAdd, Nat.reduceSub, Nat.reduceLeDiff, Nat.reduceLT, Nat.reduceEqDiff, Int.reduceToNat, reduceIte, xe_aload, jx_rv_r, jx_rv_n, jx_rv_q, xk_getf, jx_gf_i, jx_ov_s, ak_V, xe_inv1, jx_cc_i, jx_cc_v, Nat.reduceMod, Nat.reduceDiv, jx_cl9_i, xe_pop, jx_2_i, jx_2_l, jx_2_r, jx_2_n, jx_2_q, or_self, xe_iconst, xi_0, xx_0, xe_istore, xe_goto_w, xk_iload, jx_iv_i, ak_I, xe_icmp_gt, xe_inv0, xi_60, xe_ifne, xe_null, xe_goto, xi_1, xx_1, xe_isub, xk_qald, ja_qa, ak_A, ak_Q, true_or, or_true, and_self, and_true, true_and, xi_61, xe_imul, xe_iadd, xk_iast, ja_is, ak_S, ak_P, xk_iinc, ak_C, xk_bast, ja_bsb, ja_bsz, xe_return, jx_s1, List.set_cons_zero, List.set_cons_succ, jx_2_u, jx_2_s, jx_k_i, jx_k_l, jx_k_r, jx_k_n, jx_k_u, jx_k_s, jx_k_q, sw_r, sw_f, sw_s, sw_wo, sw_ro, sw_rp, sw_woo, sw_wor, sw_wpo, sw_wpr, cq_f, cq_s, va_up_s, va_rf_s, va_rf_n, sw_wR, sp_m61, i1, ← e8, eR, cq_fl_s, nI_1, ea]
      rfl
    · obtain ⟨q0, hq3, eq0, hl⟩ := hl1 r
      subst hl
      rw [va_rf_s] at e1
      have u0 : ¬ nI u = 0 := nI_ne0 r (by omega)
      have eu : nI u - 1 = nI (u - 1) := by
        have := nI_pred (u - 1)
        rwa [Nat.sub_add_cancel r] at this
      have i2 := sp_ix (show u - 1 < 6 by omega) (by decide)
      simp only [eb_45_49, eb_45_57, jx_ns_r, jx_ns_n, jx_ns_q, jx_ns_i, jx_gl_0, jx_gl_s, if_true, if_false, ite_true, ite_false, eq_self, Bool.false_eq_true, List.length_cons, List.length_nil, Nat.zero_le, Nat.reduceAdd, Nat.reduceSub, Nat.reduceLeDiff, Nat.reduceLT, Nat.reduceEqDiff, Int.reduceToNat, reduceIte, xe_aload, jx_rv_r, jx_rv_n, jx_rv_q, xk_getf, jx_gf_i, jx_ov_s, ak_V, xe_inv1, jx_cc_i, jx_cc_v, Nat.reduceMod, Nat.reduceDiv, jx_cl9_i, xe_pop, jx_2_i, jx_2_l, jx_2_r, jx_2_n, jx_2_q, or_self, xe_iconst, xi_0, xx_0, xe_istore, xe_goto_w, xk_iload, jx_iv_i, ak_I, xe_icmp_gt, xe_inv0, xi_60, xe_ifne, xe_null, xe_goto, xi_1, xx_1, xe_isub, xk_qald, ja_qa, ak_A, ak_Q, true_or, or_true, and_self, and_true, true_and, xi_61, xe_imul, xe_iadd, xk_iast, ja_is, ak_S, ak_P, xk_iinc, ak_C, xk_bast, ja_bsb, ja_bsz, xe_return, jx_s1, List.set_cons_zero, List.set_cons_succ, jx_2_u, jx_2_s, jx_k_i, jx_k_l, jx_k_r, jx_k_n, jx_k_u, jx_k_s, jx_k_q, sw_r, sw_f, sw_s, sw_wo, sw_ro, sw_rp, sw_woo, sw_wor, sw_wpo, sw_wpr, cq_f, cq_s, va_up_s, va_rf_s, va_rf_n, sw_wR, h3, u0, eu, i2, eq0, e1, sp_m61, i1, ← e8, eR, cq_fl_s, nI_1, ea]
      rfl
  · rintro g -
    have h3 : (60 : Int32) < nI 61 := by decide
    exact ⟨g, by simp only [eb_45_31, jx_ns_r, jx_ns_n, jx_ns_q, jx_ns_i, jx_gl_0, jx_gl_s, if_true, if_false, ite_true, ite_false, eq_self, Bool.false_eq_true, List.length_cons, List.length_nil, Nat.zero_le, Nat.reduceAdd, Nat.reduceSub, Nat.reduceLeDiff, Nat.reduceLT, Nat.reduceEqDiff, Int.reduceToNat, reduceIte, xe_aload, jx_rv_r, jx_rv_n, jx_rv_q, xk_getf, jx_gf_i, jx_ov_s, ak_V, xe_inv1, jx_cc_i, jx_cc_v, Nat.reduceMod, Nat.reduceDiv, jx_cl9_i, xe_pop, jx_2_i, jx_2_l, jx_2_r, jx_2_n, jx_2_q, or_self, xe_iconst, xi_0, xx_0, xe_istore, xe_goto_w, xk_iload, jx_iv_i, ak_I, xe_icmp_gt, xe_inv0, xi_60, xe_ifne, xe_null, xe_goto, xi_1, xx_1, xe_isub, xk_qald, ja_qa, ak_A, ak_Q, true_or, or_true, and_self, and_true, true_and, xi_61, xe_imul, xe_iadd, xk_iast, ja_is, ak_S, ak_P, xk_iinc, ak_C, xk_bast, ja_bsb, ja_bsz, xe_return, jx_s1, List.set_cons_zero, List.set_cons_succ, jx_2_u, jx_2_s, jx_k_i, jx_k_l, jx_k_r, jx_k_n, jx_k_u, jx_k_s, jx_k_q, h3]⟩
theorem sp_gathers (iv : cq_iv s a day tm pm now) (hN : sp_nt s a nm) (hR : sp_rs (D + 2) h ru Lr rm) (eF : F 14 = nI rm) :
    ∃ p' R', (∀ k, k ≤ rm → R' 3 k = sp_bl (sp_fit Lr s a nm k = true)) ∧ (∀ k n, k ≤ rm → n ≤ 60 → R' 4 (61 * k + n) = sp_hk Lr s a k n) ∧ jx_cr (d + D + 7) 45 [.ref 48] (sw h (some 49) F (s, a, w) (ps, pa, pw) q z T x ru im tp R) = some (.inl none, sw h (some 49) F (s, a, w) p' q z T x ru im tp R') := by
  have t6 := iv.2.2.2.2.1; have p6 := iv.2.2.2.2.2.2.1; have es := iv.2.2.2.2.2.1; have et := iv.2.2.2.1; have d12 := iv.2.2.1; have d1 := iv.2.1
  have rm6 := hR.1
  have key := jx_lp (d := d + D + 6) (y := 45) (L := 14) (n := rm + 1) (γ := cq_C × Value) (ls := fun m g => [.ref 48, .int (nI m), g.2]) (H := fun m g => sw h (some 49) F (s, a, w) g.1 q z T x ru im tp (va_up (va_up R 4 (cq_fl (61 * m) (sp_h4 (sp_hk Lr s a)) (R 4))) 3 (cq_fl m (fun k => sp_bl (sp_fit Lr s a nm k = true)) (R 3))))
    (I := fun m g => sp_bs tm pm day s g.1.1 a g.1.2.1 ∧ (g.2 = jx_un ∨ ∃ v, g.2 = .int v))
    (G := fun r => ∃ g : cq_C, r = some (.inl none, sw h (some 49) F (s, a, w) g q z T x ru im tp (va_up (va_up R 4 (cq_fl (61 * (rm + 1)) (sp_h4 (sp_hk Lr s a)) (R 4))) 3 (cq_fl (rm + 1) (fun k => sp_bl (sp_fit Lr s a nm k = true)) (R 3))))) ?_ ?_ (rm + 1) 0 ((s, sp_cp a pa, pw), jx_un) (by omega) ⟨sp_bs_cp t6 p6 d12, .inl rfl⟩
  · obtain ⟨g, e⟩ := key
    refine ⟨g, (va_up (va_up R 4 (cq_fl (61 * (rm + 1)) (sp_h4 (sp_hk Lr s a)) (R 4))) 3 (cq_fl (rm + 1) (fun k => sp_bl (sp_fit Lr s a nm k = true)) (R 3))), fun k hk => ?_, fun k n hk hn => ?_, ?_⟩
    · show cq_fl (rm + 1) (fun k => sp_bl (sp_fit Lr s a nm k = true)) (R 3) k = _
      exact cq_fl_lt (show k < rm + 1 by omega)
    · show va_up (va_up R 4 _) 3 _ 4 (61 * k + n) = _
      simp only [va_up, reduceIte, Nat.reduceEqDiff]
      rw [cq_fl_lt (by omega), sp_h4_e (by omega)]
    · have eR : va_up (va_up R 4 (R 4)) 3 (R 3) = R := by
        funext j
        simp only [va_up]
        by_cases j1 : j = 3
        · subst j1; rfl
        · rw [if_neg j1]
          by_cases j2 : j = 4
          · subst j2; rfl
          · rw [if_neg j2]
      simp only [Nat.mul_zero, cq_fl_0, eR, nI_0] at e
      simp only [cr_45, eb_45_0, jx_ns_r, jx_ns_n, jx_ns_q, jx_ns_i, jx_gl_0, jx_gl_s, if_true, if_false, ite_true, ite_false, eq_self, Bool.false_eq_true, List.length_cons, List.length_nil, Nat.zero_le, Nat.reduceAdd, Nat.reduceSub, Nat.reduceLeDiff, Nat.reduceLT, Nat.reduceEqDiff, Int.reduceToNat, reduceIte, xe_aload, jx_rv_r, jx_rv_n, jx_rv_q, xk_getf, jx_gf_i, jx_ov_s, ak_V, xe_inv1, jx_cc_i, jx_cc_v, Nat.reduceMod, Nat.reduceDiv, jx_cl9_i, xe_pop, jx_2_i, jx_2_l, jx_2_r, jx_2_n, jx_2_q, or_self, xe_iconst, xi_0, xx_0, xe_istore, xe_goto_w, xk_iload, jx_iv_i, ak_I, xe_icmp_gt, xe_inv0, xi_60, xe_ifne, xe_null, xe_goto, xi_1, xx_1, xe_isub, xk_qald, ja_qa, ak_A, ak_Q, true_or, or_true, and_self, and_true, true_and, xi_61, xe_imul, xe_iadd, xk_iast, ja_is, ak_S, ak_P, xk_iinc, ak_C, xk_bast, ja_bsb, ja_bsz, xe_return, jx_s1, List.set_cons_zero, List.set_cons_succ, jx_2_u, jx_2_s, jx_k_i, jx_k_l, jx_k_r, jx_k_n, jx_k_u, jx_k_s, jx_k_q, sw_r, sw_f, sw_s, sw_wo, sw_ro, sw_rp, sw_woo, sw_wor, sw_wpo, sw_wpr, cq_f, cq_s, va_up_s, va_rf_s, va_rf_n, sp_copy]
      exact e
  · rintro m ⟨⟨ps, pa, pw⟩, v⟩ hm ⟨hb, hv⟩
    have h3 : ¬ nI rm < nI m := nI_nlt (by omega) (by omega)
    have i1 := sp_ix (show m < 7 by omega) (by decide)
    obtain ⟨g, hg, e1⟩ := sp_gr1 (d := d) (F := F) (w := w) (q := q) (z := z) (T := T) (x := x) (im := im) (tp := tp) (R := va_up R 3 (cq_fl m (fun k => sp_bl (sp_fit Lr s a nm k = true)) (R 3))) (pw := pw) iv hR (show m ≤ rm by omega) hb
    have eR : ∀ f g : Nat → Int32, va_up (va_up R 4 g) 3 f = va_up (va_up R 3 f) 4 g := by
      intro f g
      funext j
      simp only [va_up]
      by_cases j1 : j = 3
      · subst j1; rfl
      · rw [if_neg j1, if_neg j1]
    have eR4 : va_up R 3 (cq_fl m (fun k => sp_bl (sp_fit Lr s a nm k = true)) (R 3)) 4 = R 4 := rfl
    rw [eR4] at e1
    have eN : sp_ns a nm (fun n => cq_fl (61 * (m + 1)) (sp_h4 (sp_hk Lr s a)) (R 4) (61 * m + n)) ↔ sp_fit Lr s a nm m = true := by
      unfold sp_fit
      rw [dc_iff]
      unfold sp_ns
      refine forall_congr' fun i => forall_congr' fun hi => ?_
      obtain ⟨n, hn, e5⟩ := hN.2.2 i hi
      show (cq_fl (61 * (m + 1)) (sp_h4 (sp_hk Lr s a)) (R 4) (61 * m + (a 5 (2 * i)).toNatClampNeg) = a 5 (2 * i + 1)) ↔ (sp_hk Lr s a m (a 5 (2 * i)).toNatClampNeg = a 5 (2 * i + 1))
      rw [e5, nI_clamp (by omega), cq_fl_lt (by omega), sp_h4_e (by omega)]
    have hn := fun (d : Nat) => sp_notesSo (d := d) (h := h) (F := F) (s := s) (a := a) (w := w) (p := g) (q := q) (z := z) (T := T) (x := x) (ru := ru) (im := im) (tp := tp) (R := va_up (va_up R 3 (cq_fl m (fun k => sp_bl (sp_fit Lr s a nm k = true)) (R 3))) 4 (cq_fl (61 * (m + 1)) (sp_h4 (sp_hk Lr s a)) (R 4))) (u := m) (by omega) hN
    have hn2 : ∀ d, jx_cr (d + 2) 44 [.ref 48, .int (nI m)] (sw h (some 49) F (s, a, w) g q z T x ru im tp (va_up (va_up R 3 (cq_fl m (fun k => sp_bl (sp_fit Lr s a nm k = true)) (R 3))) 4 (cq_fl (61 * (m + 1)) (sp_h4 (sp_hk Lr s a)) (R 4)))) = some (.inl (some (.int (sp_bl (sp_fit Lr s a nm m = true)))), (sw h (some 49) F (s, a, w) g q z T x ru im tp (va_up (va_up R 3 (cq_fl m (fun k => sp_bl (sp_fit Lr s a nm k = true)) (R 3))) 4 (cq_fl (61 * (m + 1)) (sp_h4 (sp_hk Lr s a)) (R 4))))) := fun d => by
      rw [hn d]
      refine congrArg (fun z => some (Sum.inl (some (Value.int z)), _)) ?_
      show sp_bl (sp_ns a nm fun n => cq_fl (61 * (m + 1)) (sp_h4 (sp_hk Lr s a)) (R 4) (61 * m + n)) = _
      by_cases r : sp_fit Lr s a nm m = true
      · rw [sp_bl_t r, sp_bl_t (eN.mpr r)]
      · rw [sp_bl_f r, sp_bl_f (fun c => r (eN.mp c))]
    refine .inr ⟨(g, .int (nI 61)), ⟨hg, .inr ⟨_, rfl⟩⟩, ?_⟩
    have eZ : ∀ f g h : Nat → Int32, va_up (va_up (va_up R 3 f) 4 h) 3 g = va_up (va_up R 3 g) 4 h := by
      intro f g h
      funext j
      simp only [va_up]
      by_cases j1 : j = 3
      · subst j1; rfl
      · rw [if_neg j1, if_neg j1, if_neg j1]
    have eF3 : upd (cq_fl m (fun k => sp_bl (sp_fit Lr s a nm k = true)) (R 3)) m (sp_bl (sp_fit Lr s a nm m = true)) = cq_fl (m + 1) (fun k => sp_bl (sp_fit Lr s a nm k = true)) (R 3) := cq_fl_s
    have tail : jx_eb (d + D + 6) 45 85 [.ref 48, .int (nI m), .int (nI 61)] [] (sw h (some 49) F (s, a, w) g q z T x ru im tp (va_up (va_up R 3 (cq_fl m (fun k => sp_bl (sp_fit Lr s a nm k = true)) (R 3))) 4 (cq_fl (61 * (m + 1)) (sp_h4 (sp_hk Lr s a)) (R 4)))) = jx_eb (d + D + 6) 45 14 [.ref 48, .int (nI (m + 1)), .int (nI 61)] [] (sw h (some 49) F (s, a, w) g q z T x ru im tp (va_up (va_up R 3 (cq_fl (m + 1) (fun k => sp_bl (sp_fit Lr s a nm k = true)) (R 3))) 4 (cq_fl (61 * (m + 1)) (sp_h4 (sp_hk Lr s a)) (R 4)))) := by
      simp only [eb_45_85, jx_ns_r, jx_ns_n, jx_ns_q, jx_ns_i, jx_gl_0, jx_gl_s, if_true, if_false, ite_true, ite_false, eq_self, Bool.false_eq_true, List.length_cons, List.length_nil, Nat.zero_le, Nat.reduceAdd, Nat.reduceSub, Nat.reduceLeDiff, Nat.reduceLT, Nat.reduceEqDiff, Int.reduceToNat, reduceIte, xe_aload, jx_rv_r, jx_rv_n, jx_rv_q, xk_getf, jx_gf_i, jx_ov_s, ak_V, xe_inv1, jx_cc_i, jx_cc_v, Nat.reduceMod, Nat.reduceDiv, jx_cl9_i, xe_pop, jx_2_i, jx_2_l, jx_2_r, jx_2_n, jx_2_q, or_self, xe_iconst, xi_0, xx_0, xe_istore, xe_goto_w, xk_iload, jx_iv_i, ak_I, xe_icmp_gt, xe_inv0, xi_60, xe_ifne, xe_null, xe_goto, xi_1, xx_1, xe_isub, xk_qald, ja_qa, ak_A, ak_Q, true_or, or_true, and_self, and_true, true_and, xi_61, xe_imul, xe_iadd, xk_iast, ja_is, ak_S, ak_P, xk_iinc, ak_C, xk_bast, ja_bsb, ja_bsz, xe_return, jx_s1, List.set_cons_zero, List.set_cons_succ, jx_2_u, jx_2_s, jx_k_i, jx_k_l, jx_k_r, jx_k_n, jx_k_u, jx_k_s, jx_k_q, sw_r, sw_f, sw_s, sw_wo, sw_ro, sw_rp, sw_woo, sw_wor, sw_wpo, sw_wpr, cq_f, cq_s, va_up_s, va_rf_s, va_rf_n, sw_wR, i1, hn2, sp_bl_01, nI_1, reduceIte, Nat.reduceEqDiff, eZ, eF3]
    rw [eR, eR, eb_45_14]
    rcases hv with hv | ⟨v', hv⟩ <;> simp only at hv <;> subst hv <;> simp only [jx_ns_r, jx_ns_n, jx_ns_q, jx_ns_i, jx_gl_0, jx_gl_s, if_true, if_false, ite_true, ite_false, eq_self, Bool.false_eq_true, List.length_cons, List.length_nil, Nat.zero_le, Nat.reduceAdd, Nat.reduceSub, Nat.reduceLeDiff, Nat.reduceLT, Nat.reduceEqDiff, Int.reduceToNat, reduceIte, xe_aload, jx_rv_r, jx_rv_n, jx_rv_q, xk_getf, jx_gf_i, jx_ov_s, ak_V, xe_inv1, jx_cc_i, jx_cc_v, Nat.reduceMod, Nat.reduceDiv, jx_cl9_i, xe_pop, jx_2_i, jx_2_l, jx_2_r, jx_2_n, jx_2_q, or_self, xe_iconst, xi_0, xx_0, xe_istore, xe_goto_w, xk_iload, jx_iv_i, ak_I, xe_icmp_gt, xe_inv0, xi_60, xe_ifne, xe_null, xe_goto, xi_1, xx_1, xe_isub, xk_qald, ja_qa, ak_A, ak_Q, true_or, or_true, and_self, and_true, true_and, xi_61, xe_imul, xe_iadd, xk_iast, ja_is, ak_S, ak_P, xk_iinc, ak_C, xk_bast, ja_bsb, ja_bsz, xe_return, jx_s1, List.set_cons_zero, List.set_cons_succ, jx_2_u, jx_2_s, jx_k_i, jx_k_l, jx_k_r, jx_k_n, jx_k_u, jx_k_s, jx_k_q, sw_r, sw_f, sw_s, sw_wo, sw_ro, sw_rp, sw_woo, sw_wor, sw_wpo, sw_wpr, cq_f, cq_s, va_up_s, va_rf_s, va_rf_n, eF, h3, sp_begins, e1, tail]
  · rintro ⟨⟨ps, pa, pw⟩, v⟩ ⟨hb, hv⟩
    have h3 : nI rm < nI (rm + 1) := nI_lt (by omega) (by omega)
    exact ⟨(ps, pa, pw), by simp only [eb_45_14, eb_45_102, jx_ns_r, jx_ns_n, jx_ns_q, jx_ns_i, jx_gl_0, jx_gl_s, if_true, if_false, ite_true, ite_false, eq_self, Bool.false_eq_true, List.length_cons, List.length_nil, Nat.zero_le, Nat.reduceAdd, Nat.reduceSub, Nat.reduceLeDiff, Nat.reduceLT, Nat.reduceEqDiff, Int.reduceToNat, reduceIte, xe_aload, jx_rv_r, jx_rv_n, jx_rv_q, xk_getf, jx_gf_i, jx_ov_s, ak_V, xe_inv1, jx_cc_i, jx_cc_v, Nat.reduceMod, Nat.reduceDiv, jx_cl9_i, xe_pop, jx_2_i, jx_2_l, jx_2_r, jx_2_n, jx_2_q, or_self, xe_iconst, xi_0, xx_0, xe_istore, xe_goto_w, xk_iload, jx_iv_i, ak_I, xe_icmp_gt, xe_inv0, xi_60, xe_ifne, xe_null, xe_goto, xi_1, xx_1, xe_isub, xk_qald, ja_qa, ak_A, ak_Q, true_or, or_true, and_self, and_true, true_and, xi_61, xe_imul, xe_iadd, xk_iast, ja_is, ak_S, ak_P, xk_iinc, ak_C, xk_bast, ja_bsb, ja_bsz, xe_return, jx_s1, List.set_cons_zero, List.set_cons_succ, jx_2_u, jx_2_s, jx_k_i, jx_k_l, jx_k_r, jx_k_n, jx_k_u, jx_k_s, jx_k_q, sw_r, sw_f, sw_s, sw_wo, sw_ro, sw_rp, sw_woo, sw_wor, sw_wpo, sw_wpr, cq_f, cq_s, va_up_s, va_rf_s, va_rf_n, eF, h3]⟩
end ST
