/-! SpoonCourt: the law in force, hour, slight, tray, gloves, strip -/
set_option maxRecDepth 100000
/-- cells that stay as they are once a rule is made: rules, clauses, values, tests, rows of clauses -/
def jx_fz (x : va_E) : Bool := match x with
  | .inr (ci, _) => ci == 5 || ci == 6 || (decide (8 ≤ ci) && decide (ci ≤ 14))
  | .inl (t, _) => t == 6
def jx_fA (h H : jx_H) : Prop := ∀ j, 151 ≤ j → j < h.2.1 → jx_fz (h.1 j) = true → H.1 j = h.1 j
/-- r is a rule of the heap h (from cell 151 on) and answers L -/
def sp_rule (D : Nat) (h : jx_H) (r : Nat) (L : (Nat → Int64) → Int64) : Prop :=
  (151 ≤ r ∧ r < h.2.1) ∧ (∃ fs, h.1 r = .inr (5, fs)) ∧ (∀ w w', (∀ i, i < 12 → w i = w' i) → L w = L w') ∧ ∀ H : jx_H, jx_fA h H → ∀ d k w, H.1 k = .inl (2, 12, .inr (.inl w)) → jx_cr (d + D) 191 [.ref r, .ref k] H = some (.inl (some (.long (L w))), H)
def sp_lw (D : Nat) (h : jx_H) (lo : Option Nat) (Lo : Option ((Nat → Int64) → Int64)) : Prop :=
  match lo, Lo with
  | none, none => True
  | some r, some L => sp_rule D h r L
  | _, _ => False
/-- lo is the rule in force -/
def sp_lo (F : Nat → Int32) (ru : Nat → Option Nat) (lo : Option Nat) : Prop :=
  match lo with
  | none => F 6 = -1
  | some r => ∃ k, k < 6 ∧ F 6 = nI k ∧ ru k = some r ∧ 3 ≤ r
section SD
variable {d : Nat} {h : jx_H} {cu : Option Nat} {F : Nat → Int32} {o p q z : cq_C} {T : List Value} {x : Int32 × Int32} {ru im : Nat → Option Nat} {tp : Nat → Int32} {R : Nat → Nat → Int32} {s : Nat → Int32} {a : Nat → Nat → Int32} {w : Nat → Int64}
variable {i k : Int32} {t tm pm day um now D : Nat} {lo : Option Nat} {Lo : Option ((Nat → Int64) → Int64)}
theorem sc_law (hl : sp_lo F ru lo) : jx_cr (d + 1) 11 [.ref 48] (sw h cu F o p q z T x ru im tp R) = some (.inl (some (va_rf lo)), (sw h cu F o p q z T x ru im tp R)) := by
  cases lo with
  | none => exact sc_law0 hl
  | some r =>
    obtain ⟨k, h1, h2, h3, h4⟩ := hl
    exact sc_law1 h2 h1 h3 h4
theorem sp_lw_o (hL : sp_lw D h lo Lo) : cq_lw D 49 (sw h cu F o p q z T x ru im tp R) lo Lo := by
  cases lo with
  | none => cases Lo with
    | none => trivial
    | some L => exact hL.elim
  | some r => cases Lo with
    | none => exact hL.elim
    | some L =>
      obtain ⟨h1, ⟨fs, h2⟩, h3, h4⟩ := hL
      refine ⟨by omega, ⟨fs, fun C => ?_⟩, h3, fun d C => ?_⟩
      · rw [sw_o, sw_out (by omega)]; exact h2
      · refine h4 _ (fun j hj _ _ => ?_) d 61 C.2.2 (cq_in (b := 49) (j := 12) (by decide))
        rw [sw_o, sw_out (by omega)]
theorem sp_lw_p (hL : sp_lw D h lo Lo) : cq_lw D 62 (sw h cu F o p q z T x ru im tp R) lo Lo := by
  cases lo with
  | none => cases Lo with
    | none => trivial
    | some L => exact hL.elim
  | some r => cases Lo with
    | none => exact hL.elim
    | some L =>
      obtain ⟨h1, ⟨fs, h2⟩, h3, h4⟩ := hL
      refine ⟨by omega, ⟨fs, fun C => ?_⟩, h3, fun d C => ?_⟩
      · rw [sw_p, sw_out (by omega)]; exact h2
      · refine h4 _ (fun j hj _ _ => ?_) d 74 C.2.2 (cq_in (b := 62) (j := 12) (by decide))
        rw [sw_p, sw_out (by omega)]
theorem sp_iv_k (iv : cq_iv s a day tm pm now) : cq_iv (sp_ks s) (sp_ka s a) day tm pm now := by
  have e : ∀ k, ¬ k = 5 → sp_ks s k = s k := by
    intro k hk
    simp only [sp_ks]
    split
    · rfl
    · simp only [va_up, hk, if_false]
  have e2 : sp_ka s a 1 = a 1 := by
    simp only [sp_ka]
    split <;> rfl
  obtain ⟨e0, d1, d2, e2', t6, e3, p6, e7, h8, h9, hg, hr⟩ := iv
  exact ⟨(e 0 (by decide)).trans e0, d1, d2, (e 2 (by decide)).trans e2', t6, (e 3 (by decide)).trans e3, p6, (e 7 (by decide)).trans e7, (e 8 (by decide)).symm ▸ h8, (e 9 (by decide)).symm ▸ h9, (e 10 (by decide)).symm ▸ hg, e2.symm ▸ hr⟩
theorem sc_hour (hu : um ≤ 20) (eu : s 5 = nI um) (iv : cq_iv s a day tm pm now) (hn : now < 999) (hlo : sp_lo F ru lo) (hL : sp_lw (D + 2) h lo Lo) : ∃ w', jx_cr (d + D + 6) 19 [.ref 48] (sw h (some 49) F (s, a, w) p q z T x ru im tp R) = some (.inl (some (.int (cq_ws (sp_ks s) (sp_ka s a)))), sw h (some 49) F ((cq_go Lo (sp_ks s, sp_ka s a)).1, (cq_go Lo (sp_ks s, sp_ka s a)).2, w') p q z T x ru im tp R) := by
  have e7 := iv.2.2.2.2.2.2.2.1
  have ne : ¬ s 7 = 999 := by
    rw [e7]
    intro r
    have := (nI_eq (by omega) (by omega)).mp (show nI now = nI 999 from r)
    omega
  obtain ⟨w', e⟩ := cq_hour (d := d) (w := w) (sp_iv_k iv) (by omega) (sp_lw_o (o := (sp_ks s, sp_ka s a, w)) (cu := some 49) (F := F) (p := p) (q := q) (z := z) (T := T) (x := x) (ru := ru) (im := im) (tp := tp) (R := R) hL)
  rw [sw_o, sw_o] at e
  have hK := sc_keepsAct (d := d + D + 3) (h := h) (F := F) (s := s) (a := a) (w := w) (p := p) (q := q) (z := z) (T := T) (x := x) (ru := ru) (im := im) (tp := tp) (R := R) hu eu
  refine ⟨w', ?_⟩
  have hl := fun (d : Nat) (o : cq_C) => sc_law (d := d) (h := h) (cu := some 49) (F := F) (o := o) (p := p) (q := q) (z := z) (T := T) (x := x) (ru := ru) (im := im) (tp := tp) (R := R) hlo
  simp only [cr_19, eb_19_0, eb_19_22, jx_ns_r, jx_ns_n, jx_ns_q, jx_ns_i, jx_gl_0, jx_gl_s, if_true, if_false, ite_true, ite_false, eq_self, Bool.false_eq_true, List.length_cons, List.length_nil, Nat.zero_le, Nat.reduceAdd, Nat.reduceSub, Nat.reduceLeDiff, Nat.reduceLT, Nat.reduceEqDiff, Int.reduceToNat, reduceIte, xe_aload, jx_rv_r, jx_rv_n, jx_rv_q, xk_getf, jx_gf_i, jx_ov_s, ak_V, xe_ifnull_n, xe_ifnull_r, xe_iconst, xi_999, xe_icmp_ne, xe_goto_w, xi_m1, xe_ireturn, xe_inv0, jx_cc_i, jx_cc_v, Nat.reduceMod, Nat.reduceDiv, jx_cl9_i, xe_inv1, sw_r, sw_f, sw_s, sw_wo, sw_ro, sw_rp, sw_woo, sw_wor, sw_wpo, sw_wpr, cq_f, cq_s, va_up_s, va_rf_s, va_rf_n, ne, hK, hl, e]
end SD
