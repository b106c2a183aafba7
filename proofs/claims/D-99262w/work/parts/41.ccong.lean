/-! courts alike below their counts behave alike -/
set_option maxRecDepth 100000
def cq_eq (tm pm day : Nat) (s s' : Nat → Int32) (a a' : Nat → Nat → Int32) : Prop :=
  (∀ k, k < 11 → ¬ k = 4 → ¬ k = 5 → ¬ k = 6 → s k = s' k) ∧ (∀ k, k < tm → a 0 k = a' 0 k ∧ a 2 k = a' 2 k ∧ a 6 k = a' 6 k) ∧ (∀ k, k < day → a 1 k = a' 1 k) ∧ ∀ k, k < pm → a 3 k = a' 3 k ∧ a 4 k = a' 4 k ∧ a 7 k = a' 7 k ∧ a 8 k = a' 8 k ∧ a 9 k = a' 9 k
theorem cq_rk_c {T : Int32} {R R' : Nat → Int32} {n : Nat} (e : ∀ k, k < n → R k = R' k) : cq_rk T R n = cq_rk T R' n := by
  induction n with
  | zero => rfl
  | succ n ih => rw [cq_rk, cq_rk, ih (fun k hk => e k (by omega)), e n (by omega)]
theorem cq_ti_c {T T' : Nat → Int32} {t : Int32} {n : Nat} (e : ∀ k, k < n → T k = T' k) : cq_ti T t n = cq_ti T' t n := by
  induction n with
  | zero => rfl
  | succ n ih => rw [cq_ti, cq_ti, ih (fun k hk => e k (by omega)), e n (by omega)]
theorem cq_kn_c {T T' : Nat → Int32} {n : Nat} (e : ∀ k, k < n → T k = T' k) : cq_kn T n = cq_kn T' n := by
  induction n with
  | zero => rfl
  | succ n ih => rw [cq_kn, cq_kn, ih (fun k hk => e k (by omega)), e n (by omega)]
theorem cq_ra_c {T T' : Nat → Int32} {R R' : Nat → Int32} {tm n : Nat} (e : ∀ k, k < n → T k = T' k) (e2 : ∀ k, k < tm → R k = R' k) : cq_ra T R tm n = cq_ra T' R' tm n := by
  induction n with
  | zero => rfl
  | succ n ih => rw [cq_ra, cq_ra, ih (fun k hk => e k (by omega)), e n (by omega), cq_rk_c e2]
theorem cq_du_c {T T' : Nat → Int32} {o : Int32} {n : Nat} (e : ∀ k, k < n → T k = T' k) : cq_du T o n = cq_du T' o n := by
  induction n with
  | zero => rfl
  | succ n ih => rw [cq_du, cq_du, ih (fun k hk => e k (by omega)), e n (by omega)]
theorem cq_mo_c {T T' : Nat → Int32} {n : Nat} (e : ∀ k, k < n → T k = T' k) : cq_mo T n = cq_mo T' n := by
  induction n with
  | zero => rfl
  | succ n ih => rw [cq_mo, cq_mo, ih (fun k hk => e k (by omega)), e n (by omega)]
theorem cq_who_c {T T' : Nat → Int32} {o : Int32} {n : Nat} (e : ∀ k, k < n → T k = T' k) : cq_who T o n = cq_who T' o n := by
  induction n with
  | zero => rfl
  | succ n ih => rw [cq_who, cq_who, ih (fun k hk => e k (by omega)), e n (by omega)]
theorem cq_bst_c {f f' : Nat → Int64} {n : Nat} (e : ∀ k, k < n → f k = f' k) : cq_bst f n = cq_bst f' n := by
  induction n with
  | zero => rfl
  | succ n ih => rw [cq_bst, cq_bst, ih (fun k hk => e k (by omega)), e n (by omega)]
section CC
variable {tm pm day now n : Nat} {s s' : Nat → Int32} {a a' : Nat → Nat → Int32} {Lo : Option ((Nat → Int64) → Int64)}
theorem cq_eq_r : cq_eq tm pm day s s a a := ⟨fun _ _ _ _ _ => rfl, fun _ _ => ⟨rfl, rfl, rfl⟩, fun _ _ => rfl, fun _ _ => ⟨rfl, rfl, rfl, rfl, rfl⟩⟩
theorem cq_eq_s (h : cq_eq tm pm day s s' a a') : cq_eq tm pm day s' s a' a :=
  ⟨fun k h1 h2 h3 h4 => (h.1 k h1 h2 h3 h4).symm, fun k hk => ⟨(h.2.1 k hk).1.symm, (h.2.1 k hk).2.1.symm, (h.2.1 k hk).2.2.symm⟩, fun k hk => (h.2.2.1 k hk).symm, fun k hk => ⟨(h.2.2.2 k hk).1.symm, (h.2.2.2 k hk).2.1.symm, (h.2.2.2 k hk).2.2.1.symm, (h.2.2.2 k hk).2.2.2.1.symm, (h.2.2.2 k hk).2.2.2.2.symm⟩⟩
theorem cq_iv_c (iv : cq_iv s a day tm pm now) (h : cq_eq tm pm day s s' a a') : cq_iv s' a' day tm pm now := by
  obtain ⟨e0, d1, d2, e2, t6, e3, p6, e7, h8, h9, hg, hr⟩ := iv
  have f := h.1
  exact ⟨(f 0 (by decide) (by decide) (by decide) (by decide)).symm.trans e0, d1, d2, (f 2 (by decide) (by decide) (by decide) (by decide)).symm.trans e2, t6, (f 3 (by decide) (by decide) (by decide) (by decide)).symm.trans e3, p6, (f 7 (by decide) (by decide) (by decide) (by decide)).symm.trans e7, (f 8 (by decide) (by decide) (by decide) (by decide)) ▸ h8, (f 9 (by decide) (by decide) (by decide) (by decide)) ▸ h9, (f 10 (by decide) (by decide) (by decide) (by decide)) ▸ hg, fun k hk => h.2.2.1 k hk ▸ hr k hk⟩
theorem cq_wd_c (h : cq_eq tm pm day s s' a a') {m t : Nat} (hm : m < day) (ht : t < tm) : cq_wd s a pm m t = cq_wd s' a' pm m t := by
  funext i
  have f := h.1
  simp only [cq_wd]
  rw [(h.2.1 t ht).1, (h.2.1 t ht).2.2, h.2.2.1 m hm, f 8 (by decide) (by decide) (by decide) (by decide), f 1 (by decide) (by decide) (by decide) (by decide), f 7 (by decide) (by decide) (by decide) (by decide), cq_ti_c (fun k hk => (h.2.2.2 k hk).2.2.2.1), cq_kn_c (fun k hk => (h.2.2.2 k hk).2.2.2.1), cq_du_c (fun k hk => (h.2.2.2 k hk).2.2.1), cq_mo_c (fun k hk => (h.2.2.2 k hk).2.2.1)]
theorem cq_pk_c (iv : cq_iv s a day tm pm now) (hn : now < 2 ^ 31) (h : cq_eq tm pm day s s' a a') : cq_pk Lo s a = cq_pk Lo s' a' := by
  have iv' := cq_iv_c iv h
  have f := h.1
  have hm : now % day < day := Nat.mod_lt _ (by have := iv.2.1; omega)
  obtain ⟨e0, d1, d2, e2, t6, e3, p6, e7, h8, h9, hg, hr⟩ := iv
  obtain ⟨e0', _, _, e2', _, e3', _, e7', _, _, _, _⟩ := iv'
  rw [cq_pk, cq_pk, e0, e2, e3, e7, e0', e2', e3', e7', nI_clamp (by omega), nI_clamp (by omega), nI_clamp (by omega), nI_clamp (by omega)]
  unfold cq_ih
  rw [f 10 (by decide) (by decide) (by decide) (by decide), f 9 (by decide) (by decide) (by decide) (by decide)]
  cases Lo with
  | none => simp only [h.2.2.1 _ hm]
  | some L =>
    simp only
    rw [cq_bst_c (fun t ht => congrArg L (cq_wd_c h hm ht))]
theorem cq_th_c (h : cq_eq tm pm day s s' a a') : ∀ k, k < pm → cq_th a k = cq_th a' k := by
  intro k hk
  rw [cq_th, cq_th, (h.2.2.2 k hk).2.2.1, (h.2.2.2 k hk).2.1]
theorem cq_ws_c (iv : cq_iv s a day tm pm now) (h : cq_eq tm pm day s s' a a') : cq_ws s a = cq_ws s' a' := by
  have f := h.1
  have e3 := iv.2.2.2.2.2.1
  have p6 := iv.2.2.2.2.2.2.1
  rw [cq_ws, cq_ws, ← f 3 (by decide) (by decide) (by decide) (by decide), e3, nI_clamp (by omega), f 1 (by decide) (by decide) (by decide) (by decide), cq_who_c (cq_th_c h)]
theorem cq_go_c (iv : cq_iv s a day tm pm now) (hn : now < 2 ^ 31) (h : cq_eq tm pm day s s' a a') : cq_eq tm pm day (cq_go Lo (s, a)).1 (cq_go Lo (s', a')).1 (cq_go Lo (s, a)).2 (cq_go Lo (s', a')).2 := by
  have f := h.1
  have e := cq_pk_c (Lo := Lo) iv hn h
  have hp := cq_pk_pt (Lo := Lo) iv hn
  have e3 := iv.2.2.2.2.2.1
  have p6 := iv.2.2.2.2.2.2.1
  have t6 := iv.2.2.2.2.1
  have o1 := f 1 (by decide) (by decide) (by decide) (by decide)
  simp only [cq_go, ← e, ← f 3 (by decide) (by decide) (by decide) (by decide), e3, nI_clamp (show pm < 2 ^ 31 by omega)]
  refine ⟨fun k h1 h2 h3 h4 => ?_, fun k hk => ⟨(h.2.1 k hk).1, (h.2.1 k hk).2.1, ?_⟩, h.2.2.1, fun k hk => ⟨(h.2.2.2 k hk).1, (h.2.2.2 k hk).2.1, ?_, ?_, ?_⟩⟩
  · simp only [cq_pss]
    rw [f 7 (by decide) (by decide) (by decide) (by decide), f 10 (by decide) (by decide) (by decide) (by decide), f k h1 h2 h3 h4]
  · simp only [cq_psa, if_true]
    split
    · exact (h.2.1 k hk).2.2
    · simp only [upd]
      split
      · rename_i r
        rw [← r, (h.2.1 k hk).2.2]
      · exact (h.2.1 k hk).2.2
  · simp only [cq_psa, reduceIte, Nat.reduceEqDiff]
    rw [cq_fl_lt hk, cq_fl_lt hk, cq_th_c h k hk, o1]
  · simp only [cq_psa, reduceIte, Nat.reduceEqDiff]
    split
    · exact (h.2.2.2 k hk).2.2.2.1
    · rw [cq_fl_lt hk, cq_fl_lt hk, cq_th_c h k hk, o1, (h.2.2.2 k hk).2.2.2.1]
  · simp only [cq_psa, reduceIte, Nat.reduceEqDiff]
    split
    · rw [cq_fl_lt hk, cq_fl_lt hk, cq_th_c h k hk, o1, (h.2.2.2 k hk).2.2.2.2]
    · exact (h.2.2.2 k hk).2.2.2.2
theorem cq_gn_c (iv : cq_iv s a day tm pm now) (hn : now + n < 2 ^ 31) (h : cq_eq tm pm day s s' a a') : cq_eq tm pm day (cq_gn Lo n (s, a)).1 (cq_gn Lo n (s', a')).1 (cq_gn Lo n (s, a)).2 (cq_gn Lo n (s', a')).2 := by
  induction n with
  | zero => exact h
  | succ n ih => exact cq_go_c (now := now + n) (cq_iv_gn iv (by omega)) (by omega) (ih (by omega))
end CC
