/-! THE TWIN'S PARSER: how far values, terms and sums go -/
set_option maxRecDepth 100000
section BND
variable {tp : Nat → Int32} {M n m g g2 : Nat} {L : (Nat → Int64) → Int64}
theorem nmr_m {l v w : Int32} (hn : n ≤ M) (e : nmr tp M n l v = .inr (w, m)) : n < m ∧ m ≤ M := by
  have le := skp_le (tp := tp) hn
  have ge := skp_ge tp M n
  rw [nmr] at e
  split at e
  · cases e
  · rename_i r
    have dl := dgp_le (tp := tp) le
    split at e
    · cases e; exact ⟨by omega, dl⟩
    · cases e
theorem vl_b (hn : n ≤ M) (e : vl tp M n g = .inr (L, m, g2)) : n < m ∧ m ≤ M ∧ g ≤ g2 ∧ g2 ≤ 60 := by
  have le := skp_le (tp := tp) hn
  have ge := skp_ge tp M n
  rw [vl] at e
  split at e
  · split at e
    · cases e
    · rename_i w m' hw
      have b := nmr_m le hw
      split at e
      · cases e; exact ⟨by omega, b.2, by omega, by omega⟩
      · cases e
  · split at e
    · cases e
    · rename_i k hk
      have fk := fd_some _ _ _ hk
      have nb := nmw_b (show k < 12 by omega)
      have sn := st_nb nb.1
      have wl := wm_le le (wmb_i.mp fk.2.2)
      split at e
      · cases e; exact ⟨by omega, wl, by omega, by omega⟩
      · cases e
theorem chn_b {S : Int32 → Bool} {el : Nat → Nat → Vr} (hS : S (-1) = false) (hel : ∀ n g L m g2, n ≤ M → el n g = .inr (L, m, g2) → n < m ∧ m ≤ M ∧ g ≤ g2 ∧ g2 ≤ 60) : ∀ f L0 n g L m g2, n ≤ M → g ≤ 60 → chn tp M S el f L0 n g = .inr (L, m, g2) → n ≤ m ∧ m ≤ M ∧ g ≤ g2 ∧ g2 ≤ 60 := by
  intro f
  induction f with
  | zero =>
    intro L0 n g L m g2 hn hg e
    rw [chn] at e
    cases e
    exact ⟨skp_ge tp M n, skp_le hn, Nat.le_refl _, hg⟩
  | succ f ih =>
    intro L0 n g L m g2 hn hg e
    have le := skp_le (tp := tp) hn
    have ge := skp_ge tp M n
    rw [chn] at e
    split at e
    · rename_i hs
      have lt := sg_lt (tp := tp) (M := M) (n := skp tp M n) (fun z => by rw [z, hS] at hs; cases hs)
      split at e
      · cases e
      · rename_i L2 m1 g1 h1
        have b := hel _ _ _ _ _ lt h1
        have c := ih _ _ _ _ _ _ b.2.1 b.2.2.2 e
        exact ⟨by omega, c.2.1, by omega, c.2.2.2⟩
    · cases e; exact ⟨ge, le, Nat.le_refl _, hg⟩
theorem tm_b (hn : n ≤ M) (e : tm tp M n g = .inr (L, m, g2)) : n < m ∧ m ≤ M ∧ g ≤ g2 ∧ g2 ≤ 60 := by
  rw [tm] at e
  split at e
  · cases e
  · rename_i L1 m1 g1 h1
    have b := vl_b hn h1
    have c := chn_b (tp := tp) (M := M) (S := sgm) (by decide) (fun n g L m g2 hn h => vl_b hn h) _ _ _ _ _ _ _ b.2.1 b.2.2.2 e
    exact ⟨by omega, c.2.1, by omega, c.2.2.2⟩
theorem sm_b (hn : n ≤ M) (e : sm tp M n g = .inr (L, m, g2)) : n < m ∧ m ≤ M ∧ g ≤ g2 ∧ g2 ≤ 60 := by
  rw [sm] at e
  split at e
  · cases e
  · rename_i L1 m1 g1 h1
    have b := tm_b hn h1
    have c := chn_b (tp := tp) (M := M) (S := sga) (by decide) (fun n g L m g2 hn h => tm_b hn h) _ _ _ _ _ _ _ b.2.1 b.2.2.2 e
    exact ⟨by omega, c.2.1, by omega, c.2.2.2⟩
theorem vl_f {k pl : Nat} (hn : n ≤ M) (e : vl tp M n g = .inl (k, pl)) : k ≤ 4 ∧ pl ≤ M := by
  have le := skp_le (tp := tp) hn
  rw [vl] at e
  split at e
  · split at e
    · rename_i er hw
      cases e
      exact nmr_f le hw
    · split at e
      · cases e
      · cases e; exact ⟨by omega, le⟩
  · split at e
    · cases e; exact ⟨by omega, le⟩
    · split at e
      · cases e
      · cases e; exact ⟨by omega, le⟩
theorem chn_f {S : Int32 → Bool} {el : Nat → Nat → Vr} (hS : S (-1) = false) (hel : ∀ n g L m g2, n ≤ M → el n g = .inr (L, m, g2) → n < m ∧ m ≤ M ∧ g ≤ g2 ∧ g2 ≤ 60) (hef : ∀ n g k pl, n ≤ M → el n g = .inl (k, pl) → k ≤ 4 ∧ pl ≤ M) : ∀ f L0 n g k pl, n ≤ M → chn tp M S el f L0 n g = .inl (k, pl) → k ≤ 4 ∧ pl ≤ M := by
  intro f
  induction f with
  | zero => intro L0 n g k pl hn e; rw [chn] at e; cases e
  | succ f ih =>
    intro L0 n g k pl hn e
    have le := skp_le (tp := tp) hn
    rw [chn] at e
    split at e
    · rename_i hs
      have lt := sg_lt (tp := tp) (M := M) (n := skp tp M n) (fun z => by rw [z, hS] at hs; cases hs)
      split at e
      · rename_i er h1
        cases e
        exact hef _ _ _ _ lt h1
      · rename_i L2 m1 g1 h1
        have b := hel _ _ _ _ _ lt h1
        exact ih _ _ _ _ _ b.2.1 e
    · cases e
theorem tm_f {k pl : Nat} (hn : n ≤ M) (e : tm tp M n g = .inl (k, pl)) : k ≤ 4 ∧ pl ≤ M := by
  rw [tm] at e
  split at e
  · rename_i er h1
    cases e
    exact vl_f hn h1
  · rename_i L1 m1 g1 h1
    have b := vl_b hn h1
    exact chn_f (tp := tp) (M := M) (S := sgm) (by decide) (fun n g L m g2 hn h => vl_b hn h) (fun n g k pl hn h => vl_f hn h) _ _ _ _ _ _ b.2.1 e
theorem sm_f {k pl : Nat} (hn : n ≤ M) (e : sm tp M n g = .inl (k, pl)) : k ≤ 4 ∧ pl ≤ M := by
  rw [sm] at e
  split at e
  · rename_i er h1
    cases e
    exact tm_f hn h1
  · rename_i L1 m1 g1 h1
    have b := tm_b hn h1
    exact chn_f (tp := tp) (M := M) (S := sga) (by decide) (fun n g L m g2 hn h => tm_b hn h) (fun n g k pl hn h => tm_f hn h) _ _ _ _ _ _ b.2.1 e
end BND
