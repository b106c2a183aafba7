/-! loops; the spare court's small methods -/
set_option maxRecDepth 100000
theorem jx_lp {γ : Type} {d y L n : Nat} {ls : Nat → γ → List Value} {H : Nat → γ → jx_H} {I : Nat → γ → Prop} {G : Option jx_R → Prop}
    (step : ∀ i g, i < n → I i g → G (jx_eb d y L (ls i g) [] (H i g)) ∨ ∃ g', I (i + 1) g' ∧ jx_eb d y L (ls i g) [] (H i g) = jx_eb d y L (ls (i + 1) g') [] (H (i + 1) g'))
    (fin : ∀ g, I n g → G (jx_eb d y L (ls n g) [] (H n g))) : ∀ m i g, i + m = n → I i g → G (jx_eb d y L (ls i g) [] (H i g)) := by
  intro m
  induction m with
  | zero =>
    intro i g hi hg
    have : i = n := by omega
    subst this
    exact fin g hg
  | succ m ih =>
    intro i g hi hg
    rcases step i g (by omega) hg with h | ⟨g', h1, h2⟩
    · exact h
    · rw [h2]; exact ih (i + 1) g' (by omega) h1
/-- the first of m numbers from i on -/
def fd (P : Nat → Bool) : Nat → Nat → Option Nat
  | 0, _ => none
  | m + 1, i => if P i = true then some i else fd P m (i + 1)
theorem fd_s {P : Nat → Bool} {n i : Nat} (hi : i < n) : fd P (n - i) i = if P i = true then some i else fd P (n - (i + 1)) (i + 1) := by
  rw [show n - i = (n - (i + 1)) + 1 by omega]
  rfl
theorem fd_n {P : Nat → Bool} {n : Nat} : fd P (n - n) n = none := by
  rw [Nat.sub_self]; rfl
theorem fd_c {P Q : Nat → Bool} : ∀ m i, (∀ k, i ≤ k → k < i + m → P k = Q k) → fd P m i = fd Q m i := by
  intro m
  induction m with
  | zero => intros; rfl
  | succ m ih =>
    intro i h
    rw [fd, fd, h i (by omega) (by omega), ih (i + 1) (fun k h1 h2 => h k (by omega) (by omega))]
/-- how many of m numbers from i on -/
def ct (P : Nat → Bool) : Nat → Nat → Int32
  | 0, _ => 0
  | m + 1, i => ct P m (i + 1) + (if P i = true then 1 else 0)
theorem sp_q {t n : Nat} {v : Int32} (ht : t < n) (hn : n ≤ 12) (e : v = nI n) : 0 ≤ nI t ∧ nI t < v := by
  rw [e]; exact ⟨nI_pos' (by omega), nI_lt ht (by omega)⟩
theorem sp_rg {a n b : Nat} (ha : a ≤ n) (hb : n ≤ b) (hB : b < 2 ^ 31) : (nI a).toInt64 ≤ (nI n).toInt64 ∧ (nI n).toInt64 ≤ (nI b).toInt64 := ⟨sp_l64.mpr (nI_le ha (by omega)), sp_l64.mpr (nI_le hb hB)⟩
theorem sp_ix {t n : Nat} (ht : t < n) (hn : n < 2 ^ 31) : jx_ix (nI t) n = some t := by
  rw [jx_ix_n (by omega), if_pos ht]
theorem dc_iff {P : Prop} : @decide P (Classical.propDecidable P) = true ↔ P := @decide_eq_true_iff P (Classical.propDecidable P)
theorem i32_sub1 (X Y : Int32) : X - Y + (-1) = X - (Y + 1) := by
  rw [Int32.sub_eq_add_neg X (Y + 1), Int32.neg_add, Int32.sub_eq_add_neg (-Y) 1, ← Int32.add_assoc, ← Int32.sub_eq_add_neg X Y]
theorem dn_s {A m : Nat} (h : m ≤ A) : nI (A - m) + (-1) = nI A - nI (m + 1) := by
  rw [← pk_sub h, ← nI_1]; exact i32_sub1 _ _
theorem dn_e {A : Nat} : nI A - nI (A + 1) = -1 := by
  rw [← nI_1, ← i32_sub1, Int32.sub_self]; decide
theorem dn_0 {A : Nat} : nI A - nI 0 = nI A := by
  rw [nI_0, Int32.sub_zero]
def sp_ss (s ps : Nat → Int32) : Nat → Int32 := fun k => if 7 ≤ k then s k else ps k
def sp_sa (a pa : Nat → Nat → Int32) : Nat → Nat → Int32 := fun j => if 6 ≤ j ∧ j < 10 then cq_fl 6 (a j) (pa j) else pa j
def sp_tk (a : Nat → Nat → Int32) (t : Nat) (k : Int32) : Nat → Nat → Int32 := va_up a 7 (upd (a 7) t (cq_mn (a 7 t + k)))
section SL
variable {d : Nat} {h : jx_H} {cu : Option Nat} {F : Nat → Int32} {o p q z : cq_C} {T : List Value} {x : Int32 × Int32} {ru im : Nat → Option Nat} {tp : Nat → Int32} {R : Nat → Nat → Int32} {s : Nat → Int32} {a : Nat → Nat → Int32} {w : Nat → Int64}
variable {i k : Int32} {t tm pm day um now D n : Nat} {lo : Option Nat} {Lo : Option ((Nat → Int64) → Int64)} {ps : Nat → Int32} {pa : Nat → Nat → Int32} {pw : Nat → Int64}
theorem sp_bs_e (ht : tm ≤ 6) (hp : pm ≤ 6) (e : sp_bs tm pm day s ps a pa) : cq_eq tm pm day s (sp_ss s ps) a (sp_sa a pa) := sp_bs_st ht hp e
theorem sp_bs_ss (e : sp_bs tm pm day s ps a pa) : sp_bs tm pm day s (sp_ss s ps) a (sp_sa a pa) :=
  ⟨fun k hk => by simp only [sp_ss, if_neg (show ¬ 7 ≤ k by omega)]; exact e.1 k hk, e.2.1, e.2.2.1, e.2.2.2⟩
theorem sp_bs_tk (e : sp_bs tm pm day s ps a pa) : sp_bs tm pm day s ps a (sp_tk pa t k) :=
  ⟨e.1, e.2.1, e.2.2.1, e.2.2.2⟩
theorem sp_bs_sc (e : sp_bs tm pm day s ps a pa) {j : Nat} (hj : 7 ≤ j) : sp_bs tm pm day s (va_up ps j k) a pa :=
  ⟨fun k hk => by simp only [va_up, if_neg (show ¬ k = j by omega)]; exact e.1 k hk, e.2.1, e.2.2.1, e.2.2.2⟩
theorem cq_eq_tk {s' : Nat → Int32} {a' : Nat → Nat → Int32} (e : cq_eq tm pm day s s' a a') (ht : t < pm) : cq_eq tm pm day s s' (sp_tk a t k) (sp_tk a' t k) := by
  refine ⟨e.1, e.2.1, e.2.2.1, fun j hj => ⟨(e.2.2.2 j hj).1, (e.2.2.2 j hj).2.1, ?_, (e.2.2.2 j hj).2.2.2⟩⟩
  show upd (a 7) t (cq_mn (a 7 t + k)) j = upd (a' 7) t (cq_mn (a' 7 t + k)) j
  rw [(e.2.2.2 t ht).2.2.1]
  simp only [upd, (e.2.2.2 j hj).2.2.1]
theorem cq_eq_sc {s' : Nat → Int32} {a' : Nat → Nat → Int32} (e : cq_eq tm pm day s s' a a') {j : Nat} : cq_eq tm pm day (va_up s j k) (va_up s' j k) a a' :=
  ⟨fun m h1 h2 h3 h4 => by simp only [va_up, e.1 m h1 h2 h3 h4], e.2.1, e.2.2.1, e.2.2.2⟩
theorem cq_iv_tk (iv : cq_iv s a day tm pm now) : cq_iv s (sp_tk a t k) day tm pm now := iv
theorem cq_iv_9 (iv : cq_iv s a day tm pm now) (hk : cq_pt k tm) : cq_iv (va_up s 9 k) a day tm pm now := by
  obtain ⟨e0, d1, d2, e2, t6, e3, p6, e7, h8, h9, hg, hr⟩ := iv
  exact ⟨e0, d1, d2, e2, t6, e3, p6, e7, h8, hk, hg, hr⟩
theorem cq_iv_10 (iv : cq_iv s a day tm pm now) (hk : ∃ g, g ≤ 9 ∧ k = nI g) : cq_iv (va_up s 10 k) a day tm pm now := by
  obtain ⟨e0, d1, d2, e2, t6, e3, p6, e7, h8, h9, hg, hr⟩ := iv
  exact ⟨e0, d1, d2, e2, t6, e3, p6, e7, h8, h9, hk, hr⟩
theorem sp_stand : jx_cr (d + 1) 168 [.ref 62, .ref 49] (sw h cu F (s, a, w) (ps, pa, pw) q z T x ru im tp R) = some (.inl (some (.ref 62)), sw h cu F (s, a, w) (sp_ss s ps, sp_sa a pa, pw) q z T x ru im tp R) := sp_stands
theorem sp_thanked (ht : t < 6) : jx_cr (d + 1) 176 [.ref 62, .int (nI t), .int k] (sw h cu F o (ps, pa, pw) q z T x ru im tp R) = some (.inl none, sw h cu F o (ps, sp_tk pa t k, pw) q z T x ru im tp R) := by
  have := cq_thanked (d := d) (h := sw h cu F o (ps, pa, pw) q z T x ru im tp R) (b := 62) (p := t) (s := ps) (a := pa) (w := pw) (x := k) ht
  rwa [sw_p, sw_p] at this
theorem sp_rankOf (ht : t < 6) (htm : tm ≤ 6) (et : ps 2 = nI tm) : jx_cr (d + 2) 172 [.ref 62, .int (nI t)] (sw h cu F o (ps, pa, pw) q z T x ru im tp R) = some (.inl (some (.int (cq_rk (pa 8 t) (pa 0) tm))), sw h cu F o (ps, pa, pw) q z T x ru im tp R) := by
  have := cq_rankOf (d := d) (h := sw h cu F o (ps, pa, pw) q z T x ru im tp R) (b := 62) (p := t) (s := ps) (a := pa) (w := pw) ht htm et
  rwa [sw_p] at this
theorem sp_rankAll (htm : tm ≤ 6) (et : ps 2 = nI tm) (hpm : pm ≤ 6) (es : ps 3 = nI pm) : jx_cr (d + 3) 173 [.ref 62] (sw h cu F o (ps, pa, pw) q z T x ru im tp R) = some (.inl (some (.int (cq_ra (pa 8) (pa 0) tm pm))), sw h cu F o (ps, pa, pw) q z T x ru im tp R) := by
  have := cq_rankAll (d := d) (h := sw h cu F o (ps, pa, pw) q z T x ru im tp R) (b := 62) (s := ps) (a := pa) (w := pw) htm et hpm es
  rwa [sw_p] at this
theorem sp_begins : jx_cr (d + 1) 171 [.ref 62] (sw h cu F o (ps, pa, pw) q z T x ru im tp R) = some (.inl none, sw h cu F o (cq_bgs ps, cq_bgn pa, pw) q z T x ru im tp R) := by
  have := cq_begins (d := d) (h := sw h cu F o (ps, pa, pw) q z T x ru im tp R) (b := 62) (s := ps) (a := pa) (w := pw)
  rwa [sw_p, sw_p] at this
theorem so_rankOf (ht : t < 6) (htm : tm ≤ 6) (et : s 2 = nI tm) : jx_cr (d + 2) 172 [.ref 49, .int (nI t)] (sw h cu F (s, a, w) p q z T x ru im tp R) = some (.inl (some (.int (cq_rk (a 8 t) (a 0) tm))), sw h cu F (s, a, w) p q z T x ru im tp R) := by
  have := cq_rankOf (d := d) (h := sw h cu F (s, a, w) p q z T x ru im tp R) (b := 49) (p := t) (s := s) (a := a) (w := w) ht htm et
  rwa [sw_o] at this
theorem so_rankAll (htm : tm ≤ 6) (et : s 2 = nI tm) (hpm : pm ≤ 6) (es : s 3 = nI pm) : jx_cr (d + 3) 173 [.ref 49] (sw h cu F (s, a, w) p q z T x ru im tp R) = some (.inl (some (.int (cq_ra (a 8) (a 0) tm pm))), sw h cu F (s, a, w) p q z T x ru im tp R) := by
  have := cq_rankAll (d := d) (h := sw h cu F (s, a, w) p q z T x ru im tp R) (b := 49) (s := s) (a := a) (w := w) htm et hpm es
  rwa [sw_o] at this
theorem so_knights (hpm : pm ≤ 6) (es : s 3 = nI pm) : jx_cr (d + 1) 175 [.ref 49] (sw h cu F (s, a, w) p q z T x ru im tp R) = some (.inl (some (.int (cq_kn (a 8) pm))), sw h cu F (s, a, w) p q z T x ru im tp R) := by
  have := cq_knights (d := d) (h := sw h cu F (s, a, w) p q z T x ru im tp R) (b := 49) (s := s) (a := a) (w := w) hpm es
  rwa [sw_o] at this
end SL
