/-! SpoonCourt: the spare court; ahead -/
set_option maxRecDepth 100000
/-- the spare court's rows after a copy -/
def sp_cp (a g : Nat → Nat → Int32) (j : Nat) : Nat → Int32 := cq_fl (cq_len j) (a j) (g j)
theorem sp_cp_e {tm pm day : Nat} {s : Nat → Int32} {a g : Nat → Nat → Int32} (ht : tm ≤ 6) (hp : pm ≤ 6) (hd : day ≤ 12) : cq_eq tm pm day s s a (sp_cp a g) := by
  have l : ∀ j k, k < cq_len j → a j k = sp_cp a g j k := fun j k hk => (cq_fl_lt hk).symm
  exact ⟨fun _ _ _ _ _ => rfl, fun k hk => ⟨l 0 k (by show k < 6; omega), l 2 k (by show k < 6; omega), l 6 k (by show k < 6; omega)⟩, fun k hk => l 1 k (by show k < 12; omega), fun k hk => ⟨l 3 k (by show k < 6; omega), l 4 k (by show k < 6; omega), l 7 k (by show k < 6; omega), l 8 k (by show k < 6; omega), l 9 k (by show k < 6; omega)⟩⟩
section SF
variable {d : Nat} {h : jx_H} {cu : Option Nat} {F : Nat → Int32} {o p q z : cq_C} {T : List Value} {x : Int32 × Int32} {ru im : Nat → Option Nat} {tp : Nat → Int32} {R : Nat → Nat → Int32} {s : Nat → Int32} {a : Nat → Nat → Int32} {w : Nat → Int64}
variable {i k : Int32} {t tm pm day um now D n : Nat} {lo : Option Nat} {Lo : Option ((Nat → Int64) → Int64)}
theorem sp_copy {ps : Nat → Int32} {pa : Nat → Nat → Int32} {pw : Nat → Int64} : jx_cr (d + 2) 167 [.ref 62, .ref 49] (sw h cu F (s, a, w) (ps, pa, pw) q z T x ru im tp R) = some (.inl (some (.ref 62)), sw h cu F (s, a, w) (s, sp_cp a pa, pw) q z T x ru im tp R) := by
  have hc : cq_is (sw h cu F (s, a, w) (ps, pa, pw) q z T x ru im tp R) 49 s a := by
    have := @cq_is_put (sw h cu F (s, a, w) (ps, pa, pw) q z T x ru im tp R) 49 s a w
    rwa [sw_o] at this
  have := cq_copies (d := d) (b := 62) (c := 49) (s := ps) (a := pa) (w := pw) (by omega) (by omega) hc
  rwa [sw_p, sw_p] at this
theorem sp_stands {ps : Nat → Int32} {pa : Nat → Nat → Int32} {pw : Nat → Int64} : jx_cr (d + 1) 168 [.ref 62, .ref 49] (sw h cu F (s, a, w) (ps, pa, pw) q z T x ru im tp R) = some (.inl (some (.ref 62)), sw h cu F (s, a, w) ((fun k => if 7 ≤ k then s k else ps k), (fun j => if 6 ≤ j ∧ j < 10 then cq_fl 6 (a j) (pa j) else pa j), pw) q z T x ru im tp R) := by
  have hc : cq_is (sw h cu F (s, a, w) (ps, pa, pw) q z T x ru im tp R) 49 s a := by
    have := @cq_is_put (sw h cu F (s, a, w) (ps, pa, pw) q z T x ru im tp R) 49 s a w
    rwa [sw_o] at this
  have := cq_standsAs (d := d) (b := 62) (c := 49) (s := ps) (a := pa) (w := pw) (by omega) (by omega) hc
  rwa [sw_p, sw_p] at this
/-- the spare court goes on -/
theorem sp_goesOn {ps : Nat → Int32} {pa : Nat → Nat → Int32} {pw : Nat → Int64} (iv : cq_iv ps pa day tm pm now) (hn : now + n < 2 ^ 31) (hL : sp_lw (D + 2) h lo Lo) : ∃ w', jx_cr (d + D + 6) 181 [.ref 62, .int (nI n), va_rf lo] (sw h cu F o (ps, pa, pw) q z T x ru im tp R) = some (.inl (some (.ref 62)), sw h cu F o ((cq_gn Lo n (ps, pa)).1, (cq_gn Lo n (ps, pa)).2, w') q z T x ru im tp R) := by
  obtain ⟨w', e⟩ := cq_goesOn (d := d) (b := 62) (w := pw) (n := n) iv hn (by omega) (sp_lw_p (o := o) (cu := cu) (F := F) (p := (ps, pa, pw)) (q := q) (z := z) (T := T) (x := x) (ru := ru) (im := im) (tp := tp) (R := R) hL)
  rw [sw_p, sw_p] at e
  exact ⟨w', e⟩
theorem sp_inHand {ps : Nat → Int32} {pa : Nat → Nat → Int32} {pw : Nat → Int64} (iv : cq_iv ps pa day tm pm now) (hn : now < 2 ^ 31) (hL : sp_lw (D + 2) h lo Lo) : ∃ w', jx_cr (d + D + 4) 178 [.ref 62, va_rf lo] (sw h cu F o (ps, pa, pw) q z T x ru im tp R) = some (.inl (some (.int (cq_pk Lo ps pa))), sw h cu F o (ps, pa, w') q z T x ru im tp R) := by
  obtain ⟨w', e⟩ := cq_inHand (d := d) (b := 62) (w := pw) iv hn (sp_lw_p (o := o) (cu := cu) (F := F) (p := (ps, pa, pw)) (q := q) (z := z) (T := T) (x := x) (ru := ru) (im := im) (tp := tp) (R := R) hL)
  rw [sw_p, sw_p] at e
  exact ⟨w', e⟩
theorem sp_hour {ps : Nat → Int32} {pa : Nat → Nat → Int32} {pw : Nat → Int64} (iv : cq_iv ps pa day tm pm now) (hn : now < 2 ^ 31) (hL : sp_lw (D + 2) h lo Lo) : ∃ w', jx_cr (d + D + 5) 180 [.ref 62, va_rf lo] (sw h cu F o (ps, pa, pw) q z T x ru im tp R) = some (.inl (some (.int (cq_ws ps pa))), sw h cu F o ((cq_go Lo (ps, pa)).1, (cq_go Lo (ps, pa)).2, w') q z T x ru im tp R) := by
  obtain ⟨w', e⟩ := cq_hour (d := d) (b := 62) (w := pw) iv hn (sp_lw_p (o := o) (cu := cu) (F := F) (p := (ps, pa, pw)) (q := q) (z := z) (T := T) (x := x) (ru := ru) (im := im) (tp := tp) (R := R) hL)
  rw [sw_p, sw_p] at e
  exact ⟨w', e⟩
end SF
