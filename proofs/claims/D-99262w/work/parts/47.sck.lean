/-! the spare court set back again and again -/
set_option maxRecDepth 100000
/-- what standsAs leaves alone is as in the own court -/
def sp_bs (tm pm day : Nat) (s ps : Nat → Int32) (a pa : Nat → Nat → Int32) : Prop :=
  (∀ k, k < 7 → s k = ps k) ∧ (∀ k, k < tm → a 0 k = pa 0 k ∧ a 2 k = pa 2 k) ∧ (∀ k, k < day → a 1 k = pa 1 k) ∧ ∀ k, k < pm → a 3 k = pa 3 k ∧ a 4 k = pa 4 k
section SK
variable {tm pm day n : Nat} {s ps : Nat → Int32} {a pa g : Nat → Nat → Int32} {Lo : Option ((Nat → Int64) → Int64)}
theorem sp_bs_cp (ht : tm ≤ 6) (hp : pm ≤ 6) (hd : day ≤ 12) : sp_bs tm pm day s s a (sp_cp a g) := by
  have e := sp_cp_e (s := s) (a := a) (g := g) ht hp hd
  exact ⟨fun _ _ => rfl, fun k hk => ⟨(e.2.1 k hk).1, (e.2.1 k hk).2.1⟩, e.2.2.1, fun k hk => ⟨(e.2.2.2 k hk).1, (e.2.2.2 k hk).2.1⟩⟩
theorem sp_bs_go (h : sp_bs tm pm day s ps a pa) : sp_bs tm pm day s (cq_go Lo (ps, pa)).1 a (cq_go Lo (ps, pa)).2 := by
  refine ⟨fun k hk => ?_, h.2.1, h.2.2.1, h.2.2.2⟩
  simp only [cq_go, cq_pss]
  rw [if_neg (by omega), if_neg (by omega), if_neg (by omega), if_neg (by omega)]
  exact h.1 k hk
theorem sp_bs_gn (h : sp_bs tm pm day s ps a pa) : sp_bs tm pm day s (cq_gn Lo n (ps, pa)).1 a (cq_gn Lo n (ps, pa)).2 := by
  induction n with
  | zero => exact h
  | succ n ih => exact sp_bs_go ih
theorem sp_bs_st (ht : tm ≤ 6) (hp : pm ≤ 6) (h : sp_bs tm pm day s ps a pa) : cq_eq tm pm day s (fun k => if 7 ≤ k then s k else ps k) a (fun j => if 6 ≤ j ∧ j < 10 then cq_fl 6 (a j) (pa j) else pa j) := by
  refine ⟨fun k _ _ _ _ => ?_, fun k hk => ⟨(h.2.1 k hk).1, (h.2.1 k hk).2, ?_⟩, h.2.2.1, fun k hk => ⟨(h.2.2.2 k hk).1, (h.2.2.2 k hk).2, ?_, ?_, ?_⟩⟩
  · show s k = if 7 ≤ k then s k else ps k
    split
    · rfl
    · exact h.1 k (by omega)
  · exact (cq_fl_lt (by omega)).symm
  · exact (cq_fl_lt (by omega)).symm
  · exact (cq_fl_lt (by omega)).symm
  · exact (cq_fl_lt (by omega)).symm
end SK
