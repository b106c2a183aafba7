/-! THE ABSTRACT MACHINE WITHOUT FUEL: equations -/
theorem jx_mono {P : jx_P} : ∀ (f d y : Nat) (c : List Instr) (ls st : List Value) (h : jx_H) (r : jx_R), jx_ex P f d y c ls st h = some r → jx_ex P (f + 1) d y c ls st h = some r := by
  intro f
  induction f with
  | zero => intro d y c ls st h r e; cases e
  | succ f ih =>
    intro d y c ls st h r e
    cases c with
    | nil => simp only [jx_ex] at e; cases e
    | cons i c =>
      rw [jx_ex] at e ⊢
      cases hs : jx_st P.2.2.1 i ls st h with
      | none => simp only [hs] at e; cases e
      | some a =>
        rw [hs] at e
        rcases a with ⟨ls', st', h'⟩ | ⟨L, st'⟩ | ⟨z, args, st', hd⟩ | o
        · exact ih _ _ _ _ _ _ _ e
        · exact ih _ _ _ _ _ _ _ e
        · simp only at e ⊢
          cases d with
          | zero => exact e
          | succ d' =>
            cases hl0 : P.2.1 z args with
            | none => simp only [hl0] at e; cases e
            | some l0 =>
              simp only [hl0] at e ⊢
              cases e1 : jx_ex P f d' z (P.1 z 0) l0 [] h with
              | none => rw [e1] at e; cases e
              | some rs =>
                rw [e1] at e
                rw [ih _ _ _ _ _ _ _ e1]
                obtain ⟨v | u, h1⟩ := rs
                · exact ih _ _ _ _ _ _ _ e
                · simp only at e ⊢
                  split at e
                  · rename_i q0
                    rw [if_pos q0]
                    exact e
                  · rename_i q0
                    rw [if_neg q0]
                    split at e
                    · cases e
                    · rename_i q1
                      rw [if_neg q1]
                      exact ih _ _ _ _ _ _ _ e
        · exact e
theorem jx_mono2 {P : jx_P} {f g d y : Nat} {c : List Instr} {ls st : List Value} {h : jx_H} {r : jx_R} (hfg : f ≤ g) (e : jx_ex P f d y c ls st h = some r) : jx_ex P g d y c ls st h = some r := by
  induction hfg with
  | refl => exact e
  | step _ ih => exact jx_mono _ _ _ _ _ _ _ _ ih
noncomputable def jx_ev (d y : Nat) (c : List Instr) (ls st : List Value) (h : jx_H) : Option jx_R := @dite (Option jx_R) (∃ f r, jx_ex jx_PP f d y c ls st h = some r) (Classical.propDecidable _) (fun q => some (Classical.choose (Classical.choose_spec q))) (fun _ => none)
theorem jx_ev_iff {d y : Nat} {c : List Instr} {ls st : List Value} {h : jx_H} {r : jx_R} : jx_ev d y c ls st h = some r ↔ ∃ f, jx_ex jx_PP f d y c ls st h = some r := by
  unfold jx_ev
  constructor
  · intro e
    split at e
    · rename_i q
      cases e
      exact ⟨_, Classical.choose_spec (Classical.choose_spec q)⟩
    · cases e
  · rintro ⟨f, e⟩
    have q : ∃ f r, jx_ex jx_PP f d y c ls st h = some r := ⟨f, r, e⟩
    rw [dif_pos q]
    have e2 := Classical.choose_spec (Classical.choose_spec q)
    have a := jx_mono2 (Nat.le_max_left f (Classical.choose q)) e
    have b := jx_mono2 (Nat.le_max_right f (Classical.choose q)) e2
    exact b.symm.trans a
theorem jx_ev_none {d y : Nat} {c : List Instr} {ls st : List Value} {h : jx_H} (q : ∀ f r, jx_ex jx_PP f d y c ls st h ≠ some r) : jx_ev d y c ls st h = none := by
  cases e : jx_ev d y c ls st h with
  | none => rfl
  | some r =>
    obtain ⟨f, e2⟩ := jx_ev_iff.mp e
    exact absurd e2 (q f r)
theorem jx_ev_eq {d y d2 y2 : Nat} {c c2 : List Instr} {ls st ls2 st2 : List Value} {h h2 : jx_H} (q : ∀ f, jx_ex jx_PP (f + 1) d y c ls st h = jx_ex jx_PP f d2 y2 c2 ls2 st2 h2) : jx_ev d y c ls st h = jx_ev d2 y2 c2 ls2 st2 h2 := by
  cases e : jx_ev d2 y2 c2 ls2 st2 h2 with
  | some r =>
    obtain ⟨f, e2⟩ := jx_ev_iff.mp e
    exact jx_ev_iff.mpr ⟨f + 1, (q f).trans e2⟩
  | none =>
    refine jx_ev_none fun f r e2 => ?_
    cases f with
    | zero => cases e2
    | succ f =>
      rw [q f] at e2
      rw [jx_ev_iff.mpr ⟨f, e2⟩] at e
      cases e
noncomputable def jx_eb (d y L : Nat) (ls st : List Value) (h : jx_H) : Option jx_R := jx_ev d y (jx_PP.1 y L) ls st h
/-- a method called with a depth to spare -/
noncomputable def jx_cr (d z : Nat) (vs : List Value) (h : jx_H) : Option jx_R := match d with
  | 0 => none
  | d + 1 => match jx_PP.2.1 z vs with
    | some l0 => jx_eb d z 0 l0 [] h
    | none => none
/-- behind a call -/
noncomputable def jx_cc (d y : Nat) (c : List Instr) (ls st : List Value) (hd : Nat) : Option jx_R → Option jx_R
  | none => none
  | some (.inl v, h) => jx_ev d y c ls (v.toList ++ st) h
  | some (.inr _, h) => if hd = 0 then (if jx_PP.2.2.2 y = true then none else some (.inr (), h)) else if hd = 1 then none else jx_eb d y (hd / 10) (jx_s1 ls (hd % 10) jx_un) [] h
section EV
variable {d y : Nat} {c : List Instr} {ls st ls' st' vs : List Value} {h h' : jx_H} {i : Instr}
theorem ev_next (q : jx_st jx_dt i ls st h = some (.inl (ls', st', h'))) : jx_ev d y (i :: c) ls st h = jx_ev d y c ls' st' h' := by
  refine jx_ev_eq fun f => ?_
  rw [jx_ex]
  show (match jx_st jx_dt i ls st h with | none => _ | some (.inl (ls', st', h')) => _ | some (.inr (.inl (L, st'))) => _ | some (.inr (.inr (.inl (z, args, st', hd)))) => _ | some (.inr (.inr (.inr o))) => _) = _
  rw [q]
theorem ev_jump {L : Nat} (q : jx_st jx_dt i ls st h = some (.inr (.inl (L, st')))) : jx_ev d y (i :: c) ls st h = jx_eb d y L ls st' h := by
  refine jx_ev_eq fun f => ?_
  rw [jx_ex]
  show (match jx_st jx_dt i ls st h with | none => _ | some (.inl (ls', st', h')) => _ | some (.inr (.inl (L, st'))) => _ | some (.inr (.inr (.inl (z, args, st', hd)))) => _ | some (.inr (.inr (.inr o))) => _) = _
  rw [q]
theorem ev_end {o : Option Value ⊕ Unit} (q : jx_st jx_dt i ls st h = some (.inr (.inr (.inr o)))) : jx_ev d y (i :: c) ls st h = some (o, h) := by
  refine jx_ev_iff.mpr ⟨1, ?_⟩
  rw [jx_ex]
  show (match jx_st jx_dt i ls st h with | none => _ | some (.inl (ls', st', h')) => _ | some (.inr (.inl (L, st'))) => _ | some (.inr (.inr (.inl (z, args, st', hd)))) => _ | some (.inr (.inr (.inr o))) => _) = _
  rw [q]
theorem ev_call {z hd : Nat} (q : jx_st jx_dt i ls st h = some (.inr (.inr (.inl (z, vs, st', hd))))) : jx_ev d y (i :: c) ls st h = jx_cc d y c ls st' hd (jx_cr d z vs h) := by
  have key : ∀ f, jx_ex jx_PP (f + 1) d y (i :: c) ls st h = (match d, jx_PP.2.1 z vs with
        | d' + 1, some l0 => match jx_ex jx_PP f d' z (jx_PP.1 z 0) l0 [] h with
          | none => none
          | some (.inl v, h') => jx_ex jx_PP f (d' + 1) y c ls (v.toList ++ st') h'
          | some (.inr _, h') => if hd = 0 then (if jx_PP.2.2.2 y = true then none else some (.inr (), h')) else if hd = 1 then none else jx_ex jx_PP f (d' + 1) y (jx_PP.1 y (hd / 10)) (jx_s1 ls (hd % 10) jx_un) [] h'
        | _, _ => none) := by
    intro f
    rw [jx_ex]
    show (match jx_st jx_dt i ls st h with | none => _ | some (.inl (ls', st', h')) => _ | some (.inr (.inl (L, st'))) => _ | some (.inr (.inr (.inl (z, args, st', hd)))) => _ | some (.inr (.inr (.inr o))) => _) = _
    rw [q]
    rfl
  have stuck : (∀ f r, jx_ex jx_PP (f + 1) d y (i :: c) ls st h ≠ some r) → jx_ev d y (i :: c) ls st h = none := by
    intro q2
    refine jx_ev_none fun f r => ?_
    cases f with
    | zero => intro e; cases e
    | succ f => exact q2 f r
  cases d with
  | zero =>
    show _ = jx_cc 0 y c ls st' hd none
    exact stuck fun f r => by rw [key]; intro e; cases e
  | succ d' =>
    cases hl0 : jx_PP.2.1 z vs with
    | none =>
      have e0 : jx_cr (d' + 1) z vs h = none := by simp only [jx_cr, hl0]
      rw [e0]
      exact stuck fun f r => by rw [key, hl0]; intro e; cases e
    | some l0 =>
      have e0 : jx_cr (d' + 1) z vs h = jx_eb d' z 0 l0 [] h := by simp only [jx_cr, hl0]
      rw [e0]
      simp only [hl0] at key
      cases hc : jx_eb d' z 0 l0 [] h with
      | none =>
        refine stuck fun f r => ?_
        rw [key]
        cases e1 : jx_ex jx_PP f d' z (jx_PP.1 z 0) l0 [] h with
        | none => intro e; cases e
        | some rs =>
          have : jx_eb d' z 0 l0 [] h = some rs := jx_ev_iff.mpr ⟨f, e1⟩
          rw [this] at hc; cases hc
      | some rs =>
        obtain ⟨f0, e1⟩ := jx_ev_iff.mp (show jx_ev d' z (jx_PP.1 z 0) l0 [] h = some rs from hc)
        obtain ⟨v | u, h1⟩ := rs
        · show _ = jx_ev (d' + 1) y c ls (v.toList ++ st') h1
          cases e2 : jx_ev (d' + 1) y c ls (v.toList ++ st') h1 with
          | some r =>
            obtain ⟨f1, e3⟩ := jx_ev_iff.mp e2
            refine jx_ev_iff.mpr ⟨max f0 f1 + 1, ?_⟩
            rw [key, jx_mono2 (Nat.le_max_left f0 f1) e1]
            exact jx_mono2 (Nat.le_max_right f0 f1) e3
          | none =>
            refine stuck fun f r => ?_
            rw [key]
            cases e4 : jx_ex jx_PP f d' z (jx_PP.1 z 0) l0 [] h with
            | none => intro e; cases e
            | some rs2 =>
              have e5 : some rs2 = some (.inl v, h1) := by rw [← jx_ev_iff.mpr ⟨f, e4⟩]; exact hc
              cases e5
              intro e
              rw [jx_ev_iff.mpr ⟨f, e⟩] at e2
              cases e2
        · show _ = if hd = 0 then (if jx_PP.2.2.2 y = true then none else some (.inr (), h1)) else if hd = 1 then none else jx_eb (d' + 1) y (hd / 10) (jx_s1 ls (hd % 10) jx_un) [] h1
          by_cases hd0 : hd = 0
          · rw [if_pos hd0]
            by_cases hp : jx_PP.2.2.2 y = true
            · rw [if_pos hp]
              refine stuck fun f r => ?_
              rw [key]
              cases e4 : jx_ex jx_PP f d' z (jx_PP.1 z 0) l0 [] h with
              | none => intro e; cases e
              | some rs2 =>
                have e5 : some rs2 = some (.inr u, h1) := by rw [← jx_ev_iff.mpr ⟨f, e4⟩]; exact hc
                cases e5
                simp only
                rw [if_pos hd0, if_pos hp]
                intro e; cases e
            · rw [if_neg hp]
              refine jx_ev_iff.mpr ⟨f0 + 1, ?_⟩
              rw [key, e1]
              simp only
              rw [if_pos hd0, if_neg hp]
          · rw [if_neg hd0]
            by_cases hd1 : hd = 1
            · rw [if_pos hd1]
              refine stuck fun f r => ?_
              rw [key]
              cases e4 : jx_ex jx_PP f d' z (jx_PP.1 z 0) l0 [] h with
              | none => intro e; cases e
              | some rs2 =>
                have e5 : some rs2 = some (.inr u, h1) := by rw [← jx_ev_iff.mpr ⟨f, e4⟩]; exact hc
                cases e5
                simp only
                rw [if_neg hd0, if_pos hd1]
                intro e; cases e
            · rw [if_neg hd1]
              cases e2 : jx_eb (d' + 1) y (hd / 10) (jx_s1 ls (hd % 10) jx_un) [] h1 with
              | some r =>
                obtain ⟨f1, e3⟩ := jx_ev_iff.mp (show jx_ev (d' + 1) y (jx_PP.1 y (hd / 10)) (jx_s1 ls (hd % 10) jx_un) [] h1 = some r from e2)
                refine jx_ev_iff.mpr ⟨max f0 f1 + 1, ?_⟩
                rw [key, jx_mono2 (Nat.le_max_left f0 f1) e1]
                simp only
                rw [if_neg hd0, if_neg hd1]
                exact jx_mono2 (Nat.le_max_right f0 f1) e3
              | none =>
                refine stuck fun f r => ?_
                rw [key]
                cases e4 : jx_ex jx_PP f d' z (jx_PP.1 z 0) l0 [] h with
                | none => intro e; cases e
                | some rs2 =>
                  have e5 : some rs2 = some (.inr u, h1) := by rw [← jx_ev_iff.mpr ⟨f, e4⟩]; exact hc
                  cases e5
                  simp only
                  rw [if_neg hd0, if_neg hd1]
                  intro e
                  have e6 : jx_eb (d' + 1) y (hd / 10) (jx_s1 ls (hd % 10) jx_un) [] h1 = some r := jx_ev_iff.mpr ⟨f, e⟩
                  rw [e6] at e2
                  cases e2
end EV
