/-! JUMPS -/
def jx_RIb (pc : Nat) (i0 : Instr) (len : Nat) : Instr → Prop
  | .goto L => ∃ (off : Int) (t : Nat), i0 = .goto off ∧ len = 3 ∧ (pc : Int) + off = t ∧ L = t
  | .ifCond c L => ∃ (off : Int) (t : Nat), i0 = .ifCond c off ∧ len = 3 ∧ (pc : Int) + off = t ∧ L = t
  | .if_icmp c L => ∃ (off : Int) (t : Nat), i0 = .if_icmp c off ∧ len = 3 ∧ (pc : Int) + off = t ∧ L = t
  | .ifnull L => ∃ (off : Int) (t : Nat), i0 = .ifnull off ∧ len = 3 ∧ (pc : Int) + off = t ∧ L = t
  | .ifnonnull L => ∃ (off : Int) (t : Nat), i0 = .ifnonnull off ∧ len = 3 ∧ (pc : Int) + off = t ∧ L = t
  | .tableswitch dflt lo hi offs => ∃ (d : Int) (os : Array Int) (t : Nat), i0 = .tableswitch d lo hi os ∧ (pc : Int) + d = t ∧ dflt = t ∧ ∀ (j : Nat) (L : Int), offs[j]? = some L → ∃ (o : Int) (t : Nat), os[j]? = some o ∧ (pc : Int) + o = t ∧ L = t
  | .lookupswitch dflt ps => ∃ (d : Int) (qs : Array (Int × Int)), i0 = .lookupswitch d qs ∧ (qs.toList.zip (qs.toList.drop 1)).all (fun (a, next) => a.1 < next.1) = true ∧ ∀ x : Int, ∃ t : Nat, (pc : Int) + Op.lookupswitch.offset qs.toList d x = t ∧ Op.lookupswitch.offset ps.toList dflt x = t
  | _ => False
section JXB
variable {p : Program} {l : Launch} {e : Env} {R : Room} {s : State} {m : MethodId} {args : Array Value} {below : List Frame} {meth : Method} {c : Code} {H : Heap} {locs : List Loc} {cells slots : Nat} {Q : State → Prop}
variable {cc : ByteArray} {pc : Nat} {lm : Array Slot} {rv : Nat → Value} {ad : Nat → Nat} {ls st : List Value} {h : jx_H}
set_option maxHeartbeats 4000000 in
theorem jx_sb_ok (hx : p.tables.exec = Jvm.exec) (hb : c.code = cc) {i i0 : Instr} {len : Nat} {a : jx_A} (hi : jx_sb i ls st h = some a) (hdg : decode cc pc = .ok (i0, len)) (hR : jx_RIb pc i0 len i) (hcs : jx_vs h.2.1 st)
    (kn : ∀ st' : List Value, a = .inl (ls, st', h) → jx_vs h.2.1 st' → W p l e R s m args below meth c H locs cells slots Q (F0 m (pc + len) lm (st'.map (jx_rl rv ad))))
    (kj : ∀ (L : Nat) (st' : List Value), a = .inr (.inl (L, st')) → jx_vs h.2.1 st' → W p l e R s m args below meth c H locs cells slots Q (F0 m L lm (st'.map (jx_rl rv ad)))) :
    W p l e R s m args below meth c H locs cells slots Q (F0 m pc lm (st.map (jx_rl rv ad))) := by
  have c1 : ∀ {P : Int32 → Bool} {L : Int} {t : Nat}, L = (t : Int) → jx_c1 P L ls st h = some a → ∃ (x : Int32) (r : List Value), st = .int x :: r ∧ (P x = true → W p l e R s m args below meth c H locs cells slots Q (F0 m t lm (r.map (jx_rl rv ad)))) ∧ (¬ P x = true → W p l e R s m args below meth c H locs cells slots Q (F0 m (pc + len) lm (r.map (jx_rl rv ad)))) := by
    intro P L t hL hi
    subst hL
    simp only [jx_c1] at hi
    split at hi
    · rename_i x r _
      refine ⟨x, r, rfl, fun q => ?_, fun q => ?_⟩
      · rw [if_pos q] at hi
        cases hi
        exact kj _ _ rfl (jx_vs_t hcs)
      · rw [if_neg q] at hi
        cases hi
        exact kn _ rfl (jx_vs_t hcs)
    · cases hi
  have c2 : ∀ {P : Int32 → Int32 → Bool} {L : Int} {t : Nat}, L = (t : Int) → jx_c2 P L ls st h = some a → ∃ (x y : Int32) (r : List Value), st = .int y :: .int x :: r ∧ (P x y = true → W p l e R s m args below meth c H locs cells slots Q (F0 m t lm (r.map (jx_rl rv ad)))) ∧ (¬ P x y = true → W p l e R s m args below meth c H locs cells slots Q (F0 m (pc + len) lm (r.map (jx_rl rv ad)))) := by
    intro P L t hL hi
    subst hL
    simp only [jx_c2] at hi
    split at hi
    · rename_i y x r _
      refine ⟨x, y, r, rfl, fun q => ?_, fun q => ?_⟩
      · rw [if_pos q] at hi
        cases hi
        exact kj _ _ rfl (jx_vs_t (jx_vs_t hcs))
      · rw [if_neg q] at hi
        cases hi
        exact kn _ rfl (jx_vs_t (jx_vs_t hcs))
    · cases hi
  cases i with
  | goto L =>
    cases hi
    obtain ⟨off, t, rfl, rfl, e1, rfl⟩ := hR
    exact lv_goto hx hb hdg e1 (kj _ _ rfl hcs)
  | ifCond cd L =>
    obtain ⟨off, t, rfl, rfl, e1, eL⟩ := hR
    cases cd with
    | eq => obtain ⟨x, r, rfl, k1, k2⟩ := c1 eL hi; exact lv_if_eq hx hb hdg e1 (fun q => k1 (decide_eq_true q)) (fun q => k2 (fun z => q (of_decide_eq_true z)))
    | ne => obtain ⟨x, r, rfl, k1, k2⟩ := c1 eL hi; exact lv_if_ne hx hb hdg e1 (fun q => k1 (decide_eq_true q)) (fun q => k2 (fun z => of_decide_eq_true z q))
    | lt => obtain ⟨x, r, rfl, k1, k2⟩ := c1 eL hi; exact lv_if_lt hx hb hdg e1 (fun q => k1 (decide_eq_true q)) (fun q => k2 (fun z => q (of_decide_eq_true z)))
    | ge => obtain ⟨x, r, rfl, k1, k2⟩ := c1 eL hi; exact lv_if_ge hx hb hdg e1 (fun q => k1 (decide_eq_true q)) (fun q => k2 (fun z => q (of_decide_eq_true z)))
    | gt => obtain ⟨x, r, rfl, k1, k2⟩ := c1 eL hi; exact lv_if_gt hx hb hdg e1 (fun q => k1 (decide_eq_true q)) (fun q => k2 (fun z => q (of_decide_eq_true z)))
    | le => obtain ⟨x, r, rfl, k1, k2⟩ := c1 eL hi; exact lv_if_le hx hb hdg e1 (fun q => k1 (decide_eq_true q)) (fun q => k2 (fun z => q (of_decide_eq_true z)))
  | if_icmp cd L =>
    obtain ⟨off, t, rfl, rfl, e1, eL⟩ := hR
    cases cd with
    | eq => obtain ⟨x, y, r, rfl, k1, k2⟩ := c2 eL hi; exact lv_icmp_eq hx hb hdg e1 (fun q => k1 (decide_eq_true q)) (fun q => k2 (fun z => q (of_decide_eq_true z)))
    | ne => obtain ⟨x, y, r, rfl, k1, k2⟩ := c2 eL hi; exact lv_icmp_ne hx hb hdg e1 (fun q => k1 (decide_eq_true q)) (fun q => k2 (fun z => of_decide_eq_true z q))
    | lt => obtain ⟨x, y, r, rfl, k1, k2⟩ := c2 eL hi; exact lv_icmp_lt hx hb hdg e1 (fun q => k1 (decide_eq_true q)) (fun q => k2 (fun z => q (of_decide_eq_true z)))
    | ge => obtain ⟨x, y, r, rfl, k1, k2⟩ := c2 eL hi; exact lv_icmp_ge hx hb hdg e1 (fun q => k1 (decide_eq_true q)) (fun q => k2 (fun z => q (of_decide_eq_true z)))
    | gt => obtain ⟨x, y, r, rfl, k1, k2⟩ := c2 eL hi; exact lv_icmp_gt hx hb hdg e1 (fun q => k1 (decide_eq_true q)) (fun q => k2 (fun z => q (of_decide_eq_true z)))
    | le => obtain ⟨x, y, r, rfl, k1, k2⟩ := c2 eL hi; exact lv_icmp_le hx hb hdg e1 (fun q => k1 (decide_eq_true q)) (fun q => k2 (fun z => q (of_decide_eq_true z)))
  | ifnull L =>
    obtain ⟨off, t, rfl, rfl, e1, rfl⟩ := hR
    simp only [jx_sb] at hi
    split at hi
    · cases hi
      exact lv_ifnullN hx hb hdg e1 (kj _ _ rfl (jx_vs_t hcs))
    · rename_i k r
      split at hi
      · rename_i q
        cases hi
        have := kn _ rfl (jx_vs_t hcs)
        rw [List.map_cons, show jx_rl rv ad (.ref k) = .ref (ad k) from jx_rr_ge q]
        exact lv_ifnull hx hb hdg this
      · cases hi
    · cases hi
  | ifnonnull L =>
    obtain ⟨off, t, rfl, rfl, e1, rfl⟩ := hR
    simp only [jx_sb] at hi
    split at hi
    · cases hi
      exact lv_ifnonnullN hx hb hdg (kn _ rfl (jx_vs_t hcs))
    · rename_i k r
      split at hi
      · rename_i q
        cases hi
        have := kj _ _ rfl (jx_vs_t hcs)
        rw [List.map_cons, show jx_rl rv ad (.ref k) = .ref (ad k) from jx_rr_ge q]
        exact lv_ifnonnull hx hb hdg e1 this
      · cases hi
    · cases hi
  | tableswitch dflt lo hi2 offs =>
    obtain ⟨d, os, t, rfl, e1, rfl, h2⟩ := hR
    simp only [jx_sb] at hi
    split at hi
    · rename_i x r
      split at hi
      · rename_i q
        cases hi
        exact lv_tableOut hx hb hdg q e1 (kj _ _ rfl (jx_vs_t hcs))
      · rename_i q
        split at hi
        · rename_i L hL
          cases hi
          obtain ⟨o, t2, p1, p2, rfl⟩ := h2 _ _ hL
          exact lv_tableIn hx hb hdg (fun z => q (Or.inl z)) (fun z => q (Or.inr z)) p1 p2 (kj _ _ rfl (jx_vs_t hcs))
        · cases hi
    · cases hi
  | lookupswitch dflt ps =>
    obtain ⟨d, qs, rfl, h1, h2⟩ := hR
    simp only [jx_sb] at hi
    split at hi
    · rename_i x r
      cases hi
      obtain ⟨t, p1, p2⟩ := h2 x.toInt
      have := kj _ _ rfl (jx_vs_t hcs)
      rw [p2] at this
      exact lv_lookup hx hb hdg h1 rfl p1 this
    · cases hi
  | _ => exact absurd hR id
end JXB
