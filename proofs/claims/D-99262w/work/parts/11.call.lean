/-! A METHOD's ENTRY AND A CALL -/
theorem jx_G_ext {w : jx_W} {ad ad' : Nat → Nat} {A : Nat → Prop} {U : State} {H : Heap} (hx : ∀ k, k < 48 → ad' k = ad k) (hsr : ∀ q ∈ w.2.2.2.2.2, q.2.2.1 < 22) (hro : ∀ k, k < 48 → jx_rt_ro (w.2.2.2.1 k)) (h : jx_G w ad A U H) : jx_G w ad' A U H := by
  obtain ⟨g1, g2, g3, g4, g5, g6, g7⟩ := h
  refine ⟨g1, g2, g3, fun q hq => ?_, g5, fun k hk => ?_, g7⟩
  · have := hsr q hq
    rw [hx _ (by omega)]
    exact g4 q hq
  · refine jx_roat_ext hx hk ?_ (g6 k hk)
    intro ci v fs e
    have := hro k hk
    rw [e] at this
    exact this.2 _ List.mem_cons_self
def jx_la : List Bool → List Value → Option (List Value)
  | [], [] => some []
  | true :: s, .long x :: r => (jx_la s r).map (fun t => .long x :: jx_sn :: t)
  | false :: s, v :: r => if jx_is2 v = true ∨ jx_mk v = true then none else (jx_la s r).map (fun t => v :: t)
  | _, _ => none
def jx_le (sh : List Bool) (n : Nat) (args : List Value) : Option (List Value) := match jx_la sh args with
  | some t => if t.length ≤ n then some (t ++ List.replicate (n - t.length) jx_un) else none
  | none => none
theorem jx_la_ok {rv : Nat → Value} (hrv : ∀ k, k < 3 → rv k = .null ∨ ∃ a, rv k = .ref a) {ad : Nat → Nat} : ∀ (sh : List Bool) (vs t : List Value), jx_la sh vs = some t →
    (lg_sl (vs.map (jx_rl rv ad))).length = t.length ∧ (∀ (j : Nat) (v : Value), t[j]? = some v → jx_df v = true → (lg_sl (vs.map (jx_rl rv ad)))[j]? = some (Slot.val (jx_rl rv ad v))) ∧
    (∀ (j : Nat) (x : Int64), t[j]? = some (Value.long x) → t[j + 1]? = some jx_sn) ∧ (∀ j : Nat, t[j]? = some jx_sn → ∃ i x, j = i + 1 ∧ t[i]? = some (Value.long x)) ∧ (∀ (j : Nat) (x : UInt64), t[j]? ≠ some (Value.double x)) ∧ ∀ u ∈ t, u ∈ vs ∨ u = jx_sn := by
  intro sh
  induction sh with
  | nil =>
    intro vs t h
    cases vs with
    | nil => cases h; simp [lg_sl]
    | cons v r => cases h
  | cons b sh ih =>
    intro vs t h
    cases vs with
    | nil => cases b <;> cases h
    | cons v r =>
      cases b with
      | true =>
        cases v <;> simp only [jx_la] at h <;> first | (cases h; done) | skip
        rename_i x
        cases ht : jx_la sh r with
        | none => rw [ht] at h; cases h
        | some t1 =>
          rw [ht] at h
          cases h
          obtain ⟨e1, e2, e3, e4, e5, e6⟩ := ih r t1 ht
          have hs : lg_sl ((Value.long x :: r).map (jx_rl rv ad)) = Slot.val (.long x) :: Slot.second :: lg_sl (r.map (jx_rl rv ad)) := by
            simp [lg_sl, jx_rl, Value.category]
          rw [hs]
          refine ⟨by simp [e1], fun j v hj hd => ?_, fun j y hj => ?_, fun j hj => ?_, fun j y hj => ?_, fun u hu => ?_⟩
          · match j, hj with
            | 0, hj => cases hj; rfl
            | 1, hj => cases hj; cases hd
            | j + 2, hj => exact e2 j v hj hd
          · match j, hj with
            | 0, hj => rfl
            | 1, hj => cases hj
            | j + 2, hj => exact e3 j y hj
          · match j, hj with
            | 0, hj => cases hj
            | 1, hj => exact ⟨0, x, rfl, rfl⟩
            | j + 2, hj =>
              obtain ⟨i, y, q1, q2⟩ := e4 j hj
              exact ⟨i + 2, y, by omega, q2⟩
          · match j, hj with
            | 0, hj => cases hj
            | 1, hj => cases hj
            | j + 2, hj => exact e5 j y hj
          · rcases List.mem_cons.mp hu with q | q
            · exact Or.inl (by rw [q]; exact List.mem_cons_self)
            · rcases List.mem_cons.mp q with q | q
              · exact Or.inr q
              · rcases e6 u q with z | z
                · exact Or.inl (List.mem_cons_of_mem _ z)
                · exact Or.inr z
      | false =>
        simp only [jx_la] at h
        split at h
        · cases h
        · rename_i h2
          cases ht : jx_la sh r with
          | none => rw [ht] at h; cases h
          | some t1 =>
            rw [ht] at h
            cases h
            obtain ⟨e1, e2, e3, e4, e5, e6⟩ := ih r t1 ht
            have hs : lg_sl ((v :: r).map (jx_rl rv ad)) = Slot.val (jx_rl rv ad v) :: lg_sl (r.map (jx_rl rv ad)) := by
              have := jx_cat hrv (ad := ad) (v := v) (fun z => h2 (Or.inl z))
              simp [lg_sl, this]
            rw [hs]
            refine ⟨by simp [e1], fun j u hj hd => ?_, fun j y hj => ?_, fun j hj => ?_, fun j y hj => ?_, fun u hu => ?_⟩
            · match j, hj with
              | 0, hj => cases hj; rfl
              | j + 1, hj => exact e2 j u hj hd
            · match j, hj with
              | 0, hj => cases hj; exact absurd (Or.inl rfl) h2
              | j + 1, hj => exact e3 j y hj
            · match j, hj with
              | 0, hj => cases hj; exact absurd (Or.inr rfl) h2
              | j + 1, hj =>
                obtain ⟨i, y, q1, q2⟩ := e4 j hj
                exact ⟨i + 1, y, by omega, q2⟩
            · match j, hj with
              | 0, hj => cases hj; exact absurd (Or.inl rfl) h2
              | j + 1, hj => exact e5 j y hj
            · rcases List.mem_cons.mp hu with q | q
              · exact Or.inl (by rw [q]; exact List.mem_cons_self)
              · rcases e6 u q with z | z
                · exact Or.inl (List.mem_cons_of_mem _ z)
                · exact Or.inr z
theorem jx_le_ok {rv : Nat → Value} (hrv : ∀ k, k < 3 → rv k = .null ∨ ∃ a, rv k = .ref a) {ad : Nat → Nat} {sh : List Bool} {n : Nat} {vs l0 : List Value} (h : jx_le sh n vs = some l0) :
    jx_lr rv ad n l0 (lg_sl (vs.map (jx_rl rv ad)) ++ List.replicate (n - (lg_sl (vs.map (jx_rl rv ad))).length) Slot.unset).toArray ∧ ∀ N, jx_vs N vs → jx_vs N l0 := by
  simp only [jx_le] at h
  split at h
  · rename_i t ht
    split at h
    · rename_i hn
      cases h
      obtain ⟨e1, e2, e3, e4, e5, e6⟩ := jx_la_ok hrv (ad := ad) sh vs t ht
      have hle : (lg_sl (vs.map (jx_rl rv ad))).length ≤ n := by rw [e1]; exact hn
      have hg := lv_entry (vs.map (jx_rl rv ad)) hle
      have hrep : ∀ (j : Nat) (u : Value), (List.replicate (n - t.length) jx_un)[j]? = some u → u = jx_un := fun j u hj => (List.mem_replicate.mp (List.mem_of_getElem? hj)).2
      have hpart : ∀ (j : Nat) (u : Value), (t ++ List.replicate (n - t.length) jx_un)[j]? = some u → t[j]? = some u ∨ u = jx_un := by
        intro j u hj
        rw [List.getElem?_append] at hj
        split at hj
        · exact Or.inl hj
        · exact Or.inr (hrep _ _ hj)
      have hlift : ∀ (j : Nat) (u : Value), t[j]? = some u → (t ++ List.replicate (n - t.length) jx_un)[j]? = some u := by
        intro j u hj
        rw [List.getElem?_append_left (List.getElem?_eq_some_iff.mp hj).1]
        exact hj
      refine ⟨⟨hg.1, hg.2.1, by simp; omega, fun j v hj hd => ?_, fun j x hj => ?_, fun j hj => ?_, fun j x hj => ?_⟩, fun N hN u hu => ?_⟩
      · rcases hpart j v hj with q | q
        · have q2 := e2 j v q hd
          rw [List.getElem?_toArray, List.getElem?_append_left (List.getElem?_eq_some_iff.mp q2).1]
          exact q2
        · rw [q] at hd; cases hd
      · rcases hpart j _ hj with q | q
        · exact hlift _ _ (e3 j x q)
        · cases q
      · rcases hpart j _ hj with q | q
        · obtain ⟨i, x, q1, q2⟩ := e4 j q
          exact ⟨i, x, q1, hlift _ _ q2⟩
        · exact absurd q (by decide)
      · rcases hpart j _ hj with q | q
        · exact e5 j x q
        · cases q
      · rcases List.mem_append.mp hu with q | q
        · rcases e6 u q with z | z
          · exact hN u z
          · rw [z]; simp [jx_sn, jx_vk]
        · rw [(List.mem_replicate.mp q).2]; simp [jx_un, jx_vk]
    · cases h
  · cases h
def jx_Pc (w : jx_W) (ad : Nat → Nat) (h : jx_H) (vs : List Value) (sz : Nat) : Array Value → State → Prop := va_Pc (vs.map (jx_rl w.2.2.1 ad)) (fun U => U.heap.size = sz ∧ va_P w.1 jx_Cl (jx_ws w.2.1 w.2.2.1 ad h) U.heap ∧ va_D (fun _ => True) (jx_ws w.2.1 w.2.2.1 ad h) ∧ jx_G w ad (va_A (jx_ws w.2.1 w.2.2.1 ad h) sz) U U.heap)
/-- the world that a method leaves -/
def jx_Out (w : jx_W) (ad : Nat → Nat) (h h' : jx_H) (sz : Nat) (ad' : Nat → Nat) (t : State) : Prop := (∀ j, j < h.2.1 → ad' j = ad j) ∧ va_P w.1 jx_Cl (jx_ws w.2.1 w.2.2.1 ad' h') t.heap ∧ va_D (va_A (jx_ws w.2.1 w.2.2.1 ad h) sz) (jx_ws w.2.1 w.2.2.1 ad' h') ∧ jx_wf w.2.2.2.1 h'
def jx_Qr (w : jx_W) (ad : Nat → Nat) (h h' : jx_H) (v : Option Value) (sz : Nat) : Array Value → State → Outcome → State → Prop := fun _ st o t => (∃ ad', o = .returned (v.map (jx_rl w.2.2.1 ad')) ∧ jx_Out w ad h h' sz ad' t ∧ ∀ u, v = some u → jx_vk h'.2.1 u) ∧ va_F (va_A (jx_ws w.2.1 w.2.2.1 ad h) sz) st t
def jx_Xr (w : jx_W) (ad : Nat → Nat) (h h' : jx_H) (sz : Nat) : String → State → State → Prop := fun E st t => E = "SpoonCourt$Fault" ∧ (∃ ad', jx_Out w ad h h' sz ad' t) ∧ va_F (va_A (jx_ws w.2.1 w.2.2.1 ad h) sz) st t
theorem jx_blind {w : jx_W} {ad : Nat → Nat} {h : jx_H} {vs : List Value} {sz : Nat} : FrameBlind (jx_Pc w ad h vs sz) := by
  intro a U g mk hq
  obtain ⟨q0, q1, q2, q3, q4⟩ := hq
  exact ⟨q0, q1, q2, q3, jx_G_to (s := U) (U := U.calling g mk a) q4 (State.WarmedH.refl U) (fun _ _ _ => rfl) (fun _ z => z)⟩
/-- the callee's start at a call -/
theorem jx_pre {w : jx_W} {ad : Nat → Nat} {h : jx_H} {vs : List Value} {A : Nat → Prop} {s : State} {H : Heap} {locs : List Loc} (G : jx_G w ad A s s.heap) (K : jx_At w ad A s h H locs) (hA : ∀ q, s.heap.size ≤ q → A q) {U : State} (hU : U.heap = H) (hW : s.WarmedH U.vm) : jx_Pc w ad h vs H.size (vs.map (jx_rl w.2.2.1 ad)).toArray U := by
  obtain ⟨hP, hD, hS, hw⟩ := K
  refine ⟨rfl, by rw [hU], by rw [hU]; exact hP, hD.weaken (fun _ _ _ _ => trivial), ?_⟩
  rw [hU]
  refine jx_G_to G hW hS.2.1 (fun q hq => ?_)
  rcases hq with ⟨k, e, hk⟩ | hq
  · exact hD.2 k _ hk
  · exact hA q (Nat.le_trans hS.1 hq)
