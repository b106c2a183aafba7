/-! WHAT A METHOD FINDS: classes, nest mates' links, strings, statics, the cells that nobody writes. -/
theorem jx_s2_ok {rv : Nat → Value} {ad : Nat → Nat} {nL : Nat} {ls : List Value} {lm lm' : Array Slot} {k : Nat} {x : Int64} (h : jx_lr rv ad nL ls lm) (hk : k + 1 < nL)
    (h' : lv_has lm' nL ((k, Value.long x) :: (jx_as rv ad ls).filter (fun q => !(q.1 == k) && (!(q.1 == k + 1) && !(q.1 + 1 == k && q.2.category == 2))))) (hrv : ∀ k, k < 3 → rv k = .null ∨ ∃ a, rv k = .ref a) : jx_lr rv ad nL (jx_s2 ls k x) lm' := by
  obtain ⟨g1, g2, g3, g4, g5, g6, g7⟩ := h
  have hk1 : k + 1 < ls.length := by omega
  have hk0 : k < ls.length := by omega
  have hun : jx_df jx_un = false := rfl
  have hus : jx_un ≠ jx_sn := by decide
  have hk2 : k < (jx_s1 ls (k + 1) jx_sn).length := by rw [jx_s1_len]; exact hk0
  have hsn : ∀ v : Value, jx_mk v = true ↔ v = jx_sn := fun v => ⟨jx_sn_mk, fun e => by rw [e]; rfl⟩
  have hgl : ∀ (l : List Value) (j : Nat), jx_mk (jx_gl l j) = true → l[j]? = some jx_sn := by
    intro l j q
    have := jx_sn_mk q
    unfold jx_gl at this
    cases hj : l[j]? with
    | none => rw [hj] at this; exact absurd this hus
    | some u => rw [hj] at this; simp at this; rw [this]
  -- the list behind the first store
  have e1 : ∀ j : Nat, (jx_s1 ls (k + 1) jx_sn)[j]? = if j = k + 1 then some jx_sn else if jx_mk (jx_gl ls (k + 1)) = true ∧ j + 1 = k + 1 then some jx_un else if jx_is2 (jx_gl ls (k + 1)) = true ∧ j = k + 1 + 1 ∧ j < ls.length then some jx_un else ls[j]? := fun j => jx_s1_get hk1 j
  have hnl : ¬ jx_is2 (jx_gl (jx_s1 ls (k + 1) jx_sn) k) = true := by
    intro q
    have e2 := e1 k
    rw [if_neg (by omega)] at e2
    by_cases q1 : jx_mk (jx_gl ls (k + 1)) = true
    · rw [if_pos ⟨q1, rfl⟩] at e2
      rw [jx_gl_at e2] at q
      cases q
    · rw [if_neg (fun z => q1 z.1), if_neg (fun z => by omega)] at e2
      have q2 : jx_is2 (jx_gl ls k) = true := by
        unfold jx_gl at q ⊢
        rw [e2] at q
        exact q
      obtain ⟨x2, hx2⟩ := jx_gl_is2 q2 (g7 k)
      exact q1 (by rw [jx_gl_at (g5 k x2 hx2)]; rfl)
  have e3 : ∀ j : Nat, (jx_s2 ls k x)[j]? = if j = k then some (Value.long x) else if jx_mk (jx_gl (jx_s1 ls (k + 1) jx_sn) k) = true ∧ j + 1 = k then some jx_un else (jx_s1 ls (k + 1) jx_sn)[j]? := by
    intro j
    unfold jx_s2
    rw [jx_s1_get hk2]
    rw [if_neg (show ¬ (jx_is2 (jx_gl (jx_s1 ls (k + 1) jx_sn) k) = true ∧ j = k + 1 ∧ j < (jx_s1 ls (k + 1) jx_sn).length) from fun z => hnl z.1)]
  have hmk : jx_mk (jx_gl (jx_s1 ls (k + 1) jx_sn) k) = true → ls[k]? = some jx_sn := by
    intro q
    have := hgl _ _ q
    rw [e1 k, if_neg (by omega)] at this
    split at this
    · cases this
    · rw [if_neg (fun z => by omega)] at this
      exact this
  refine ⟨h'.1, h'.2.1, by unfold jx_s2; rw [jx_s1_len, jx_s1_len]; exact g3, fun j u hj hd => ?_, fun j z hj => ?_, fun j hj => ?_, fun j z hj => ?_⟩
  · rw [e3] at hj
    split at hj
    · rename_i q; cases hj; subst q
      exact h'.2.2 _ List.mem_cons_self
    · rename_i q
      split at hj
      · cases hj; cases hd
      · rename_i q2
        rw [e1] at hj
        split at hj
        · cases hj; cases hd
        · rename_i q3
          split at hj
          · cases hj; cases hd
          · split at hj
            · cases hj; cases hd
            · refine h'.2.2 (j, jx_rl rv ad u) (List.mem_cons_of_mem _ (List.mem_filter.mpr ⟨jx_as_mem.mpr ⟨u, hj, hd, rfl⟩, ?_⟩))
              simp only [Bool.and_eq_true, Bool.not_eq_true', beq_eq_false_iff_ne, ne_eq, Bool.and_eq_false_iff]
              refine ⟨q, q3, ?_⟩
              by_cases q5 : j + 1 = k
              · right
                intro hc
                by_cases hu2 : jx_is2 u = true
                · obtain ⟨x2, hx⟩ : ∃ x, u = Value.long x := by
                    cases u <;> simp only [jx_is2] at hu2 <;> first | exact ⟨_, rfl⟩ | (exact absurd hj (g7 _ _)) | cases hu2
                  subst hx
                  have g := g5 j x2 hj
                  rw [q5] at g
                  refine q2 ⟨?_, q5⟩
                  have e2 := e1 k
                  rw [if_neg (by omega)] at e2
                  by_cases q6 : jx_mk (jx_gl ls (k + 1)) = true
                  · obtain ⟨i, x3, p1, p2⟩ := g6 (k + 1) (hgl _ _ q6)
                    have : i = k := by omega
                    subst this
                    rw [g] at p2; cases p2
                  · rw [if_neg (fun z => q6 z.1), if_neg (fun z => by omega), g] at e2
                    rw [jx_gl_at e2]; rfl
                · rw [jx_cat hrv hu2] at hc
                  cases hc
              · left; exact q5
  · rw [e3] at hj
    split at hj
    · rename_i q; subst q
      rw [e3, if_neg (by omega), if_neg (fun z => by omega), e1, if_pos rfl]
    · rename_i q
      split at hj
      · cases hj
      · rename_i q2
        rw [e1] at hj
        split at hj
        · cases hj
        · rename_i q3
          split at hj
          · cases hj
          · rename_i q4
            split at hj
            · cases hj
            · rename_i q5
              have g := g5 j z hj
              have p1 : ¬ j + 1 = k := by
                intro q6
                rw [q6] at g
                refine q2 ⟨?_, q6⟩
                have e2 := e1 k
                rw [if_neg (by omega)] at e2
                by_cases q6 : jx_mk (jx_gl ls (k + 1)) = true
                · obtain ⟨i, x3, p1, p2⟩ := g6 (k + 1) (hgl _ _ q6)
                  have : i = k := by omega
                  subst this
                  rw [g] at p2; cases p2
                · rw [if_neg (fun z => q6 z.1), if_neg (fun z => by omega), g] at e2
                  rw [jx_gl_at e2]; rfl
              rw [e3, if_neg p1]
              have p2 : ¬ (jx_mk (jx_gl (jx_s1 ls (k + 1) jx_sn) k) = true ∧ j + 1 + 1 = k) := by
                rintro ⟨r1, r2⟩
                obtain ⟨i, x3, w1, w2⟩ := g6 k (hmk r1)
                have : i = j + 1 := by omega
                subst this
                rw [g] at w2; cases w2
              rw [if_neg p2, e1]
              have p3 : ¬ j + 1 = k + 1 := by omega
              rw [if_neg p3]
              have p4 : ¬ (jx_mk (jx_gl ls (k + 1)) = true ∧ j + 1 + 1 = k + 1) := fun w => p1 (by omega)
              rw [if_neg p4]
              have p5 : ¬ (jx_is2 (jx_gl ls (k + 1)) = true ∧ j + 1 = k + 1 + 1 ∧ j + 1 < ls.length) := fun w => q3 (by omega)
              rw [if_neg p5]
              exact g
  · rw [e3] at hj
    split at hj
    · cases hj
    · rename_i q
      split at hj
      · cases hj
      · rename_i q2
        rw [e1] at hj
        split at hj
        · rename_i q3
          exact ⟨k, x, q3, by rw [e3, if_pos rfl]⟩
        · rename_i q3
          split at hj
          · cases hj
          · rename_i q4
            split at hj
            · cases hj
            · rename_i q5
              obtain ⟨i, z, w1, w2⟩ := g6 j hj
              subst w1
              refine ⟨i, z, rfl, ?_⟩
              have hjl : i + 1 < ls.length := (List.getElem?_eq_some_iff.mp hj).1
              have p1 : ¬ i = k := fun w => q3 (by omega)
              rw [e3, if_neg p1]
              have p2 : ¬ (jx_mk (jx_gl (jx_s1 ls (k + 1) jx_sn) k) = true ∧ i + 1 = k) := fun w => q w.2
              rw [if_neg p2, e1]
              have p3 : ¬ i = k + 1 := by
                intro w
                exact q5 ⟨by rw [← w, jx_gl_at w2]; rfl, by omega, hjl⟩
              rw [if_neg p3]
              have p4 : ¬ (jx_mk (jx_gl ls (k + 1)) = true ∧ i + 1 = k + 1) := fun w => p1 (by omega)
              rw [if_neg p4]
              have p5 : ¬ (jx_is2 (jx_gl ls (k + 1)) = true ∧ i = k + 1 + 1 ∧ i < ls.length) := by
                rintro ⟨r1, r2, -⟩
                obtain ⟨x2, hx2⟩ := jx_gl_is2 r1 (g7 (k + 1))
                have := g5 (k + 1) x2 hx2
                rw [← r2, w2] at this
                cases this
              rw [if_neg p5]
              exact w2
  · rw [e3] at hj
    split at hj
    · cases hj
    · split at hj
      · cases hj
      · rw [e1] at hj
        split at hj
        · cases hj
        · split at hj
          · cases hj
          · split at hj
            · cases hj
            · exact g7 j z hj
def jx_en : Nat → String
  | 4 => "java/lang/String"
  | 5 => "SpoonCourt$Rule"
  | 6 => "SpoonCourt$Clause"
  | _ => "SpoonCourt$Image"
theorem jx_ty_en {t : Nat} (h : 4 ≤ t) (h8 : t < 8) : jx_ty t = .object (jx_en t) := by
  match t, h, h8 with
  | 4, _, _ => rfl
  | 5, _, _ => rfl
  | 6, _, _ => rfl
  | 7, _, _ => rfl
def jx_sf : Nat → String × String × String
  | 0 => ("java/lang/Throwable", "UNASSIGNED_STACK", "[Ljava/lang/StackTraceElement;")
  | 1 => ("java/lang/Throwable", "SUPPRESSED_SENTINEL", "Ljava/util/List;")
  | 2 => ("jdk/internal/util/Preconditions", "SIOOBE_FORMATTER", "Ljava/util/function/BiFunction;")
  | _ => ("java/lang/String", "COMPACT_STRINGS", "Z")
def jx_sv (rv : Nat → Value) (k : Nat) : Value := if k = 3 then .int 1 else rv k
def jx_roat (ad : Nat → Nat) (A : Nat → Prop) (U : State) (H : Heap) (k : Nat) : va_E → Prop
  | .inl (t, n, .inl f) => (t = 8 → va_T .int (ad k) n (fun j => .int (f j)) A U H) ∧ (t = 9 → va_T .byte (ad k) n (fun j => .int (f j)) A U H)
  | .inl _ => True
  | .inr (_, fs) => ∃ v, fs = [.ref v, .int 0] ∧ 3 ≤ v ∧ va_O "java/lang/String" (ad k) A U H ∧ va_OF "java/lang/String" "coder" "B" (.int 0) (ad k) A U H ∧ va_OF "java/lang/String" "value" "[B" (.ref (ad v)) (ad k) A U H
def jx_nw : Cond → Bool
  | .fieldLinkNest .. => true
  | .methodLinkNest .. => true
  | .declares _ => true
  | .castable _ _ => true
  | _ => false
/-- world parameters: classes' numbers and slots, arrays' classes, unknown statics, read-only cells, nest words, strings -/
abbrev jx_W : Type := va_G × (Nat → ClassId) × (Nat → Value) × (Nat → va_E) × List Cond × List (String × Nat × Nat × String)
def jx_G (w : jx_W) (ad : Nat → Nat) (A : Nat → Prop) (U : State) (H : Heap) : Prop :=
  va_K w.1 jx_Cl (jx_tys w.2.1) U ∧ (∀ q ∈ w.2.2.2.2.1, jx_nw q = true ∧ va_Nw q U) ∧ (∀ t, 4 ≤ t → t < 8 → va_AO (jx_en t) U) ∧ (∀ q ∈ w.2.2.2.2.2, vk_R q.1 q.2.1 q.2.2.2 (ad (4 + q.2.2.1)) U) ∧
  (∀ k, k < 4 → va_Z (jx_sf k).1 (jx_sf k).2.1 (jx_sf k).2.2 (jx_sv w.2.2.1 k) A U H) ∧ (∀ k, k < 48 → jx_roat ad A U H k (w.2.2.2.1 k)) ∧ ∀ k, k < 3 → w.2.2.1 k = .null ∨ ∃ a, w.2.2.1 k = .ref a
theorem jx_nw_warm {q : Cond} {s U : State} (hq : jx_nw q = true) (hW : s.WarmedH U.vm) (h : va_Nw q s) : va_Nw q U := by
  cases q <;> simp only [jx_nw] at hq <;> first | exact va_Nw.warmF hW h | exact va_Nw.warmM hW h | exact va_Nw.warmD hW h | exact va_Nw.warmC hW h | cases hq
theorem jx_roat_to {ad : Nat → Nat} {A B : Nat → Prop} {s U : State} {H0 H : Heap} {k : Nat} {x : va_E} (h : jx_roat ad A s H0 k x) (hv : s.vm.Alike U.vm) (hk : ∀ a : Nat, a < H0.size → ¬ A a → H[a]? = H0[a]?) (hAB : ∀ q, B q → A q) : jx_roat ad B U H k x := by
  obtain ⟨t, m, f | f | f | f | f⟩ | ⟨ci, fs⟩ := x
  · exact ⟨fun q => va_T.narrow (va_T.moved hv (va_T.kept (h.1 q) hk)) hAB, fun q => va_T.narrow (va_T.moved hv (va_T.kept (h.2 q) hk)) hAB⟩
  · trivial
  · trivial
  · trivial
  · trivial
  · obtain ⟨v, h1, h2, h3, h4, h5⟩ := h
    exact ⟨v, h1, h2, va_O.narrow (va_O.moved hv (h3.kept hk)) hAB, va_OF.narrow (va_OF.moved hv (h4.kept hk)) hAB, va_OF.narrow (va_OF.moved hv (h5.kept hk)) hAB⟩
theorem jx_G_to {w : jx_W} {ad : Nat → Nat} {A B : Nat → Prop} {s U : State} {H0 H : Heap} (h : jx_G w ad A s H0) (hW : s.WarmedH U.vm) (hk : ∀ a : Nat, a < H0.size → ¬ A a → H[a]? = H0[a]?) (hAB : ∀ q, B q → A q) : jx_G w ad B U H := by
  obtain ⟨g1, g2, g3, g4, g5, g6, g7⟩ := h
  exact ⟨va_K.moved hW.alike g1, fun q hq => ⟨(g2 q hq).1, jx_nw_warm (g2 q hq).1 hW (g2 q hq).2⟩, fun t h4 h8 => va_AO.moved hW.alike (g3 t h4 h8), fun q hq => vk_R.warm hW (g4 q hq),
    fun k hk4 => va_Z.narrow (va_Z.moved hW.alike (va_Z.kept (g5 k hk4) hk)) hAB, fun k h48 => jx_roat_to (g6 k h48) hW.alike hk hAB, g7⟩
theorem jx_roat_ext {ad ad' : Nat → Nat} {A : Nat → Prop} {U : State} {H : Heap} {k : Nat} {x : va_E} (hx : ∀ k, k < 48 → ad' k = ad k) (hk : k < 48) (hv : ∀ ci v fs, x = .inr (ci, .ref v :: fs) → v < 48) (h : jx_roat ad A U H k x) : jx_roat ad' A U H k x := by
  obtain ⟨t, m, f | f | f | f | f⟩ | ⟨ci, fs⟩ := x
  · simp only [jx_roat] at h ⊢
    rw [hx k hk]
    exact h
  · trivial
  · trivial
  · trivial
  · trivial
  · obtain ⟨v, h1, h2, h3, h4, h5⟩ := h
    subst h1
    refine ⟨v, rfl, h2, ?_⟩
    rw [hx k hk, hx v (hv ci v _ rfl)]
    exact ⟨h3, h4, h5⟩
