/-! HOW THE ABSTRACT STATE STANDS IN THE MACHINE: values, cells, locals. -/
abbrev jx_Cl : List vw_C := [(RX0, TX0, 22), (RX1, TX1, 23), (RX2, TX2, 8), (RX3, TX3, 53), (RX4, TX4, 7), (RX5, TX5, 2), (RX6, TX6, 2), (RX8, TX8, 1), (RX8, TX8, 1), (RX9, TX9, 1), (RX10, TX10, 3), (RX12, TX12, 1), (RX12, TX12, 1), (RX13, TX13, 3), (RX14, TX14, 3), (RX15, TX15, 4)]
def jx_ty : Nat → FieldType
  | 0 => .int
  | 1 => .byte
  | 2 => .long
  | 3 => .boolean
  | 4 => .object "java/lang/String"
  | 5 => .object "SpoonCourt$Rule"
  | 6 => .object "SpoonCourt$Clause"
  | _ => .object "SpoonCourt$Image"
def jx_tys (cA : Nat → ClassId) : List (ClassId × FieldType) := (List.range 8).map (fun t => (cA t, jx_ty t))
theorem jx_tys_at (cA : Nat → ClassId) {t : Nat} (h : t < 8) : (jx_tys cA)[t]? = some (cA t, jx_ty t) := by
  simp [jx_tys, h]
def jx_rr (rv : Nat → Value) (ad : Nat → Nat) (k : Nat) : Value := if k < 3 then rv k else .ref (ad k)
theorem jx_rr_lt {rv : Nat → Value} {ad : Nat → Nat} {k : Nat} (h : k < 3) : jx_rr rv ad k = rv k := if_pos h
theorem jx_rr_ge {rv : Nat → Value} {ad : Nat → Nat} {k : Nat} (h : 3 ≤ k) : jx_rr rv ad k = .ref (ad k) := if_neg (Nat.not_lt.mpr h)
def jx_rl (rv : Nat → Value) (ad : Nat → Nat) : Value → Value
  | .ref k => jx_rr rv ad k
  | v => v
def jx_re (cA : Nat → ClassId) (rv : Nat → Value) (ad : Nat → Nat) : va_E → va_E
  | .inl (t, n, .inr (.inr (.inr (.inr f)))) => .inl (cA t, n, .inr (.inr (.inr (.inr (fun j => (f j).map ad)))))
  | .inl (t, x) => .inl (cA t, x)
  | .inr (ci, fs) => .inr (ci, fs.map (jx_rl rv ad))
def jx_ws (cA : Nat → ClassId) (rv : Nat → Value) (ad : Nat → Nat) (h : jx_H) : va_W := (List.range (h.2.1 - 48)).map (fun j => (ad (48 + j), jx_re cA rv ad (h.1 (48 + j))))
def jx_vk (n : Nat) : Value → Prop
  | .ref k => k < n
  | _ => True
def jx_nn : Nat → Nat
  | 0 => 22
  | 1 => 23
  | 2 => 8
  | 3 => 53
  | 4 => 7
  | 5 => 2
  | 6 => 2
  | 8 => 1
  | 9 => 1
  | 10 => 3
  | 12 => 1
  | 13 => 3
  | 14 => 3
  | 15 => 4
  | _ => 0
/-- a cell of the run's own: its tag fits it, its references lie below n -/
def jx_ok (n : Nat) : va_E → Prop
  | .inl (t, _, .inl _) => t = 0 ∨ t = 1 ∨ t = 3
  | .inl (t, _, .inr (.inl _)) => t = 2
  | .inl (t, _, .inr (.inr (.inr (.inr f)))) => 4 ≤ t ∧ t < 8 ∧ ∀ j a, f j = some a → 3 ≤ a ∧ a < n
  | .inl _ => False
  | .inr (ci, fs) => 0 < jx_nn ci ∧ fs.length = jx_nn ci ∧ ∀ v ∈ fs, jx_vk n v
/-- a cell that nobody writes -/
def jx_rt_ro : va_E → Prop
  | .inl (t, _, .inl _) => 8 ≤ t ∧ t ≤ 10
  | .inl _ => False
  | .inr (ci, fs) => ci = 19 ∧ ∀ u ∈ fs, jx_vk 48 u
def jx_wf (S : Nat → va_E) (h : jx_H) : Prop := 48 ≤ h.2.1 ∧ (∀ k, k < 48 → h.1 k = S k ∧ jx_rt_ro (S k)) ∧ ∀ k, 48 ≤ k → k < h.2.1 → jx_ok h.2.1 (h.1 k)
def jx_vs (n : Nat) (l : List Value) : Prop := ∀ v ∈ l, jx_vk n v
theorem jx_vk_le {n n' : Nat} (h : n ≤ n') {v : Value} (hv : jx_vk n v) : jx_vk n' v := by
  cases v <;> simp only [jx_vk] at hv ⊢
  exact Nat.lt_of_lt_of_le hv h
theorem jx_vs_le {n n' : Nat} (h : n ≤ n') {l : List Value} (hv : jx_vs n l) : jx_vs n' l := fun v m => jx_vk_le h (hv v m)
theorem jx_rl_ext {rv : Nat → Value} {ad ad' : Nat → Nat} {n : Nat} (hx : ∀ k, k < n → ad' k = ad k) {v : Value} (hv : jx_vk n v) : jx_rl rv ad' v = jx_rl rv ad v := by
  cases v <;> simp only [jx_rl, jx_rr]
  rw [hx _ hv]
theorem jx_map_ext {rv : Nat → Value} {ad ad' : Nat → Nat} {n : Nat} (hx : ∀ k, k < n → ad' k = ad k) {l : List Value} (hv : jx_vs n l) : l.map (jx_rl rv ad') = l.map (jx_rl rv ad) :=
  List.map_congr_left fun v m => jx_rl_ext hx (hv v m)
theorem jx_re_ext {cA : Nat → ClassId} {rv : Nat → Value} {ad ad' : Nat → Nat} {n : Nat} (hx : ∀ k, k < n → ad' k = ad k) {c : va_E} (hc : jx_ok n c) : jx_re cA rv ad' c = jx_re cA rv ad c := by
  obtain ⟨t, m, f | f | f | f | f⟩ | ⟨ci, fs⟩ := c
  · rfl
  · rfl
  · rfl
  · rfl
  · simp only [jx_ok] at hc
    simp only [jx_re]
    congr 5
    congr 1
    congr 1
    congr 1
    funext j
    cases hf : f j with
    | none => rfl
    | some a => simp [hx a (hc.2.2 j a hf).2]
  · simp only [jx_ok] at hc
    simp only [jx_re]
    rw [jx_map_ext hx hc.2.2]
theorem jx_ok_le {n n' : Nat} (h : n ≤ n') {c : va_E} (hc : jx_ok n c) : jx_ok n' c := by
  obtain ⟨t, m, f | f | f | f | f⟩ | ⟨ci, fs⟩ := c
  · exact hc
  · exact hc
  · exact hc
  · exact hc
  · exact ⟨hc.1, hc.2.1, fun j a q => ⟨(hc.2.2 j a q).1, Nat.lt_of_lt_of_le (hc.2.2 j a q).2 h⟩⟩
  · exact ⟨hc.1, hc.2.1, fun v m => jx_vk_le h (hc.2.2 v m)⟩
theorem jx_ws_at {cA : Nat → ClassId} {rv : Nat → Value} {ad : Nat → Nat} {h : jx_H} {k : Nat} (h1 : 48 ≤ k) (h2 : k < h.2.1) : (jx_ws cA rv ad h)[k - 48]? = some (ad k, jx_re cA rv ad (h.1 k)) := by
  have : k - 48 < h.2.1 - 48 := by omega
  simp only [jx_ws, List.getElem?_map, List.getElem?_range this, Option.map_some]
  rw [show 48 + (k - 48) = k by omega]
theorem jx_ws_put {cA : Nat → ClassId} {rv : Nat → Value} {ad : Nat → Nat} {h : jx_H} {k : Nat} (h1 : 48 ≤ k) (x : va_E) : (jx_ws cA rv ad h).set (k - 48) (ad k, jx_re cA rv ad x) = jx_ws cA rv ad (jx_put h k x) := by
  apply List.ext_getElem?
  intro i
  by_cases hi : i < h.2.1 - 48
  · by_cases hk : k - 48 = i
    · subst hk
      rw [List.getElem?_set_self (by simp [jx_ws, hi])]
      simp only [jx_ws, jx_put, List.getElem?_map, List.getElem?_range hi, Option.map_some]
      rw [show 48 + (k - 48) = k by omega]
      simp
    · rw [List.getElem?_set_ne hk]
      simp only [jx_ws, jx_put, List.getElem?_map, List.getElem?_range hi, Option.map_some]
      rw [if_neg (by omega)]
  · rw [List.getElem?_eq_none (by simp [jx_ws]; omega), List.getElem?_eq_none (by simp [jx_ws, jx_put]; omega)]
theorem jx_ws_new {cA : Nat → ClassId} {rv : Nat → Value} {ad : Nat → Nat} {h : jx_H} {S : Nat → va_E} (hw : jx_wf S h) (x : va_E) (n q : Nat) (ad' : Nat → Nat) (hx : ∀ k, k < h.2.1 → ad' k = ad k) (hq : ad' h.2.1 = q) : jx_ws cA rv ad h ++ [(q, jx_re cA rv ad' x)] = jx_ws cA rv ad' (jx_new h x n) := by
  have hn := hw.1
  simp only [jx_ws, jx_new]
  rw [show h.2.1 + 1 - 48 = (h.2.1 - 48) + 1 by omega, List.range_succ, List.map_append]
  congr 1
  · apply List.map_congr_left
    intro j hj
    have hj : j < h.2.1 - 48 := List.mem_range.mp hj
    rw [hx _ (by omega), if_neg (by omega), jx_re_ext hx (hw.2.2 _ (by omega) (by omega))]
  · simp only [List.map_cons, List.map_nil]
    rw [show 48 + (h.2.1 - 48) = h.2.1 by omega, hq, if_pos rfl]
theorem jx_wf_put {S : Nat → va_E} {h : jx_H} (hw : jx_wf S h) {k : Nat} {x : va_E} (h1 : 48 ≤ k) (hx : jx_ok h.2.1 x) : jx_wf S (jx_put h k x) := by
  refine ⟨hw.1, fun j hj => ?_, fun j hj hn => ?_⟩
  · simp only [jx_put]
    rw [if_neg (by omega)]
    exact hw.2.1 j hj
  · simp only [jx_put]
    split
    · exact hx
    · exact hw.2.2 j hj hn
theorem jx_wf_new {S : Nat → va_E} {h : jx_H} (hw : jx_wf S h) {x : va_E} {n : Nat} (hx : jx_ok (h.2.1 + 1) x) : jx_wf S (jx_new h x n) := by
  refine ⟨Nat.le_succ_of_le hw.1, fun j hj => ?_, fun j hj hn => ?_⟩
  · have := hw.1
    simp only [jx_new]
    rw [if_neg (by omega)]
    exact hw.2.1 j hj
  · simp only [jx_new] at hn ⊢
    split
    · exact hx
    · exact jx_ok_le (Nat.le_succ _) (hw.2.2 j hj (by omega))
/-- a cell that is no read-only one lies behind them -/
theorem jx_wf_rw {S : Nat → va_E} {h : jx_H} (hw : jx_wf S h) {k : Nat} (hn : ¬ jx_rt_ro (h.1 k)) : 48 ≤ k := by
  rcases Nat.lt_or_ge k 48 with q | q
  · exact absurd (by rw [(hw.2.1 k q).1]; exact (hw.2.1 k q).2) hn
  · exact q
theorem jx_cat {rv : Nat → Value} (hrv : ∀ k, k < 3 → rv k = .null ∨ ∃ a, rv k = .ref a) {ad : Nat → Nat} {v : Value} (h : ¬ jx_is2 v = true) : (jx_rl rv ad v).category = 1 := by
  cases v with
  | ref k =>
    simp only [jx_rl, jx_rr]
    split
    · rename_i q
      rcases hrv _ q with e | ⟨a, e⟩ <;> rw [e] <;> rfl
    · rfl
  | long x => exact absurd rfl h
  | double x => exact absurd rfl h
  | _ => rfl
theorem jx_cat_le {rv : Nat → Value} (hrv : ∀ k, k < 3 → rv k = .null ∨ ∃ a, rv k = .ref a) {ad : Nat → Nat} (v : Value) : (jx_rl rv ad v).category ≤ 2 := by
  rcases lv_cat (jx_rl rv ad v) with h | h <;> omega
theorem jx_cat_sum {rv : Nat → Value} (hrv : ∀ k, k < 3 → rv k = .null ∨ ∃ a, rv k = .ref a) {ad : Nat → Nat} (l : List Value) : ((l.map (jx_rl rv ad)).map fun v => v.category).sum ≤ 2 * l.length := by
  induction l with
  | nil => simp
  | cons a l ih =>
    have := jx_cat_le hrv (ad := ad) a
    simp only [List.map_cons, List.sum_cons, List.length_cons]
    omega
/-- locals -/
def jx_lr (rv : Nat → Value) (ad : Nat → Nat) (nL : Nat) (ls : List Value) (lm : Array Slot) : Prop :=
  lm.size = nL ∧ lv_wf lm ∧ ls.length = nL ∧ (∀ (j : Nat) (v : Value), ls[j]? = some v → jx_df v = true → lm[j]? = some (Slot.val (jx_rl rv ad v))) ∧
  (∀ (j : Nat) (x : Int64), ls[j]? = some (Value.long x) → ls[j + 1]? = some jx_sn) ∧ (∀ j : Nat, ls[j]? = some jx_sn → ∃ i x, j = i + 1 ∧ ls[i]? = some (Value.long x)) ∧ ∀ (j : Nat) (x : UInt64), ls[j]? ≠ some (Value.double x)
def jx_as (rv : Nat → Value) (ad : Nat → Nat) (ls : List Value) : List (Nat × Value) := (List.range ls.length).filterMap (fun j => match ls[j]? with
  | some v => if jx_df v = true then some (j, jx_rl rv ad v) else none
  | none => none)
theorem jx_as_mem {rv : Nat → Value} {ad : Nat → Nat} {ls : List Value} {j : Nat} {w : Value} : (j, w) ∈ jx_as rv ad ls ↔ ∃ v, ls[j]? = some v ∧ jx_df v = true ∧ w = jx_rl rv ad v := by
  simp only [jx_as, List.mem_filterMap, List.mem_range]
  constructor
  · rintro ⟨i, hi, h⟩
    split at h
    · rename_i v hv
      split at h
      · cases h
        exact ⟨v, hv, by assumption, rfl⟩
      · cases h
    · cases h
  · rintro ⟨v, h1, h2, rfl⟩
    refine ⟨j, (List.getElem?_eq_some_iff.mp h1).1, ?_⟩
    rw [h1]
    simp [h2]
theorem jx_lr_has {rv : Nat → Value} {ad : Nat → Nat} {nL : Nat} {ls : List Value} {lm : Array Slot} (h : jx_lr rv ad nL ls lm) : lv_has lm nL (jx_as rv ad ls) := by
  refine ⟨h.1, h.2.1, ?_⟩
  rintro ⟨j, w⟩ hq
  obtain ⟨v, h1, h2, rfl⟩ := jx_as_mem.mp hq
  exact h.2.2.2.1 j v h1 h2
theorem jx_lr_at {rv : Nat → Value} {ad : Nat → Nat} {nL : Nat} {ls : List Value} {lm : Array Slot} (h : jx_lr rv ad nL ls lm) {k : Nat} {v : Value} (hv : jx_gl ls k = v) (hd : jx_df v = true) : lm[k]? = some (Slot.val (jx_rl rv ad v)) := by
  unfold jx_gl at hv
  cases hk : ls[k]? with
  | none => rw [hk] at hv; subst hv; simp [jx_un, jx_df] at hd
  | some u => rw [hk] at hv; simp at hv; subst hv; exact h.2.2.2.1 k u hk hd
theorem jx_lr_mem {n : Nat} {ls : List Value} (h : jx_vs n ls) {k : Nat} {v : Value} (hv : jx_gl ls k = v) : jx_vk n v := by
  unfold jx_gl at hv
  cases hk : ls[k]? with
  | none => rw [hk] at hv; subst hv; simp [jx_un, jx_vk]
  | some u => rw [hk] at hv; simp at hv; subst hv; exact h _ (List.mem_of_getElem? hk)
theorem jx_lr_ext {rv : Nat → Value} {ad ad' : Nat → Nat} {nL n : Nat} {ls : List Value} {lm : Array Slot} (h : jx_lr rv ad nL ls lm) (hc : jx_vs n ls) (hx : ∀ k, k < n → ad' k = ad k) : jx_lr rv ad' nL ls lm :=
  ⟨h.1, h.2.1, h.2.2.1, fun j v h1 h2 => by rw [jx_rl_ext hx (hc v (List.mem_of_getElem? h1))]; exact h.2.2.2.1 j v h1 h2, h.2.2.2.2⟩
theorem jx_sn_mk {v : Value} : jx_mk v = true → v = jx_sn := by
  cases v <;> simp [jx_mk, jx_sn]
theorem jx_s1_get {ls : List Value} {k : Nat} {v : Value} (hk : k < ls.length) (j : Nat) : (jx_s1 ls k v)[j]? = if j = k then some v else if jx_mk (jx_gl ls k) = true ∧ j + 1 = k then some jx_un else if jx_is2 (jx_gl ls k) = true ∧ j = k + 1 ∧ j < ls.length then some jx_un else ls[j]? := by
  simp only [jx_s1]
  by_cases e : j = k
  · subst e
    rw [if_pos rfl]
    apply List.getElem?_set_self
    repeat' split
    all_goals (try simp only [List.length_set])
    all_goals exact hk
  · rw [if_neg e, List.getElem?_set_ne (Ne.symm e)]
    by_cases h1 : jx_mk (jx_gl ls k) = true
    · have h2 : ¬ jx_is2 (jx_gl ls k) = true := by rw [jx_sn_mk h1]; simp [jx_sn, jx_is2]
      rw [if_neg h2, if_pos h1]
      by_cases e2 : j + 1 = k
      · rw [if_pos ⟨h1, e2⟩]
        subst e2
        exact List.getElem?_set_self (by omega)
      · rw [if_neg (fun q => e2 q.2), if_neg (fun q => h2 q.1), List.getElem?_set_ne (by omega)]
    · rw [if_neg h1, if_neg (show ¬ (jx_mk (jx_gl ls k) = true ∧ j + 1 = k) from fun q => h1 q.1)]
      by_cases h2 : jx_is2 (jx_gl ls k) = true
      · rw [if_pos h2]
        by_cases e2 : j = k + 1
        · subst e2
          by_cases e3 : k + 1 < ls.length
          · rw [if_pos (show jx_is2 (jx_gl ls k) = true ∧ k + 1 = k + 1 ∧ k + 1 < ls.length from ⟨h2, rfl, e3⟩)]
            exact List.getElem?_set_self e3
          · rw [if_neg (show ¬ (jx_is2 (jx_gl ls k) = true ∧ k + 1 = k + 1 ∧ k + 1 < ls.length) from fun q => e3 q.2.2), List.getElem?_eq_none (by simp; omega), List.getElem?_eq_none (by omega)]
        · rw [if_neg (show ¬ (jx_is2 (jx_gl ls k) = true ∧ j = k + 1 ∧ j < ls.length) from fun q => e2 q.2.1), List.getElem?_set_ne (Ne.symm e2)]
      · rw [if_neg h2, if_neg (show ¬ (jx_is2 (jx_gl ls k) = true ∧ j = k + 1 ∧ j < ls.length) from fun q => h2 q.1)]
theorem jx_s1_len {ls : List Value} {k : Nat} {v : Value} : (jx_s1 ls k v).length = ls.length := by
  simp only [jx_s1]
  repeat' split
  all_goals simp only [List.length_set]
theorem jx_gl_at {ls : List Value} {k : Nat} {v : Value} (h : ls[k]? = some v) : jx_gl ls k = v := by simp [jx_gl, h]
theorem jx_gl_is2 {ls : List Value} {k : Nat} (h : jx_is2 (jx_gl ls k) = true) (hd : ∀ x, ls[k]? ≠ some (Value.double x)) : ∃ x, ls[k]? = some (Value.long x) := by
  unfold jx_gl at h
  cases hk : ls[k]? with
  | none => rw [hk] at h; simp [jx_un, jx_is2] at h
  | some u =>
    rw [hk] at h
    simp only [Option.getD_some] at h
    cases u <;> simp only [jx_is2] at h <;> first | exact ⟨_, rfl⟩ | (exact absurd hk (hd _)) | cases h
/-- a store of a value of category 1 (or of one of which nothing is said) -/
theorem jx_s1_ok {rv : Nat → Value} {ad : Nat → Nat} {nL : Nat} {ls : List Value} {lm lm' : Array Slot} {k : Nat} {v w : Value} (h : jx_lr rv ad nL ls lm) (hk : k < nL) (hv : ¬ jx_is2 v = true) (hm : ¬ v = jx_sn) (hw : jx_df v = true → w = jx_rl rv ad v)
    (h' : lv_has lm' nL ((k, w) :: (jx_as rv ad ls).filter (fun q => !(q.1 == k) && !(q.1 + 1 == k && q.2.category == 2)))) (hrv : ∀ k, k < 3 → rv k = .null ∨ ∃ a, rv k = .ref a) : jx_lr rv ad nL (jx_s1 ls k v) lm' := by
  obtain ⟨g1, g2, g3, g4, g5, g6, g7⟩ := h
  have hkl : k < ls.length := by omega
  have hun : jx_df jx_un = false := rfl
  have hus : jx_un ≠ jx_sn := by decide
  refine ⟨h'.1, h'.2.1, by rw [jx_s1_len]; exact g3, fun j u hj hd => ?_, fun j x hj => ?_, fun j hj => ?_, fun j x hj => ?_⟩
  · rw [jx_s1_get hkl] at hj
    split at hj
    · rename_i e
      cases hj
      subst e
      rw [← hw hd]
      exact h'.2.2 _ List.mem_cons_self
    · rename_i e
      split at hj
      · cases hj; rw [hun] at hd; cases hd
      · rename_i e2
        split at hj
        · cases hj; rw [hun] at hd; cases hd
        · refine h'.2.2 (j, jx_rl rv ad u) (List.mem_cons_of_mem _ (List.mem_filter.mpr ⟨jx_as_mem.mpr ⟨u, hj, hd, rfl⟩, ?_⟩))
          simp only [Bool.and_eq_true, Bool.not_eq_true', beq_eq_false_iff_ne, ne_eq, Bool.and_eq_false_iff]
          refine ⟨e, ?_⟩
          by_cases q : j + 1 = k
          · right
            intro hc
            by_cases hu2 : jx_is2 u = true
            · obtain ⟨x, hx⟩ : ∃ x, u = Value.long x := by
                cases u <;> simp only [jx_is2] at hu2 <;> first | exact ⟨_, rfl⟩ | (exact absurd hj (g7 _ _)) | cases hu2
              subst hx
              have := g5 j x hj
              rw [q] at this
              exact e2 ⟨by rw [jx_gl_at this]; rfl, q⟩
            · rw [jx_cat hrv hu2] at hc
              cases hc
          · left; exact q
  · rw [jx_s1_get hkl] at hj
    split at hj
    · cases hj; exact absurd rfl hv
    · rename_i e
      split at hj
      · cases hj
      · rename_i e2
        split at hj
        · cases hj
        · have g := g5 j x hj
          rw [jx_s1_get hkl]
          have e3 : ¬ j + 1 = k := fun q => e2 ⟨by rw [q] at g; rw [jx_gl_at g]; rfl, q⟩
          rw [if_neg e3]
          have e4 : ¬ (jx_mk (jx_gl ls k) = true ∧ j + 1 + 1 = k) := by
            rintro ⟨q1, q2⟩
            have hs : ls[k]? = some jx_sn := by
              have := jx_sn_mk q1
              unfold jx_gl at this
              cases hk2 : ls[k]? with
              | none => rw [hk2] at this; exact absurd this hus
              | some u => rw [hk2] at this; simp at this; rw [this]
            obtain ⟨i, x2, q3, q4⟩ := g6 k hs
            have : i = j + 1 := by omega
            subst this
            rw [g] at q4
            cases q4
          rw [if_neg e4]
          have e5 : ¬ (jx_is2 (jx_gl ls k) = true ∧ j + 1 = k + 1 ∧ j + 1 < ls.length) := by
            rintro ⟨q1, q2, q3⟩
            omega
          rw [if_neg e5]
          exact g
  · rw [jx_s1_get hkl] at hj
    split at hj
    · cases hj; exact absurd rfl hm
    · rename_i e
      split at hj
      · cases hj
      · rename_i e2
        split at hj
        · cases hj
        · rename_i e3
          obtain ⟨i, x, q1, q2⟩ := g6 j hj
          subst q1
          refine ⟨i, x, rfl, ?_⟩
          rw [jx_s1_get hkl]
          have hjl : i + 1 < ls.length := (List.getElem?_eq_some_iff.mp hj).1
          have e4 : ¬ i = k := fun q => e3 ⟨by subst q; rw [jx_gl_at q2]; rfl, by omega, hjl⟩
          rw [if_neg e4]
          have e5 : ¬ (jx_mk (jx_gl ls k) = true ∧ i + 1 = k) := fun q => e q.2
          rw [if_neg e5]
          have e6 : ¬ (jx_is2 (jx_gl ls k) = true ∧ i = k + 1 ∧ i < ls.length) := by
            rintro ⟨p1, p2, -⟩
            obtain ⟨x2, hx2⟩ := jx_gl_is2 p1 (g7 k)
            have := g5 k x2 hx2
            rw [← p2, q2] at this
            cases this
          rw [if_neg e6]
          exact q2
  · rw [jx_s1_get hkl] at hj
    split at hj
    · cases hj; exact absurd rfl hv
    · split at hj
      · cases hj
      · split at hj
        · cases hj
        · exact g7 j x hj
