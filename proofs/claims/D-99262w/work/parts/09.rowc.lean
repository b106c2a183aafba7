/-! STEPS ON THE HEAP -/
theorem jx_cls {ci : Nat} {q : vw_C} (h : jx_Cl[ci]? = some q) : (∀ w ∈ u_ws q.1 q.2.1 q.2.2, w ∈ lw_all) ∧ (∃ ty0 : Nat → FieldType, ∀ k, k < q.2.2 → parseFieldDescriptor (q.2.1 k).2.2.1 = some (ty0 k)) ∧ ∀ a, a < q.2.2 → ∀ b, b < q.2.2 → a ≠ b → (q.2.1 a).2.1 ≠ (q.2.1 b).2.1 := by
  match ci, h with
  | 0, h => cases h; exact ⟨in_X0, ⟨_, tyX0_ok⟩, nmX0⟩
  | 1, h => cases h; exact ⟨in_X1, ⟨_, tyX1_ok⟩, nmX1⟩
  | 2, h => cases h; exact ⟨in_X2, ⟨_, tyX2_ok⟩, nmX2⟩
  | 3, h => cases h; exact ⟨in_X3, ⟨_, tyX3_ok⟩, nmX3⟩
  | 4, h => cases h; exact ⟨in_X4, ⟨_, tyX4_ok⟩, nmX4⟩
  | 5, h => cases h; exact ⟨in_X5, ⟨_, tyX5_ok⟩, nmX5⟩
  | 6, h => cases h; exact ⟨in_X6, ⟨_, tyX6_ok⟩, nmX6⟩
  | 7, h => cases h; exact ⟨in_X8, ⟨_, tyX8_ok⟩, nmX8⟩
  | 8, h => cases h; exact ⟨in_X8, ⟨_, tyX8_ok⟩, nmX8⟩
  | 9, h => cases h; exact ⟨in_X9, ⟨_, tyX9_ok⟩, nmX9⟩
  | 10, h => cases h; exact ⟨in_X10, ⟨_, tyX10_ok⟩, nmX10⟩
  | 11, h => cases h; exact ⟨in_X12, ⟨_, tyX12_ok⟩, nmX12⟩
  | 12, h => cases h; exact ⟨in_X12, ⟨_, tyX12_ok⟩, nmX12⟩
  | 13, h => cases h; exact ⟨in_X13, ⟨_, tyX13_ok⟩, nmX13⟩
  | 14, h => cases h; exact ⟨in_X14, ⟨_, tyX14_ok⟩, nmX14⟩
  | 15, h => cases h; exact ⟨in_X15, ⟨_, tyX15_ok⟩, nmX15⟩
  | n + 16, h => simp [jx_Cl] at h
def jx_tyc (q : vw_C) (ci k : Nat) : FieldType := match ci with
  | 0 => tyX0 k
  | 1 => tyX1 k
  | 2 => tyX2 k
  | 3 => tyX3 k
  | 4 => tyX4 k
  | 5 => tyX5 k
  | 6 => tyX6 k
  | 8 => tyX8 k
  | 9 => tyX9 k
  | 10 => tyX10 k
  | 12 => tyX12 k
  | 13 => tyX13 k
  | 14 => tyX14 k
  | _ => tyX15 k
theorem jx_tyc_ok {ci : Nat} {q : vw_C} (h : jx_Cl[ci]? = some q) (hn : 0 < jx_nn ci) : q.2.2 = jx_nn ci ∧ (∀ k, k < q.2.2 → parseFieldDescriptor (q.2.1 k).2.2.1 = some (jx_tyc q ci k)) ∧ ∀ j, j < q.2.2 → defaultValue (jx_tyc q ci j) = vp_V (jx_nf ci) j := by
  match ci, h with
  | 0, h => cases h; exact ⟨rfl, tyX0_ok, by decide +kernel⟩
  | 1, h => cases h; exact ⟨rfl, tyX1_ok, by decide +kernel⟩
  | 2, h => cases h; exact ⟨rfl, tyX2_ok, by decide +kernel⟩
  | 3, h => cases h; exact ⟨rfl, tyX3_ok, by decide +kernel⟩
  | 4, h => cases h; exact ⟨rfl, tyX4_ok, by decide +kernel⟩
  | 5, h => cases h; exact ⟨rfl, tyX5_ok, by decide +kernel⟩
  | 6, h => cases h; exact ⟨rfl, tyX6_ok, by decide +kernel⟩
  | 7, h => exact absurd hn (by decide)
  | 8, h => cases h; exact ⟨rfl, tyX8_ok, by decide +kernel⟩
  | 9, h => cases h; exact ⟨rfl, tyX9_ok, by decide +kernel⟩
  | 10, h => cases h; exact ⟨rfl, tyX10_ok, by decide +kernel⟩
  | 11, h => exact absurd hn (by decide)
  | 12, h => cases h; exact ⟨rfl, tyX12_ok, by decide +kernel⟩
  | 13, h => cases h; exact ⟨rfl, tyX13_ok, by decide +kernel⟩
  | 14, h => cases h; exact ⟨rfl, tyX14_ok, by decide +kernel⟩
  | 15, h => cases h; exact ⟨rfl, tyX15_ok, by decide +kernel⟩
  | n + 16, h => simp [jx_Cl] at h
theorem jx_nf_len {ci : Nat} (hn : 0 < jx_nn ci) : (jx_nf ci).length = jx_nn ci ∧ ∀ v ∈ jx_nf ci, jx_vk 0 v := by
  match ci with
  | 0 => exact ⟨rfl, by simp [jx_nf, jx_vk]⟩
  | 1 => exact ⟨rfl, by simp [jx_nf, jx_vk]⟩
  | 2 => exact ⟨rfl, by simp [jx_nf, jx_vk]⟩
  | 3 => exact ⟨rfl, by simp [jx_nf, jx_vk, List.range, List.range.loop, tyX3, defaultValue]⟩
  | 4 => exact ⟨rfl, by simp [jx_nf, jx_vk, List.range, List.range.loop, tyX4, defaultValue]⟩
  | 5 => exact ⟨rfl, by simp [jx_nf, jx_vk, List.range, List.range.loop, tyX5, defaultValue]⟩
  | 6 => exact ⟨rfl, by simp [jx_nf, jx_vk, List.range, List.range.loop, tyX6, defaultValue]⟩
  | 7 => exact absurd hn (by decide)
  | 8 => exact ⟨rfl, by simp [jx_nf, jx_vk, List.range, List.range.loop, tyX8, defaultValue]⟩
  | 9 => exact ⟨rfl, by simp [jx_nf, jx_vk, List.range, List.range.loop, tyX9, defaultValue]⟩
  | 10 => exact ⟨rfl, by simp [jx_nf, jx_vk, List.range, List.range.loop, tyX10, defaultValue]⟩
  | 11 => exact absurd hn (by decide)
  | 12 => exact ⟨rfl, by simp [jx_nf, jx_vk, List.range, List.range.loop, tyX12, defaultValue]⟩
  | 13 => exact ⟨rfl, by simp [jx_nf, jx_vk, List.range, List.range.loop, tyX13, defaultValue]⟩
  | 14 => exact ⟨rfl, by simp [jx_nf, jx_vk, List.range, List.range.loop, tyX14, defaultValue]⟩
  | 15 => exact ⟨rfl, by simp [jx_nf, jx_vk, List.range, List.range.loop, tyX15, defaultValue]⟩
  | n + 16 => exact absurd hn (by simp [jx_nn])
theorem jx_nf_rl {ci : Nat} (hn : 0 < jx_nn ci) (rv : Nat → Value) (ad : Nat → Nat) : (jx_nf ci).map (jx_rl rv ad) = jx_nf ci := by
  conv => rhs; rw [← List.map_id (jx_nf ci)]
  apply List.map_congr_left
  intro v hv
  have := (jx_nf_len hn).2 v hv
  cases v <;> simp only [jx_vk] at this <;> first | rfl | (exact absurd this (Nat.not_lt_zero _))
def jx_FL (NW : List Cond) (O : String) (x ci k : Nat) : Prop := ∃ q, jx_Cl[ci]? = some q ∧ 0 < jx_nn ci ∧ k < q.2.2 ∧ (Cond.fieldLink O x (q.2.1 k).1 (q.2.1 k).2.1 (q.2.1 k).2.2.1 ∈ lw_all ∨ ∃ host, Cond.fieldLinkNest O x (q.2.1 k).1 (q.2.1 k).2.1 (q.2.1 k).2.2.1 host ∈ NW)
def jx_FP (NW : List Cond) (O : String) (ini : Bool) (x ci k kd : Nat) : Prop := ∃ q, jx_Cl[ci]? = some q ∧ 0 < jx_nn ci ∧ k < q.2.2 ∧
  (((q.2.1 k).2.2.2 = false ∧ (Cond.fieldLink O x (q.2.1 k).1 (q.2.1 k).2.1 (q.2.1 k).2.2.1 ∈ lw_all ∨ ∃ host, Cond.fieldLinkNest O x (q.2.1 k).1 (q.2.1 k).2.1 (q.2.1 k).2.2.1 host ∈ NW)) ∨ ((q.2.1 k).2.2.2 = true ∧ ini = true ∧ (q.2.1 k).1 = O ∧ Cond.fieldLink O x (q.2.1 k).1 (q.2.1 k).2.1 (q.2.1 k).2.2.1 ∈ lw_all)) ∧
  ((kd = 0 ∧ jx_tyc q ci k = .int) ∨ (kd = 1 ∧ jx_tyc q ci k = .long) ∨ (kd = 2 ∧ ((∃ n, jx_tyc q ci k = .object n) ∨ ∃ t, jx_tyc q ci k = .array t)) ∨ (kd = 3 ∧ jx_tyc q ci k = .boolean))
def jx_RIc (NW : List Cond) (O : String) (ini : Bool) (i0 : Instr) (len : Nat) : Instr → Prop
  | .invokeinterface ci k => ∃ x, i0 = .getfield x ∧ len = 3 ∧ ((ci = 19 ∧ ((k = 0 ∧ Cond.fieldLink O x "java/lang/String" "value" "[B" ∈ lw_all) ∨ (k = 1 ∧ Cond.fieldLink O x "java/lang/String" "coder" "B" ∈ lw_all))) ∨ jx_FL NW O x ci k)
  | .multianewarray ci kk => ∃ x, i0 = .putfield x ∧ len = 3 ∧ jx_FP NW O ini x ci (kk % 100) (kk / 100)
  | .iaload => i0 = .iaload ∧ len = 1
  | .baload => i0 = .baload ∧ len = 1
  | .laload => i0 = .laload ∧ len = 1
  | .aaload => i0 = .aaload ∧ len = 1
  | .iastore => i0 = .iastore ∧ len = 1
  | .bastore => i0 = .bastore ∧ len = 1
  | .lastore => i0 = .lastore ∧ len = 1
  | .aastore => i0 = .aastore ∧ len = 1
  | .arraylength => i0 = .arraylength ∧ len = 1
  | .newarray t => i0 = .newarray t ∧ len = 2
  | .anewarray t => ∃ x, i0 = .anewarray x ∧ len = 3 ∧ Cond.classLink O x (jx_en t) ∈ lw_all
  | .new ci => ∃ x q, i0 = .new x ∧ len = 3 ∧ jx_Cl[ci]? = some q ∧ 0 < jx_nn ci ∧ Cond.classLink O x q.1 ∈ lw_all ∧ Cond.instantiable q.1 q.2.2 ∈ lw_all ∧ Cond.initialized q.1 ∈ lw_all
  | .monitorenter => ∃ x, i0 = .invokespecial x ∧ len = 3 ∧ Cond.methodLink O x Lib.objectInit ∈ lw_all
  | .monitorexit => ∃ x, i0 = .invokestatic x ∧ len = 3 ∧ Cond.methodLink O x arraycopyName ∈ lw_all
  | .swap => ∃ x, i0 = .invokestatic x ∧ len = 3 ∧ Cond.methodLink O x Lib.Math.max.name ∈ lw_all
  | .nop => ∃ x, i0 = .invokestatic x ∧ len = 3 ∧ Cond.methodLink O x Lib.Math.min.name ∈ lw_all
  | _ => False
theorem jx_ix_ok {j : Int32} {n k : Nat} (h : jx_ix j n = some k) : vp_in j n ∧ j.toNatClampNeg = k := by
  simp only [jx_ix] at h
  split at h
  · rename_i q
    cases h
    exact ⟨vp_in_iff.mpr q, rfl⟩
  · cases h
theorem jx_len_ok {x : Int32} (h : 0 ≤ x.toInt ∧ x.toInt ≤ 65536) : ¬ x < 0 ∧ x.toNatClampNeg ≤ 65536 := by
  have hc : x.toNatClampNeg = x.toInt.toNat := rfl
  refine ⟨fun q => ?_, by omega⟩
  have := Int32.lt_iff_toInt_lt.mp q
  have h0 : (0 : Int32).toInt = 0 := by decide
  omega
