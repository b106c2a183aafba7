/-! THE CHECKER: a code list against the bytes -/
def jx_ka (oc nL : Nat) (i0 : Instr) (len : Nat) : Instr → Bool
  | .iconst v => (decide (i0 = .iconst v) && len == 1) || (decide (i0 = .bipush v) && len == 2 && decide ((Int8.ofInt v).toInt32 = Int32.ofInt v)) || (decide (i0 = .sipush v) && len == 3 && decide ((Int16.ofInt v).toInt32 = Int32.ofInt v)) || (match i0 with
    | .ldc k => len == 2 && decide ((oc, k, v) ∈ jx_CT)
    | .ldc_w k => len == 3 && decide ((oc, k, v) ∈ jx_CT)
    | _ => false)
  | .jsr v => match i0 with
    | .lconst n => len == 1 && decide (((n : Nat) : Int) = v)
    | .ldc2_w k => len == 3 && decide ((oc, k, v) ∈ jx_LT)
    | _ => false
  | .ldc k => match i0 with
    | .ldc x => len == 2 && decide ((oc, x, k) ∈ jx_ST)
    | .ldc_w x => len == 3 && decide ((oc, x, k) ∈ jx_ST)
    | _ => false
  | .aconst_null => decide (i0 = .aconst_null) && len == 1
  | .getstatic k => match i0 with
    | .getstatic x => len == 3 && decide ((oc, x, k) ∈ jx_GT)
    | _ => false
  | .iload k => (decide (i0 = .iload k) && len == 2) || (match i0 with | .iload_n n => len == 1 && (n : Nat) == k | _ => false)
  | .lload k => (decide (i0 = .lload k) && len == 2) || (match i0 with | .lload_n n => len == 1 && (n : Nat) == k | _ => false)
  | .aload k => (decide (i0 = .aload k) && len == 2) || (match i0 with | .aload_n n => len == 1 && (n : Nat) == k | _ => false)
  | .istore k => Nat.blt k nL && ((decide (i0 = .istore k) && len == 2) || (match i0 with | .istore_n n => len == 1 && (n : Nat) == k | _ => false))
  | .lstore k => Nat.blt (k + 1) nL && ((decide (i0 = .lstore k) && len == 2) || (match i0 with | .lstore_n n => len == 1 && (n : Nat) == k | _ => false))
  | .astore k => Nat.blt k nL && ((decide (i0 = .astore k) && len == 2) || (match i0 with | .astore_n n => len == 1 && (n : Nat) == k | _ => false))
  | .iinc k n => Nat.blt k nL && decide (i0 = .iinc k n) && len == 3
  | .iadd => decide (i0 = .iadd) && len == 1
  | .isub => decide (i0 = .isub) && len == 1
  | .imul => decide (i0 = .imul) && len == 1
  | .iand => decide (i0 = .iand) && len == 1
  | .ior => decide (i0 = .ior) && len == 1
  | .ixor => decide (i0 = .ixor) && len == 1
  | .ishl => decide (i0 = .ishl) && len == 1
  | .ishr => decide (i0 = .ishr) && len == 1
  | .iushr => decide (i0 = .iushr) && len == 1
  | .ladd => decide (i0 = .ladd) && len == 1
  | .lsub => decide (i0 = .lsub) && len == 1
  | .lmul => decide (i0 = .lmul) && len == 1
  | .land => decide (i0 = .land) && len == 1
  | .lor => decide (i0 = .lor) && len == 1
  | .idiv => decide (i0 = .idiv) && len == 1
  | .irem => decide (i0 = .irem) && len == 1
  | .ldiv => decide (i0 = .ldiv) && len == 1
  | .lrem => decide (i0 = .lrem) && len == 1
  | .lcmp => decide (i0 = .lcmp) && len == 1
  | .i2l => decide (i0 = .i2l) && len == 1
  | .l2i => decide (i0 = .l2i) && len == 1
  | .i2b => decide (i0 = .i2b) && len == 1
  | .i2c => decide (i0 = .i2c) && len == 1
  | .pop => decide (i0 = .pop) && len == 1
  | .dup => decide (i0 = .dup) && len == 1
  | .dup_x1 => decide (i0 = .dup_x1) && len == 1
  | .dup2 => decide (i0 = .dup2) && len == 1
  | _ => false
def jx_off (L : Int) : Option Nat := if 0 ≤ L then some L.toNat else none
def jx_tg (pc : Nat) (off L : Int) : Bool := decide ((pc : Int) + off = L) && decide (0 ≤ L)
def jx_kb (pc : Nat) (i0 : Instr) (len : Nat) : Instr → Bool
  | .goto L => match i0 with | .goto o => len == 3 && jx_tg pc o L | _ => false
  | .ifCond c L => match i0 with | .ifCond c' o => decide (c' = c) && len == 3 && jx_tg pc o L | _ => false
  | .if_icmp c L => match i0 with | .if_icmp c' o => decide (c' = c) && len == 3 && jx_tg pc o L | _ => false
  | .ifnull L => match i0 with | .ifnull o => len == 3 && jx_tg pc o L | _ => false
  | .ifnonnull L => match i0 with | .ifnonnull o => len == 3 && jx_tg pc o L | _ => false
  | .tableswitch d lo hi offs => match i0 with | .tableswitch d' lo' hi' os => decide (lo' = lo) && decide (hi' = hi) && jx_tg pc d' d && decide (offs.toList = os.toList.map (fun o => (pc : Int) + o)) && offs.toList.all (fun L => decide (0 ≤ L)) | _ => false
  | .lookupswitch d ps => match i0 with | .lookupswitch d' qs => (qs.toList.zip (qs.toList.drop 1)).all (fun (a, next) => a.1 < next.1) && jx_tg pc d' d && decide (ps.toList = qs.toList.map (fun o => (o.1, (pc : Int) + o.2))) && ps.toList.all (fun L => decide (0 ≤ L.2)) | _ => false
  | _ => false
def jx_kc (oc : Nat) (ini : Bool) (i0 : Instr) (len : Nat) : Instr → Bool
  | .invokeinterface ci k => match i0 with | .getfield x => len == 3 && (decide (ci = 19 ∧ (oc, x, k) ∈ jx_SF) || decide ((oc, x, ci, k) ∈ jx_FT)) | _ => false
  | .multianewarray ci kk => match i0 with | .putfield x => len == 3 && (decide ((oc, x, ci, kk % 100, kk / 100, 0) ∈ jx_PT) || (ini && decide ((oc, x, ci, kk % 100, kk / 100, 1) ∈ jx_PT))) | _ => false
  | .iaload => decide (i0 = .iaload) && len == 1
  | .baload => decide (i0 = .baload) && len == 1
  | .laload => decide (i0 = .laload) && len == 1
  | .aaload => decide (i0 = .aaload) && len == 1
  | .iastore => decide (i0 = .iastore) && len == 1
  | .bastore => decide (i0 = .bastore) && len == 1
  | .lastore => decide (i0 = .lastore) && len == 1
  | .aastore => decide (i0 = .aastore) && len == 1
  | .arraylength => decide (i0 = .arraylength) && len == 1
  | .newarray t => decide (i0 = .newarray t) && len == 2
  | .anewarray t => match i0 with | .anewarray x => len == 3 && decide ((oc, x, t) ∈ jx_AT) | _ => false
  | .new ci => match i0 with | .new x => len == 3 && decide ((oc, x, ci) ∈ jx_NT) | _ => false
  | .monitorenter => match i0 with | .invokespecial x => len == 3 && decide ((oc, x) ∈ jx_OT) | _ => false
  | .monitorexit => match i0 with | .invokestatic x => len == 3 && decide ((oc, x) ∈ jx_YT) | _ => false
  | .swap => match i0 with | .invokestatic x => len == 3 && decide ((oc, x) ∈ jx_XT) | _ => false
  | .nop => match i0 with | .invokestatic x => len == 3 && decide ((oc, x) ∈ jx_ZT) | _ => false
  | _ => false
def jx_kr (rt : Option FieldType) (hh : List (Nat × Nat × Nat × Nat)) (i0 : Instr) (len : Nat) : Instr → Bool
  | .ireturn => decide (i0 = .ireturn) && len == 1 && decide (rt = some .int)
  | .freturn => decide (i0 = .ireturn) && len == 1 && decide (rt = some .boolean)
  | .dreturn => decide (i0 = .ireturn) && len == 1 && decide (rt = some .byte ∨ rt = some .char)
  | .lreturn => decide (i0 = .lreturn) && len == 1 && decide (rt = some .long)
  | .areturn => decide (i0 = .areturn) && len == 1 && (match rt with | some (.object _) => true | some (.array _) => true | _ => false)
  | .return_ => decide (i0 = .return_) && len == 1 && decide (rt = none)
  | .athrow => decide (i0 = .athrow) && len == 1 && decide (hh = [])
  | _ => false
def jx_kh (b : ByteArray) (oc nL : Nat) (hh : List (Nat × Nat × Nat × Nat)) (pc hd : Nat) : Bool := hd == 0 || match hh with
  | [(s, e, tg, ct)] => covers { startPc := s, endPc := e, handlerPc := tg, catchType := ct } pc && ct == 29 && oc == 0 && (match decode b tg with
    | .ok (j, lj) => tg + lj == hd / 10 && Nat.blt (hd % 10) nL && ((decide (j = .astore (hd % 10)) && lj == 2) || (match j with | .astore_n n => (n : Nat) == hd % 10 && lj == 1 | _ => false))
    | _ => false)
  | _ => false
def jx_kk (b : ByteArray) (oc nL : Nat) (hh : List (Nat × Nat × Nat × Nat)) (pc : Nat) (i0 : Instr) (len : Nat) : Instr → Bool
  | .invokevirtual z => match i0 with | .invokevirtual x => len == 3 && decide ((oc, x, z % 1000000) ∈ jx_VT) && jx_kh b oc nL hh pc (z / 1000000) | _ => false
  | .fload z => match i0 with | .invokevirtual x => len == 3 && decide ((oc, x, z) ∈ jx_DT) | _ => false
  | .invokespecial z => match i0 with | .invokespecial x => len == 3 && decide ((oc, x, z) ∈ jx_IT) | _ => false
  | .invokestatic z => match i0 with | .invokestatic x => len == 3 && decide ((oc, x, z) ∈ jx_TTt) | _ => false
  | _ => false
def jx_ck (b : ByteArray) (oc nL : Nat) (rt : Option FieldType) (hh : List (Nat × Nat × Nat × Nat)) (ini : Bool) : Nat → List Instr → Bool
  | _, [] => true
  | pc, i :: r => (match i with | .goto_w L => decide (L = pc) | _ => false) || match decode b pc with
    | .ok (i0, len) => (jx_ka oc nL i0 len i || jx_kb pc i0 len i || jx_kc oc ini i0 len i || jx_kr rt hh i0 len i || jx_kk b oc nL hh pc i0 len i) && jx_ck b oc nL rt hh ini (pc + len) r
    | _ => false
theorem jx_tg_ok {pc : Nat} {off L : Int} (h : jx_tg pc off L = true) : ∃ t : Nat, (pc : Int) + off = t ∧ L = t := by
  simp only [jx_tg, Bool.and_eq_true, decide_eq_true_eq] at h
  exact ⟨L.toNat, by omega, by omega⟩
theorem jx_ka_ok {oc nL : Nat} {i0 i : Instr} {len : Nat} {SR : List (String × Nat × Nat × String)} (hSR : SR = jx_SR) (h : jx_ka oc nL i0 len i = true) : jx_RIa (jx_on oc) SR nL i0 len i := by
  subst hSR
  cases i <;> simp only [jx_ka, Bool.and_eq_true, Bool.or_eq_true, decide_eq_true_eq, beq_iff_eq] at h <;> first | (exact h) | (cases h; done) | skip
  case iconst v =>
    rcases h with ((⟨h1, h2⟩ | ⟨⟨h1, h2⟩, h3⟩) | ⟨⟨h1, h2⟩, h3⟩) | h
    · exact Or.inl ⟨h1, h2⟩
    · exact Or.inr (Or.inl ⟨h1, h2, h3⟩)
    · exact Or.inr (Or.inr (Or.inl ⟨h1, h2, h3⟩))
    · split at h
      · simp only [Bool.and_eq_true, decide_eq_true_eq, beq_iff_eq] at h
        exact Or.inr (Or.inr (Or.inr (Or.inl ⟨_, rfl, h.1, jx_CT_ok _ h.2⟩)))
      · simp only [Bool.and_eq_true, decide_eq_true_eq, beq_iff_eq] at h
        exact Or.inr (Or.inr (Or.inr (Or.inr ⟨_, rfl, h.1, jx_CT_ok _ h.2⟩)))
      · cases h
  case jsr v =>
    split at h
    · simp only [Bool.and_eq_true, decide_eq_true_eq, beq_iff_eq] at h
      obtain ⟨h1, h2⟩ := h
      subst h2
      exact Or.inl ⟨_, rfl, h1, rfl⟩
    · simp only [Bool.and_eq_true, decide_eq_true_eq, beq_iff_eq] at h
      exact Or.inr ⟨_, rfl, h.1, jx_LT_ok _ h.2⟩
    · cases h
  case ldc k =>
    have key : ∀ x, (oc, x, k) ∈ jx_ST → (jx_on oc, x, k, jx_STR.getD k "") ∈ jx_SR := fun x hx => List.mem_map.mpr ⟨_, hx, rfl⟩
    split at h
    · simp only [Bool.and_eq_true, decide_eq_true_eq, beq_iff_eq] at h
      exact ⟨_, _, key _ h.2, Or.inl ⟨rfl, h.1⟩⟩
    · simp only [Bool.and_eq_true, decide_eq_true_eq, beq_iff_eq] at h
      exact ⟨_, _, key _ h.2, Or.inr ⟨rfl, h.1⟩⟩
    · cases h
  case getstatic k =>
    split at h
    · simp only [Bool.and_eq_true, decide_eq_true_eq, beq_iff_eq] at h
      have := jx_GT_ok _ h.2
      exact ⟨_, rfl, h.1, this.1, this.2⟩
    · cases h
  case iload k =>
    rcases h with h | h
    · exact Or.inl h
    · split at h
      · simp only [Bool.and_eq_true, beq_iff_eq] at h
        exact Or.inr ⟨_, rfl, h.2, h.1⟩
      · cases h
  case lload k =>
    rcases h with h | h
    · exact Or.inl h
    · split at h
      · simp only [Bool.and_eq_true, beq_iff_eq] at h
        exact Or.inr ⟨_, rfl, h.2, h.1⟩
      · cases h
  case aload k =>
    rcases h with h | h
    · exact Or.inl h
    · split at h
      · simp only [Bool.and_eq_true, beq_iff_eq] at h
        exact Or.inr ⟨_, rfl, h.2, h.1⟩
      · cases h
  case istore k =>
    obtain ⟨h0, h⟩ := h
    refine ⟨Nat.blt_eq.mp h0, ?_⟩
    rcases h with h | h
    · exact Or.inl h
    · split at h
      · simp only [Bool.and_eq_true, beq_iff_eq] at h
        exact Or.inr ⟨_, rfl, h.2, h.1⟩
      · cases h
  case lstore k =>
    obtain ⟨h0, h⟩ := h
    refine ⟨Nat.blt_eq.mp h0, ?_⟩
    rcases h with h | h
    · exact Or.inl h
    · split at h
      · simp only [Bool.and_eq_true, beq_iff_eq] at h
        exact Or.inr ⟨_, rfl, h.2, h.1⟩
      · cases h
  case astore k =>
    obtain ⟨h0, h⟩ := h
    refine ⟨Nat.blt_eq.mp h0, ?_⟩
    rcases h with h | h
    · exact Or.inl h
    · split at h
      · simp only [Bool.and_eq_true, beq_iff_eq] at h
        exact Or.inr ⟨_, rfl, h.2, h.1⟩
      · cases h
  case iinc k n =>
    exact ⟨Nat.blt_eq.mp h.1.1, h.1.2, h.2⟩
theorem jx_lk_ok {pc : Nat} : ∀ (qs : List (Int × Int)) (d' d x : Int), (pc : Int) + d' = d → 0 ≤ d → (∀ L ∈ qs, 0 ≤ (pc : Int) + L.2) → ∃ t : Nat, (pc : Int) + Op.lookupswitch.offset qs d' x = t ∧ Op.lookupswitch.offset (qs.map (fun o => (o.1, (pc : Int) + o.2))) d x = t := by
  intro qs
  induction qs with
  | nil =>
    intro d' d x h1 h2 _
    exact ⟨d.toNat, by simp only [Op.lookupswitch.offset]; omega, by simp only [List.map_nil, Op.lookupswitch.offset]; omega⟩
  | cons a r ih =>
    intro d' d x h1 h2 h3
    obtain ⟨a1, a2⟩ := a
    simp only [List.map_cons, Op.lookupswitch.offset]
    have h4 : 0 ≤ (pc : Int) + a2 := h3 (a1, a2) List.mem_cons_self
    split
    · exact ⟨((pc : Int) + a2).toNat, by omega, by omega⟩
    · exact ih d' d x h1 h2 (fun L hL => h3 L (List.mem_cons_of_mem _ hL))
theorem jx_kb_ok {pc : Nat} {i0 i : Instr} {len : Nat} (h : jx_kb pc i0 len i = true) : jx_RIb pc i0 len i := by
  cases i <;> simp only [jx_kb] at h <;> first | (cases h; done) | skip
  case goto L =>
    split at h
    · simp only [Bool.and_eq_true, beq_iff_eq] at h
      obtain ⟨t, h1, h2⟩ := jx_tg_ok h.2
      exact ⟨_, t, rfl, h.1, h1, h2⟩
    · cases h
  case ifCond c L =>
    split at h
    · simp only [Bool.and_eq_true, beq_iff_eq, decide_eq_true_eq] at h
      obtain ⟨t, h1, h2⟩ := jx_tg_ok h.2
      exact ⟨_, t, by rw [h.1.1], h.1.2, h1, h2⟩
    · cases h
  case if_icmp c L =>
    split at h
    · simp only [Bool.and_eq_true, beq_iff_eq, decide_eq_true_eq] at h
      obtain ⟨t, h1, h2⟩ := jx_tg_ok h.2
      exact ⟨_, t, by rw [h.1.1], h.1.2, h1, h2⟩
    · cases h
  case ifnull L =>
    split at h
    · simp only [Bool.and_eq_true, beq_iff_eq] at h
      obtain ⟨t, h1, h2⟩ := jx_tg_ok h.2
      exact ⟨_, t, rfl, h.1, h1, h2⟩
    · cases h
  case ifnonnull L =>
    split at h
    · simp only [Bool.and_eq_true, beq_iff_eq] at h
      obtain ⟨t, h1, h2⟩ := jx_tg_ok h.2
      exact ⟨_, t, rfl, h.1, h1, h2⟩
    · cases h
  case tableswitch d lo hi offs =>
    split at h
    · rename_i d' lo' hi' os
      simp only [Bool.and_eq_true, beq_iff_eq, decide_eq_true_eq] at h
      obtain ⟨⟨⟨⟨h1, h2⟩, h3⟩, h4⟩, h5⟩ := h
      obtain ⟨t, g1, g2⟩ := jx_tg_ok h3
      refine ⟨d', os, t, by rw [h1, h2], g1, g2, fun j L hj => ?_⟩
      rw [← Array.getElem?_toList, h4, List.getElem?_map] at hj
      cases ho : os.toList[j]? with
      | none => rw [ho] at hj; cases hj
      | some o =>
        rw [ho] at hj
        cases hj
        have hm : (pc : Int) + o ∈ offs.toList := by rw [h4]; exact List.mem_map.mpr ⟨o, List.mem_of_getElem? ho, rfl⟩
        have h0 := List.all_eq_true.mp h5 _ hm
        simp only [decide_eq_true_eq] at h0
        have h0 : 0 ≤ (pc : Int) + o := h0
        exact ⟨o, ((pc : Int) + o).toNat, by rw [← Array.getElem?_toList]; exact ho, by omega, by show (pc : Int) + o = _; omega⟩
    · cases h
  case lookupswitch d ps =>
    split at h
    · rename_i d' qs
      simp only [Bool.and_eq_true, beq_iff_eq, decide_eq_true_eq] at h
      obtain ⟨⟨⟨h1, h3⟩, h4⟩, h5⟩ := h
      simp only [jx_tg, Bool.and_eq_true, decide_eq_true_eq] at h3
      refine ⟨d', qs, rfl, h1, fun x => ?_⟩
      rw [h4]
      refine jx_lk_ok qs.toList d' d x h3.1 h3.2 (fun L hL => ?_)
      have hm : (L.1, (pc : Int) + L.2) ∈ ps.toList := by rw [h4]; exact List.mem_map.mpr ⟨L, hL, rfl⟩
      have h0 := List.all_eq_true.mp h5 _ hm
      simpa using h0
    · cases h
theorem jx_kc_ok {oc : Nat} {ini : Bool} {i0 i : Instr} {len : Nat} (h : jx_kc oc ini i0 len i = true) : jx_RIc jx_NW (jx_on oc) ini i0 len i := by
  cases i <;> simp only [jx_kc, Bool.and_eq_true, decide_eq_true_eq, beq_iff_eq] at h <;> first | (exact h) | (cases h; done) | skip
  case invokeinterface ci k =>
    split at h
    · simp only [Bool.and_eq_true, Bool.or_eq_true, decide_eq_true_eq, beq_iff_eq] at h
      refine ⟨_, rfl, h.1, ?_⟩
      rcases h.2 with ⟨h1, h2⟩ | h2
      · exact Or.inl ⟨h1, jx_SF_ok _ h2⟩
      · exact Or.inr (jx_FT_ok _ h2)
    · cases h
  case multianewarray ci kk =>
    split at h
    · simp only [Bool.and_eq_true, Bool.or_eq_true, decide_eq_true_eq, beq_iff_eq] at h
      refine ⟨_, rfl, h.1, ?_⟩
      rcases h.2 with h2 | ⟨h1, h2⟩
      · exact jx_PT_ok _ h2 ini (fun z => by cases z)
      · exact jx_PT_ok _ h2 ini (fun _ => h1)
    · cases h
  case anewarray t =>
    split at h
    · simp only [Bool.and_eq_true, decide_eq_true_eq, beq_iff_eq] at h
      exact ⟨_, rfl, h.1, jx_AT_ok _ h.2⟩
    · cases h
  case new ci =>
    split at h
    · simp only [Bool.and_eq_true, decide_eq_true_eq, beq_iff_eq] at h
      obtain ⟨q, h1⟩ := jx_NT_ok _ h.2
      exact ⟨_, q, rfl, h.1, h1⟩
    · cases h
  case monitorenter =>
    split at h
    · simp only [Bool.and_eq_true, decide_eq_true_eq, beq_iff_eq] at h
      exact ⟨_, rfl, h.1, jx_OT_ok _ h.2⟩
    · cases h
  case monitorexit =>
    split at h
    · simp only [Bool.and_eq_true, decide_eq_true_eq, beq_iff_eq] at h
      exact ⟨_, rfl, h.1, jx_YT_ok _ h.2⟩
    · cases h
  case swap =>
    split at h
    · simp only [Bool.and_eq_true, decide_eq_true_eq, beq_iff_eq] at h
      exact ⟨_, rfl, h.1, jx_XT_ok _ h.2⟩
    · cases h
  case nop =>
    split at h
    · simp only [Bool.and_eq_true, decide_eq_true_eq, beq_iff_eq] at h
      exact ⟨_, rfl, h.1, jx_ZT_ok _ h.2⟩
    · cases h
theorem jx_kr_ok {rt : Option FieldType} {hh : List (Nat × Nat × Nat × Nat)} {i0 i : Instr} {len : Nat} (h : jx_kr rt hh i0 len i = true) : jx_RIr rt hh i0 len i := by
  cases i <;> simp only [jx_kr, Bool.and_eq_true, decide_eq_true_eq, beq_iff_eq] at h <;> first | (exact ⟨h.1.1, h.1.2, h.2⟩) | (cases h; done) | skip
  case areturn =>
    refine ⟨h.1.1, h.1.2, ?_⟩
    have h2 := h.2
    split at h2
    · exact ⟨_, rfl, Or.inl ⟨_, rfl⟩⟩
    · exact ⟨_, rfl, Or.inr ⟨_, rfl⟩⟩
    · cases h2
theorem jx_castF : Cond.castable "SpoonCourt$Fault" "SpoonCourt$Fault" ∈ jx_NW := by decide +kernel
theorem jx_kk_ok {w : jx_W} {y0 oc nL : Nat} {hh : List (Nat × Nat × Nat × Nat)} {pc : Nat} {i0 i : Instr} {len : Nat} (hNW : w.2.2.2.2.1 = jx_NW) (hO : (jx_TT.1 y0).cls = jx_on oc) (hnL : jx_TT.2.2.1 y0 = nL) (hhh : jx_TT.2.2.2.2.1 y0 = hh) (h : jx_kk (jx_TT.2.1 y0) oc nL hh pc i0 len i = true) : jx_RIk w jx_PP.2.2.1 jx_TT jx_PP y0 pc i0 len i := by
  cases i <;> simp only [jx_kk] at h <;> first | (cases h; done) | skip
  case invokevirtual z =>
    split at h
    · rename_i x
      simp only [Bool.and_eq_true, decide_eq_true_eq, beq_iff_eq] at h
      obtain ⟨⟨h1, h2⟩, h3⟩ := h
      obtain ⟨q, g1, g2, g3, g4, g5, g6⟩ := jx_VT_ok _ h2
      have e1 : z % 1000000 / 10 % 1000 = z / 10 % 1000 := by omega
      have e2 : z % 1000000 % 10 = z % 10 := by omega
      have e3 : z % 1000000 / 10000 % 100 = z / 10000 % 100 := by omega
      simp only [e1, e2, e3] at g1 g2 g3 g4 g5 g6
      refine ⟨x, q, rfl, h1, g1, g2, g3, by rw [hO]; exact g4, g5, g6, ?_⟩
      unfold jx_kh at h3
      simp only [Bool.or_eq_true, beq_iff_eq] at h3
      rcases h3 with h3 | h3
      · exact Or.inl h3
      · right
        split at h3
        · rename_i s e tg ct
          simp only [Bool.and_eq_true, beq_iff_eq] at h3
          obtain ⟨⟨⟨k1, k2⟩, k3⟩, k4⟩ := h3
          split at k4
          · rename_i j lj hdec
            simp only [Bool.and_eq_true, Bool.or_eq_true, beq_iff_eq, decide_eq_true_eq] at k4
            obtain ⟨⟨k5, k6⟩, k7⟩ := k4
            subst k2
            subst k3
            refine ⟨s, e, tg, 29, j, lj, hhh, by unfold covers; simp only [Bool.and_eq_true]; exact k1, by decide, by rw [hO]; exact q250, by rw [hNW]; exact jx_castF, hdec, k5, by rw [hnL]; exact Nat.blt_eq.mp k6, ?_⟩
            rcases k7 with k7 | k7
            · exact Or.inl k7
            · split at k7
              · simp only [Bool.and_eq_true, beq_iff_eq] at k7
                exact Or.inr ⟨_, rfl, k7.1, k7.2⟩
              · cases k7
          · cases k4
        · cases h3
    · cases h
  case fload z =>
    split at h
    · rename_i x
      simp only [Bool.and_eq_true, decide_eq_true_eq, beq_iff_eq] at h
      obtain ⟨xm, g1, g2, g3, g4, g5⟩ := jx_DT_ok _ h.2
      exact ⟨x, xm, rfl, h.1, by rw [hO]; exact g1, g2, by rw [hNW]; exact g3, g4, g5⟩
    · cases h
  case invokespecial z =>
    split at h
    · rename_i x
      simp only [Bool.and_eq_true, decide_eq_true_eq, beq_iff_eq] at h
      obtain ⟨g1, g2, g3, g4, g5, g6⟩ := jx_IT_ok _ h.2
      exact ⟨x, rfl, h.1, g1, g2, g3, g4, g5, by rw [hO, hNW]; exact g6⟩
    · cases h
  case invokestatic z =>
    split at h
    · rename_i x
      simp only [Bool.and_eq_true, decide_eq_true_eq, beq_iff_eq] at h
      obtain ⟨g1, g2, g3, g4⟩ := jx_TT_ok _ h.2
      exact ⟨x, rfl, h.1, g1, g2, g3, by rw [hO, hNW]; exact g4⟩
    · cases h
theorem jx_ck_ok {w : jx_W} {y oc nL : Nat} {rt : Option FieldType} {hh : List (Nat × Nat × Nat × Nat)} {ini : Bool} (hNW : w.2.2.2.2.1 = jx_NW) (hSR : w.2.2.2.2.2 = jx_SR) (hO : (jx_TT.1 y).cls = jx_on oc) (hnL : jx_TT.2.2.1 y = nL) (hrt : jx_TT.2.2.2.1 y = rt) (hhh : jx_TT.2.2.2.2.1 y = hh) (hi : ((jx_TT.1 y).name == "<init>") = ini) :
    ∀ (c : List Instr) (pc : Nat), jx_ck (jx_TT.2.1 y) oc nL rt hh ini pc c = true → jx_Ok w jx_TT jx_PP y pc c := by
  intro c
  induction c with
  | nil => intro pc _; trivial
  | cons i r ih =>
    intro pc h
    simp only [jx_ck, Bool.or_eq_true] at h
    rcases h with h | h
    · left
      split at h
      · rename_i L
        exact ⟨pc, by rw [of_decide_eq_true h], rfl⟩
      · cases h
    · right
      split at h
      · rename_i i0 len hd
        simp only [Bool.and_eq_true, Bool.or_eq_true] at h
        refine ⟨i0, len, hd, ?_, ih _ h.2⟩
        unfold jx_RI
        rw [hO, hnL, hrt, hhh, hi]
        rcases h.1 with (((h | h) | h) | h) | h
        · exact Or.inl (jx_ka_ok hSR h)
        · exact Or.inr (Or.inl (jx_kb_ok h))
        · exact Or.inr (Or.inr (Or.inl (by rw [hNW]; exact jx_kc_ok h)))
        · exact Or.inr (Or.inr (Or.inr (Or.inl (jx_kr_ok h))))
        · exact Or.inr (Or.inr (Or.inr (Or.inr (jx_kk_ok hNW hO hnL hhh h))))
      · cases h
