/-! THE PROGRAM AND ITS METHODS -/
/-- method's name, bytes, locals, answer, handlers -/
abbrev jx_T : Type := (Nat → MethodName) × (Nat → ByteArray) × (Nat → Nat) × (Nat → Option FieldType) × (Nat → List (Nat × Nat × Nat × Nat)) × (Nat → List Bool)
def jx_RIr (rt : Option FieldType) (hh : List (Nat × Nat × Nat × Nat)) (i0 : Instr) (len : Nat) : Instr → Prop
  | .ireturn => i0 = .ireturn ∧ len = 1 ∧ rt = some .int
  | .freturn => i0 = .ireturn ∧ len = 1 ∧ rt = some .boolean
  | .dreturn => i0 = .ireturn ∧ len = 1 ∧ (rt = some .byte ∨ rt = some .char)
  | .lreturn => i0 = .lreturn ∧ len = 1 ∧ rt = some .long
  | .areturn => i0 = .areturn ∧ len = 1 ∧ ∃ ty, rt = some ty ∧ ((∃ n, ty = .object n) ∨ ∃ t, ty = .array t)
  | .return_ => i0 = .return_ ∧ len = 1 ∧ rt = none
  | .athrow => i0 = .athrow ∧ len = 1 ∧ hh = []
  | _ => False
def jx_wd (T : jx_T) (y : Nat) : Cond := if T.2.2.2.2.1 y = [] then Cond.code (T.1 y) (T.2.1 y) (T.2.2.1 y) (T.2.2.2.1 y) else Cond.codeWith (T.1 y) (T.2.1 y) (T.2.2.1 y) (T.2.2.2.1 y) (T.2.2.2.2.1 y)
/-- what is known of a method that is called -/
def jx_M (T : jx_T) (y n : Nat) : Prop := plainName (T.1 y).cls = true ∧ ((T.1 y).cls ≠ "java/lang/invoke/MethodHandle" ∧ (T.1 y).cls ≠ "java/lang/invoke/VarHandle" ∧ (parseMethodDescriptor (T.1 y).desc).map (fun d => d.parameters.length) = some n) ∧ Cond.initialized (T.1 y).cls ∈ lw_all ∧ jx_wd T y ∈ lw_all ∧ T.2.2.1 y ≤ 40
def jx_RIk (w : jx_W) (dt : Nat → Nat → Nat) (T : jx_T) (P : jx_P) (y0 pc : Nat) (i0 : Instr) (len : Nat) : Instr → Prop
  | .invokevirtual z => ∃ x q, i0 = .invokevirtual x ∧ len = 3 ∧ jx_M T (z / 10 % 1000) (z % 10) ∧ ((z / 10000 % 100 = 19 ∧ q = "java/lang/String") ∨ ∃ r, jx_Cl[z / 10000 % 100]? = some r ∧ 0 < jx_nn (z / 10000 % 100) ∧ q = r.1) ∧ (T.1 (z / 10 % 1000)).cls = q ∧ Cond.methodLink (T.1 y0).cls x (T.1 (z / 10 % 1000)) ∈ lw_all ∧ Cond.instanceMethod (T.1 (z / 10 % 1000)) ∈ lw_all ∧ Cond.selects q (T.1 (z / 10 % 1000)) (T.1 (z / 10 % 1000)) ∈ lw_all ∧
      (z / 1000000 = 0 ∨ ∃ (a b tg ct : Nat) (j : Instr) (lj : Nat), T.2.2.2.2.1 y0 = [(a, b, tg, ct)] ∧ covers { startPc := a, endPc := b, handlerPc := tg, catchType := ct } pc = true ∧ ct ≠ 0 ∧ Cond.classLink (T.1 y0).cls ct "SpoonCourt$Fault" ∈ lw_all ∧ Cond.castable "SpoonCourt$Fault" "SpoonCourt$Fault" ∈ w.2.2.2.2.1 ∧
        decode (T.2.1 y0) tg = .ok (j, lj) ∧ tg + lj = z / 1000000 / 10 ∧ z / 1000000 % 10 < T.2.2.1 y0 ∧ ((j = .astore (z / 1000000 % 10) ∧ lj = 2) ∨ ∃ n : Fin 4, j = .astore_n n ∧ (n : Nat) = z / 1000000 % 10 ∧ lj = 1))
  | .fload z => ∃ x xm, i0 = .invokevirtual x ∧ len = 3 ∧ Cond.methodLink (T.1 y0).cls x xm ∈ lw_all ∧ Cond.sameMethod xm.cls xm.cls xm.name xm.desc ∈ lw_all ∧ Cond.declares xm ∈ w.2.2.2.2.1 ∧ (xm.cls ≠ "java/lang/invoke/MethodHandle" ∧ xm.cls ≠ "java/lang/invoke/VarHandle" ∧ (parseMethodDescriptor xm.desc).map (fun d => d.parameters.length) = some (z % 10)) ∧
      ∀ ci, (∀ as, P.2.1 (dt (z / 10) ci) as = none) ∨ ∃ r, jx_Cl[ci]? = some r ∧ 0 < jx_nn ci ∧ jx_M T (dt (z / 10) ci) (z % 10) ∧ T.2.2.2.2.1 (dt (z / 10) ci) = [] ∧ Cond.selects r.1 xm (T.1 (dt (z / 10) ci)) ∈ lw_all ∧ Cond.instanceMethod (T.1 (dt (z / 10) ci)) ∈ lw_all
  | .invokespecial z => ∃ x, i0 = .invokespecial x ∧ len = 3 ∧ jx_M T (z / 10 % 1000) (z % 10) ∧ T.2.2.2.2.1 (z / 10 % 1000) = [] ∧ (T.1 (z / 10 % 1000)).name = "<init>" ∧ T.2.2.2.1 (z / 10 % 1000) = none ∧ Cond.instanceMethod (T.1 (z / 10 % 1000)) ∈ lw_all ∧ (Cond.methodLink (T.1 y0).cls x (T.1 (z / 10 % 1000)) ∈ lw_all ∨ ∃ host, Cond.methodLinkNest (T.1 y0).cls x (T.1 (z / 10 % 1000)) host ∈ w.2.2.2.2.1)
  | .invokestatic z => ∃ x, i0 = .invokestatic x ∧ len = 3 ∧ jx_M T (z / 10 % 1000) (z % 10) ∧ T.2.2.2.2.1 (z / 10 % 1000) = [] ∧ Cond.static (T.1 (z / 10 % 1000)) ∈ lw_all ∧ (Cond.methodLink (T.1 y0).cls x (T.1 (z / 10 % 1000)) ∈ lw_all ∨ ∃ host, Cond.methodLinkNest (T.1 y0).cls x (T.1 (z / 10 % 1000)) host ∈ w.2.2.2.2.1)
  | _ => False
def jx_RI (w : jx_W) (T : jx_T) (P : jx_P) (y pc : Nat) (i0 : Instr) (len : Nat) (i : Instr) : Prop :=
  jx_RIa (T.1 y).cls w.2.2.2.2.2 (T.2.2.1 y) i0 len i ∨ jx_RIb pc i0 len i ∨ jx_RIc w.2.2.2.2.1 (T.1 y).cls ((T.1 y).name == "<init>") i0 len i ∨ jx_RIr (T.2.2.2.1 y) (T.2.2.2.2.1 y) i0 len i ∨ jx_RIk w P.2.2.1 T P y pc i0 len i
def jx_Ok (w : jx_W) (T : jx_T) (P : jx_P) (y : Nat) : Nat → List Instr → Prop
  | _, [] => True
  | pc, i :: r => (∃ L : Nat, i = .goto_w L ∧ L = pc) ∨ ∃ i0 len, decode (T.2.1 y) pc = .ok (i0, len) ∧ jx_RI w T P y pc i0 len i ∧ jx_Ok w T P y (pc + len) r
/-- the whole program is resolved rightly -/
def jx_Prog (w : jx_W) (T : jx_T) (P : jx_P) : Prop := (∀ y L, jx_Ok w T P y L (P.1 y L)) ∧ (∀ y vs, P.2.1 y vs = none ∨ P.2.1 y vs = jx_le (T.2.2.2.2.2 y) (T.2.2.1 y) vs) ∧ (∀ y, P.2.2.2 y = false → T.2.2.2.2.1 y = []) ∧ (∀ q ∈ w.2.2.2.2.2, q.2.2.1 < 22) ∧ (∀ b, b < 3 → ∀ q, w.2.2.2.1 b ≠ .inr q) ∧ (∀ b, jx_a89 (w.2.2.2.1 b) = true → 3 ≤ b)
/-- an instruction's kind: a step without the heap, a jump, a step on the heap, an end, a call -/
def jx_kd : Instr → Nat
  | .goto .. => 1
  | .goto_w .. => 1
  | .ifCond .. => 1
  | .if_icmp .. => 1
  | .ifnull .. => 1
  | .ifnonnull .. => 1
  | .tableswitch .. => 1
  | .lookupswitch .. => 1
  | .ireturn => 3
  | .freturn => 3
  | .dreturn => 3
  | .lreturn => 3
  | .areturn => 3
  | .return_ => 3
  | .athrow => 3
  | .invokevirtual .. => 4
  | .invokespecial .. => 4
  | .invokestatic .. => 4
  | .fload .. => 4
  | .invokeinterface .. => 2
  | .multianewarray .. => 2
  | .iaload => 2
  | .baload => 2
  | .laload => 2
  | .aaload => 2
  | .iastore => 2
  | .bastore => 2
  | .lastore => 2
  | .aastore => 2
  | .arraylength => 2
  | .newarray .. => 2
  | .anewarray .. => 2
  | .new .. => 2
  | .monitorenter => 2
  | .monitorexit => 2
  | .swap => 2
  | .nop => 2
  | _ => 0
theorem jx_kd_sa {i : Instr} {ls st : List Value} {h : jx_H} {a : jx_A} (e : jx_sa i ls st h = some a) : jx_kd i = 0 := by
  cases i <;> first | rfl | (exact absurd e (by simp [jx_sa]))
theorem jx_kd_sb {i : Instr} {ls st : List Value} {h : jx_H} {a : jx_A} (e : jx_sb i ls st h = some a) : jx_kd i = 1 ∨ jx_kd i = 3 := by
  cases i <;> first | exact Or.inl rfl | exact Or.inr rfl | (exact absurd e (by simp [jx_sb]))
theorem jx_kd_sc {dt : Nat → Nat → Nat} {i : Instr} {ls st : List Value} {h : jx_H} {a : jx_A} (e : jx_sc dt i ls st h = some a) : jx_kd i = 2 ∨ jx_kd i = 4 := by
  cases i <;> first | exact Or.inl rfl | exact Or.inr rfl | (exact absurd e (by simp [jx_sc]))
theorem jx_kd_a {O : String} {SR : List (String × Nat × Nat × String)} {nL : Nat} {i0 : Instr} {len : Nat} {i : Instr} (e : jx_RIa O SR nL i0 len i) : jx_kd i = 0 := by
  cases i <;> first | rfl | (exact absurd e id)
theorem jx_kd_b {pc : Nat} {i0 : Instr} {len : Nat} {i : Instr} (e : jx_RIb pc i0 len i) : jx_kd i = 1 := by
  cases i <;> first | rfl | (exact absurd e id)
theorem jx_kd_c {NW : List Cond} {O : String} {ini : Bool} {i0 : Instr} {len : Nat} {i : Instr} (e : jx_RIc NW O ini i0 len i) : jx_kd i = 2 := by
  cases i <;> first | rfl | (exact absurd e id)
theorem jx_kd_r {rt : Option FieldType} {hh : List (Nat × Nat × Nat × Nat)} {i0 : Instr} {len : Nat} {i : Instr} (e : jx_RIr rt hh i0 len i) : jx_kd i = 3 := by
  cases i <;> first | rfl | (exact absurd e id)
theorem jx_kd_k {w : jx_W} {dt : Nat → Nat → Nat} {T : jx_T} {P : jx_P} {y0 pc : Nat} {i0 : Instr} {len : Nat} {i : Instr} (e : jx_RIk w dt T P y0 pc i0 len i) : jx_kd i = 4 := by
  cases i <;> first | rfl | (exact absurd e id)
/-- heaps only grow -/
def jx_gr (h h' : jx_H) : Prop := h.2.1 ≤ h'.2.1 ∧ h.2.2 ≤ h'.2.2
