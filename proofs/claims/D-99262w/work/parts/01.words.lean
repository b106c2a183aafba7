-- ===== PART A: goes FIRST, ahead of the names: the tables' words, and 'selects' of the private methods out of them =====
/-- a private method of a class that the tables say can be made, by its rows of tables_1 -/
def lw_okq (q : MethodName × Nat) : Prop := (q.1.cls ≠ "java/lang/invoke/MethodHandle" ∧ q.1.cls ≠ "java/lang/invoke/VarHandle") ∧ Cond.instantiable q.1.cls q.2 ∈ tables_1 ∧ Cond.privateMethod q.1 ∈ tables_1 ∧ Cond.instanceMethod q.1 ∈ tables_1
set_option maxRecDepth 100000
theorem lw_t1 {w : Cond} (h : w ∈ tables_1_1) : w ∈ tables_1 := List.mem_append_left _ h
theorem lw_t2 {w : Cond} (h : w ∈ tables_1_2) : w ∈ tables_1 := List.mem_append_right _ (List.mem_append_left _ h)
theorem lw_t3 {w : Cond} (h : w ∈ tables_1_3) : w ∈ tables_1 := List.mem_append_right _ (List.mem_append_right _ (List.mem_append_left _ h))
theorem lw_t4 {w : Cond} (h : w ∈ tables_1_4) : w ∈ tables_1 := List.mem_append_right _ (List.mem_append_right _ (List.mem_append_right _ (List.mem_append_left _ h)))
theorem lw_t5 {w : Cond} (h : w ∈ tables_1_5) : w ∈ tables_1 := List.mem_append_right _ (List.mem_append_right _ (List.mem_append_right _ (List.mem_append_right _ (List.mem_append_left _ h))))
theorem lw_t6 {w : Cond} (h : w ∈ tables_1_6) : w ∈ tables_1 := List.mem_append_right _ (List.mem_append_right _ (List.mem_append_right _ (List.mem_append_right _ (List.mem_append_right _ (List.mem_append_left _ h)))))
theorem lw_t7 {w : Cond} (h : w ∈ tables_1_7) : w ∈ tables_1 := List.mem_append_right _ (List.mem_append_right _ (List.mem_append_right _ (List.mem_append_right _ (List.mem_append_right _ (List.mem_append_right _ h)))))
theorem lw_p0 : lw_okq (⟨"java/lang/Throwable", "fillInStackTrace", "(I)Ljava/lang/Throwable;"⟩, 6) := ⟨⟨by decide +kernel, by decide +kernel⟩, lw_t1 (List.mem_of_getElem? (i := 180) rfl), lw_t1 (List.mem_of_getElem? (i := 178) rfl), lw_t1 (List.mem_of_getElem? (i := 179) rfl)⟩
theorem lw_p1 : lw_okq (⟨"SpoonCourt", "four", "(I)V"⟩, 22) := ⟨⟨by decide +kernel, by decide +kernel⟩, lw_t1 (List.mem_of_getElem? (i := 28) rfl), lw_t2 (List.mem_of_getElem? (i := 81) rfl), lw_t2 (List.mem_of_getElem? (i := 82) rfl)⟩
theorem lw_p2 : lw_okq (⟨"SpoonCourt$Text", "see", "()I"⟩, 7) := ⟨⟨by decide +kernel, by decide +kernel⟩, lw_t2 (List.mem_of_getElem? (i := 93) rfl), lw_t2 (List.mem_of_getElem? (i := 136) rfl), lw_t2 (List.mem_of_getElem? (i := 137) rfl)⟩
theorem lw_p3 : lw_okq (⟨"SpoonCourt$Text", "oneOf", "([Ljava/lang/String;)I"⟩, 7) := ⟨⟨by decide +kernel, by decide +kernel⟩, lw_t2 (List.mem_of_getElem? (i := 93) rfl), lw_t2 (List.mem_of_getElem? (i := 140) rfl), lw_t2 (List.mem_of_getElem? (i := 141) rfl)⟩
theorem lw_p4 : lw_okq (⟨"SpoonCourt$Text", "isWord", "(Ljava/lang/String;)Z"⟩, 7) := ⟨⟨by decide +kernel, by decide +kernel⟩, lw_t2 (List.mem_of_getElem? (i := 93) rfl), lw_t2 (List.mem_of_getElem? (i := 144) rfl), lw_t2 (List.mem_of_getElem? (i := 145) rfl)⟩
theorem lw_p5 : lw_okq (⟨"SpoonCourt$Text", "letters", "()I"⟩, 7) := ⟨⟨by decide +kernel, by decide +kernel⟩, lw_t2 (List.mem_of_getElem? (i := 93) rfl), lw_t2 (List.mem_of_getElem? (i := 148) rfl), lw_t2 (List.mem_of_getElem? (i := 149) rfl)⟩
theorem lw_p6 : lw_okq (⟨"SpoonCourt$Text", "demand", "(ZII)V"⟩, 7) := ⟨⟨by decide +kernel, by decide +kernel⟩, lw_t2 (List.mem_of_getElem? (i := 93) rfl), lw_t2 (List.mem_of_getElem? (i := 200) rfl), lw_t2 (List.mem_of_getElem? (i := 201) rfl)⟩
theorem lw_p7 : lw_okq (⟨"SpoonCourt$Text", "canBe", "(I)Z"⟩, 7) := ⟨⟨by decide +kernel, by decide +kernel⟩, lw_t2 (List.mem_of_getElem? (i := 93) rfl), lw_t2 (List.mem_of_getElem? (i := 204) rfl), lw_t2 (List.mem_of_getElem? (i := 205) rfl)⟩
theorem lw_p8 : lw_okq (⟨"SpoonCourt$Text", "line", "(I)V"⟩, 7) := ⟨⟨by decide +kernel, by decide +kernel⟩, lw_t2 (List.mem_of_getElem? (i := 93) rfl), lw_t2 (List.mem_of_getElem? (i := 208) rfl), lw_t2 (List.mem_of_getElem? (i := 209) rfl)⟩
theorem lw_p9 : lw_okq (⟨"SpoonCourt$Text", "courtHere", "()V"⟩, 7) := ⟨⟨by decide +kernel, by decide +kernel⟩, lw_t2 (List.mem_of_getElem? (i := 93) rfl), lw_t2 (List.mem_of_getElem? (i := 212) rfl), lw_t2 (List.mem_of_getElem? (i := 213) rfl)⟩
theorem lw_p10 : lw_okq (⟨"SpoonCourt$Text", "number", "(II)I"⟩, 7) := ⟨⟨by decide +kernel, by decide +kernel⟩, lw_t2 (List.mem_of_getElem? (i := 93) rfl), lw_t2 (List.mem_of_getElem? (i := 216) rfl), lw_t2 (List.mem_of_getElem? (i := 217) rfl)⟩
theorem lw_p11 : lw_okq (⟨"SpoonCourt$Text", "isDigit", "(I)Z"⟩, 7) := ⟨⟨by decide +kernel, by decide +kernel⟩, lw_t2 (List.mem_of_getElem? (i := 93) rfl), lw_t2 (List.mem_of_getElem? (i := 220) rfl), lw_t2 (List.mem_of_getElem? (i := 221) rfl)⟩
theorem lw_p12 : lw_okq (⟨"SpoonCourt$Text", "thingNumber", "()I"⟩, 7) := ⟨⟨by decide +kernel, by decide +kernel⟩, lw_t2 (List.mem_of_getElem? (i := 93) rfl), lw_t2 (List.mem_of_getElem? (i := 227) rfl), lw_t2 (List.mem_of_getElem? (i := 228) rfl)⟩
theorem lw_p13 : lw_okq (⟨"SpoonCourt$Text", "personHere", "()V"⟩, 7) := ⟨⟨by decide +kernel, by decide +kernel⟩, lw_t2 (List.mem_of_getElem? (i := 93) rfl), lw_t2 (List.mem_of_getElem? (i := 231) rfl), lw_t2 (List.mem_of_getElem? (i := 232) rfl)⟩
theorem lw_p14 : lw_okq (⟨"SpoonCourt$Text", "quarrelHere", "()V"⟩, 7) := ⟨⟨by decide +kernel, by decide +kernel⟩, lw_t2 (List.mem_of_getElem? (i := 93) rfl), lw_t2 (List.mem_of_getElem? (i := 235) rfl), lw_t2 (List.mem_of_getElem? (i := 236) rfl)⟩
theorem lw_p15 : lw_okq (⟨"SpoonCourt$Text", "takesSign", "(I)Z"⟩, 7) := ⟨⟨by decide +kernel, by decide +kernel⟩, lw_t2 (List.mem_of_getElem? (i := 93) rfl), lw_t2 (List.mem_of_getElem? (i := 239) rfl), lw_t3 (List.mem_of_getElem? (i := 0) rfl)⟩
def lw_privs_1 : List (MethodName × Nat) := [(⟨"java/lang/Throwable", "fillInStackTrace", "(I)Ljava/lang/Throwable;"⟩, 6), (⟨"SpoonCourt", "four", "(I)V"⟩, 22), (⟨"SpoonCourt$Text", "see", "()I"⟩, 7), (⟨"SpoonCourt$Text", "oneOf", "([Ljava/lang/String;)I"⟩, 7), (⟨"SpoonCourt$Text", "isWord", "(Ljava/lang/String;)Z"⟩, 7), (⟨"SpoonCourt$Text", "letters", "()I"⟩, 7), (⟨"SpoonCourt$Text", "demand", "(ZII)V"⟩, 7), (⟨"SpoonCourt$Text", "canBe", "(I)Z"⟩, 7), (⟨"SpoonCourt$Text", "line", "(I)V"⟩, 7), (⟨"SpoonCourt$Text", "courtHere", "()V"⟩, 7), (⟨"SpoonCourt$Text", "number", "(II)I"⟩, 7), (⟨"SpoonCourt$Text", "isDigit", "(I)Z"⟩, 7), (⟨"SpoonCourt$Text", "thingNumber", "()I"⟩, 7), (⟨"SpoonCourt$Text", "personHere", "()V"⟩, 7), (⟨"SpoonCourt$Text", "quarrelHere", "()V"⟩, 7), (⟨"SpoonCourt$Text", "takesSign", "(I)Z"⟩, 7)]
theorem lw_r1 : ∀ q ∈ lw_privs_1, lw_okq q := List.forall_mem_cons.mpr ⟨lw_p0, List.forall_mem_cons.mpr ⟨lw_p1, List.forall_mem_cons.mpr ⟨lw_p2, List.forall_mem_cons.mpr ⟨lw_p3, List.forall_mem_cons.mpr ⟨lw_p4, List.forall_mem_cons.mpr ⟨lw_p5, List.forall_mem_cons.mpr ⟨lw_p6, List.forall_mem_cons.mpr ⟨lw_p7, List.forall_mem_cons.mpr ⟨lw_p8, List.forall_mem_cons.mpr ⟨lw_p9, List.forall_mem_cons.mpr ⟨lw_p10, List.forall_mem_cons.mpr ⟨lw_p11, List.forall_mem_cons.mpr ⟨lw_p12, List.forall_mem_cons.mpr ⟨lw_p13, List.forall_mem_cons.mpr ⟨lw_p14, List.forall_mem_cons.mpr ⟨lw_p15, fun _ h => absurd h List.not_mem_nil⟩⟩⟩⟩⟩⟩⟩⟩⟩⟩⟩⟩⟩⟩⟩⟩
theorem lw_p16 : lw_okq (⟨"SpoonCourt$Text", "ends", "()V"⟩, 7) := ⟨⟨by decide +kernel, by decide +kernel⟩, lw_t2 (List.mem_of_getElem? (i := 93) rfl), lw_t3 (List.mem_of_getElem? (i := 3) rfl), lw_t3 (List.mem_of_getElem? (i := 4) rfl)⟩
theorem lw_p17 : lw_okq (⟨"SpoonCourt", "faulted", "()I"⟩, 22) := ⟨⟨by decide +kernel, by decide +kernel⟩, lw_t1 (List.mem_of_getElem? (i := 28) rfl), lw_t3 (List.mem_of_getElem? (i := 12) rfl), lw_t3 (List.mem_of_getElem? (i := 13) rfl)⟩
theorem lw_p18 : lw_okq (⟨"SpoonCourt$Text", "clauseHere", "()LSpoonCourt$Clause;"⟩, 7) := ⟨⟨by decide +kernel, by decide +kernel⟩, lw_t2 (List.mem_of_getElem? (i := 93) rfl), lw_t3 (List.mem_of_getElem? (i := 41) rfl), lw_t3 (List.mem_of_getElem? (i := 42) rfl)⟩
theorem lw_p19 : lw_okq (⟨"SpoonCourt$Text", "sum", "()LSpoonCourt$Value;"⟩, 7) := ⟨⟨by decide +kernel, by decide +kernel⟩, lw_t2 (List.mem_of_getElem? (i := 93) rfl), lw_t3 (List.mem_of_getElem? (i := 60) rfl), lw_t3 (List.mem_of_getElem? (i := 61) rfl)⟩
theorem lw_p20 : lw_okq (⟨"SpoonCourt$Text", "term", "()LSpoonCourt$Value;"⟩, 7) := ⟨⟨by decide +kernel, by decide +kernel⟩, lw_t2 (List.mem_of_getElem? (i := 93) rfl), lw_t3 (List.mem_of_getElem? (i := 64) rfl), lw_t3 (List.mem_of_getElem? (i := 65) rfl)⟩
theorem lw_p21 : lw_okq (⟨"SpoonCourt$Text", "value", "()LSpoonCourt$Value;"⟩, 7) := ⟨⟨by decide +kernel, by decide +kernel⟩, lw_t2 (List.mem_of_getElem? (i := 93) rfl), lw_t3 (List.mem_of_getElem? (i := 68) rfl), lw_t3 (List.mem_of_getElem? (i := 69) rfl)⟩
theorem lw_p22 : lw_okq (⟨"SpoonCourt$Text", "makes", "(I)V"⟩, 7) := ⟨⟨by decide +kernel, by decide +kernel⟩, lw_t2 (List.mem_of_getElem? (i := 93) rfl), lw_t3 (List.mem_of_getElem? (i := 73) rfl), lw_t3 (List.mem_of_getElem? (i := 74) rfl)⟩
theorem lw_p23 : lw_okq (⟨"SpoonCourt$Text", "takesWord", "(Ljava/lang/String;)Z"⟩, 7) := ⟨⟨by decide +kernel, by decide +kernel⟩, lw_t2 (List.mem_of_getElem? (i := 93) rfl), lw_t3 (List.mem_of_getElem? (i := 117) rfl), lw_t3 (List.mem_of_getElem? (i := 118) rfl)⟩
theorem lw_p24 : lw_okq (⟨"SpoonCourt$Text", "tested", "()LSpoonCourt$Test;"⟩, 7) := ⟨⟨by decide +kernel, by decide +kernel⟩, lw_t2 (List.mem_of_getElem? (i := 93) rfl), lw_t3 (List.mem_of_getElem? (i := 121) rfl), lw_t3 (List.mem_of_getElem? (i := 122) rfl)⟩
theorem lw_p25 : lw_okq (⟨"SpoonCourt$Text", "parted", "()LSpoonCourt$Test;"⟩, 7) := ⟨⟨by decide +kernel, by decide +kernel⟩, lw_t2 (List.mem_of_getElem? (i := 93) rfl), lw_t3 (List.mem_of_getElem? (i := 125) rfl), lw_t3 (List.mem_of_getElem? (i := 126) rfl)⟩
theorem lw_p26 : lw_okq (⟨"SpoonCourt$Text", "fact", "()LSpoonCourt$Test;"⟩, 7) := ⟨⟨by decide +kernel, by decide +kernel⟩, lw_t2 (List.mem_of_getElem? (i := 93) rfl), lw_t3 (List.mem_of_getElem? (i := 129) rfl), lw_t3 (List.mem_of_getElem? (i := 130) rfl)⟩
theorem lw_p27 : lw_okq (⟨"SpoonCourt$Text", "opens", "(I)V"⟩, 7) := ⟨⟨by decide +kernel, by decide +kernel⟩, lw_t2 (List.mem_of_getElem? (i := 93) rfl), lw_t3 (List.mem_of_getElem? (i := 134) rfl), lw_t3 (List.mem_of_getElem? (i := 135) rfl)⟩
theorem lw_p28 : lw_okq (⟨"SpoonCourt$Text", "sign", "()I"⟩, 7) := ⟨⟨by decide +kernel, by decide +kernel⟩, lw_t2 (List.mem_of_getElem? (i := 93) rfl), lw_t3 (List.mem_of_getElem? (i := 151) rfl), lw_t3 (List.mem_of_getElem? (i := 152) rfl)⟩
theorem lw_p29 : lw_okq (⟨"SpoonCourt", "isThing", "(I)Z"⟩, 22) := ⟨⟨by decide +kernel, by decide +kernel⟩, lw_t1 (List.mem_of_getElem? (i := 28) rfl), lw_t3 (List.mem_of_getElem? (i := 197) rfl), lw_t3 (List.mem_of_getElem? (i := 198) rfl)⟩
theorem lw_p30 : lw_okq (⟨"SpoonCourt", "isPerson", "(I)Z"⟩, 22) := ⟨⟨by decide +kernel, by decide +kernel⟩, lw_t1 (List.mem_of_getElem? (i := 28) rfl), lw_t3 (List.mem_of_getElem? (i := 217) rfl), lw_t3 (List.mem_of_getElem? (i := 218) rfl)⟩
theorem lw_p31 : lw_okq (⟨"SpoonCourt", "keepsAct", "()V"⟩, 22) := ⟨⟨by decide +kernel, by decide +kernel⟩, lw_t1 (List.mem_of_getElem? (i := 28) rfl), lw_t3 (List.mem_of_getElem? (i := 237) rfl), lw_t3 (List.mem_of_getElem? (i := 238) rfl)⟩
def lw_privs_2 : List (MethodName × Nat) := [(⟨"SpoonCourt$Text", "ends", "()V"⟩, 7), (⟨"SpoonCourt", "faulted", "()I"⟩, 22), (⟨"SpoonCourt$Text", "clauseHere", "()LSpoonCourt$Clause;"⟩, 7), (⟨"SpoonCourt$Text", "sum", "()LSpoonCourt$Value;"⟩, 7), (⟨"SpoonCourt$Text", "term", "()LSpoonCourt$Value;"⟩, 7), (⟨"SpoonCourt$Text", "value", "()LSpoonCourt$Value;"⟩, 7), (⟨"SpoonCourt$Text", "makes", "(I)V"⟩, 7), (⟨"SpoonCourt$Text", "takesWord", "(Ljava/lang/String;)Z"⟩, 7), (⟨"SpoonCourt$Text", "tested", "()LSpoonCourt$Test;"⟩, 7), (⟨"SpoonCourt$Text", "parted", "()LSpoonCourt$Test;"⟩, 7), (⟨"SpoonCourt$Text", "fact", "()LSpoonCourt$Test;"⟩, 7), (⟨"SpoonCourt$Text", "opens", "(I)V"⟩, 7), (⟨"SpoonCourt$Text", "sign", "()I"⟩, 7), (⟨"SpoonCourt", "isThing", "(I)Z"⟩, 22), (⟨"SpoonCourt", "isPerson", "(I)Z"⟩, 22), (⟨"SpoonCourt", "keepsAct", "()V"⟩, 22)]
theorem lw_r2 : ∀ q ∈ lw_privs_2, lw_okq q := List.forall_mem_cons.mpr ⟨lw_p16, List.forall_mem_cons.mpr ⟨lw_p17, List.forall_mem_cons.mpr ⟨lw_p18, List.forall_mem_cons.mpr ⟨lw_p19, List.forall_mem_cons.mpr ⟨lw_p20, List.forall_mem_cons.mpr ⟨lw_p21, List.forall_mem_cons.mpr ⟨lw_p22, List.forall_mem_cons.mpr ⟨lw_p23, List.forall_mem_cons.mpr ⟨lw_p24, List.forall_mem_cons.mpr ⟨lw_p25, List.forall_mem_cons.mpr ⟨lw_p26, List.forall_mem_cons.mpr ⟨lw_p27, List.forall_mem_cons.mpr ⟨lw_p28, List.forall_mem_cons.mpr ⟨lw_p29, List.forall_mem_cons.mpr ⟨lw_p30, List.forall_mem_cons.mpr ⟨lw_p31, fun _ h => absurd h List.not_mem_nil⟩⟩⟩⟩⟩⟩⟩⟩⟩⟩⟩⟩⟩⟩⟩⟩
theorem lw_p32 : lw_okq (⟨"SpoonCourt", "law", "()LSpoonCourt$Rule;"⟩, 22) := ⟨⟨by decide +kernel, by decide +kernel⟩, lw_t1 (List.mem_of_getElem? (i := 28) rfl), lw_t4 (List.mem_of_getElem? (i := 6) rfl), lw_t4 (List.mem_of_getElem? (i := 7) rfl)⟩
theorem lw_p33 : lw_okq (⟨"SpoonCourt$Court", "sumOf", "(ILSpoonCourt$Rule;)J"⟩, 23) := ⟨⟨by decide +kernel, by decide +kernel⟩, lw_t1 (List.mem_of_getElem? (i := 36) rfl), lw_t4 (List.mem_of_getElem? (i := 18) rfl), lw_t4 (List.mem_of_getElem? (i := 19) rfl)⟩
theorem lw_p34 : lw_okq (⟨"SpoonCourt$Court", "dubs", "(I)V"⟩, 23) := ⟨⟨by decide +kernel, by decide +kernel⟩, lw_t1 (List.mem_of_getElem? (i := 36) rfl), lw_t4 (List.mem_of_getElem? (i := 79) rfl), lw_t4 (List.mem_of_getElem? (i := 80) rfl)⟩
theorem lw_p35 : lw_okq (⟨"SpoonCourt", "isSpared", "(III)Z"⟩, 22) := ⟨⟨by decide +kernel, by decide +kernel⟩, lw_t1 (List.mem_of_getElem? (i := 28) rfl), lw_t4 (List.mem_of_getElem? (i := 135) rfl), lw_t4 (List.mem_of_getElem? (i := 136) rfl)⟩
theorem lw_p36 : lw_okq (⟨"SpoonCourt", "rankBy", "(III)I"⟩, 22) := ⟨⟨by decide +kernel, by decide +kernel⟩, lw_t1 (List.mem_of_getElem? (i := 28) rfl), lw_t4 (List.mem_of_getElem? (i := 143) rfl), lw_t4 (List.mem_of_getElem? (i := 144) rfl)⟩
theorem lw_p37 : lw_okq (⟨"SpoonCourt", "arePeaceful", "(I)Z"⟩, 22) := ⟨⟨by decide +kernel, by decide +kernel⟩, lw_t1 (List.mem_of_getElem? (i := 28) rfl), lw_t4 (List.mem_of_getElem? (i := 159) rfl), lw_t4 (List.mem_of_getElem? (i := 160) rfl)⟩
theorem lw_p38 : lw_okq (⟨"SpoonCourt", "doQuarrel", "(II)Z"⟩, 22) := ⟨⟨by decide +kernel, by decide +kernel⟩, lw_t1 (List.mem_of_getElem? (i := 28) rfl), lw_t4 (List.mem_of_getElem? (i := 163) rfl), lw_t4 (List.mem_of_getElem? (i := 164) rfl)⟩
theorem lw_p39 : lw_okq (⟨"SpoonCourt", "isRest", "(II)Z"⟩, 22) := ⟨⟨by decide +kernel, by decide +kernel⟩, lw_t1 (List.mem_of_getElem? (i := 28) rfl), lw_t4 (List.mem_of_getElem? (i := 182) rfl), lw_t4 (List.mem_of_getElem? (i := 183) rfl)⟩
theorem lw_p40 : lw_okq (⟨"SpoonCourt", "areAlike", "(II)Z"⟩, 22) := ⟨⟨by decide +kernel, by decide +kernel⟩, lw_t1 (List.mem_of_getElem? (i := 28) rfl), lw_t4 (List.mem_of_getElem? (i := 190) rfl), lw_t4 (List.mem_of_getElem? (i := 191) rfl)⟩
theorem lw_p41 : lw_okq (⟨"SpoonCourt", "gathersRules", "()V"⟩, 22) := ⟨⟨by decide +kernel, by decide +kernel⟩, lw_t1 (List.mem_of_getElem? (i := 28) rfl), lw_t4 (List.mem_of_getElem? (i := 202) rfl), lw_t4 (List.mem_of_getElem? (i := 203) rfl)⟩
theorem lw_p42 : lw_okq (⟨"SpoonCourt", "areNotesSo", "(I)Z"⟩, 22) := ⟨⟨by decide +kernel, by decide +kernel⟩, lw_t1 (List.mem_of_getElem? (i := 28) rfl), lw_t4 (List.mem_of_getElem? (i := 207) rfl), lw_t4 (List.mem_of_getElem? (i := 208) rfl)⟩
theorem lw_p43 : lw_okq (⟨"SpoonCourt", "heldBy", "(II)I"⟩, 22) := ⟨⟨by decide +kernel, by decide +kernel⟩, lw_t1 (List.mem_of_getElem? (i := 28) rfl), lw_t4 (List.mem_of_getElem? (i := 211) rfl), lw_t4 (List.mem_of_getElem? (i := 212) rfl)⟩
theorem lw_p44 : lw_okq (⟨"SpoonCourt", "alikeIn", "(I)I"⟩, 22) := ⟨⟨by decide +kernel, by decide +kernel⟩, lw_t1 (List.mem_of_getElem? (i := 28) rfl), lw_t4 (List.mem_of_getElem? (i := 219) rfl), lw_t4 (List.mem_of_getElem? (i := 220) rfl)⟩
theorem lw_p45 : lw_okq (⟨"SpoonCourt", "dubsByDraw", "(I)I"⟩, 22) := ⟨⟨by decide +kernel, by decide +kernel⟩, lw_t1 (List.mem_of_getElem? (i := 28) rfl), lw_t4 (List.mem_of_getElem? (i := 233) rfl), lw_t4 (List.mem_of_getElem? (i := 234) rfl)⟩
theorem lw_p46 : lw_okq (⟨"SpoonCourt", "draw", "(I)I"⟩, 22) := ⟨⟨by decide +kernel, by decide +kernel⟩, lw_t1 (List.mem_of_getElem? (i := 28) rfl), lw_t4 (List.mem_of_getElem? (i := 237) rfl), lw_t4 (List.mem_of_getElem? (i := 238) rfl)⟩
theorem lw_p47 : lw_okq (⟨"SpoonCourtModel", "put", "(I)V"⟩, 53) := ⟨⟨by decide +kernel, by decide +kernel⟩, lw_t5 (List.mem_of_getElem? (i := 41) rfl), lw_t5 (List.mem_of_getElem? (i := 210) rfl), lw_t5 (List.mem_of_getElem? (i := 211) rfl)⟩
def lw_privs_3 : List (MethodName × Nat) := [(⟨"SpoonCourt", "law", "()LSpoonCourt$Rule;"⟩, 22), (⟨"SpoonCourt$Court", "sumOf", "(ILSpoonCourt$Rule;)J"⟩, 23), (⟨"SpoonCourt$Court", "dubs", "(I)V"⟩, 23), (⟨"SpoonCourt", "isSpared", "(III)Z"⟩, 22), (⟨"SpoonCourt", "rankBy", "(III)I"⟩, 22), (⟨"SpoonCourt", "arePeaceful", "(I)Z"⟩, 22), (⟨"SpoonCourt", "doQuarrel", "(II)Z"⟩, 22), (⟨"SpoonCourt", "isRest", "(II)Z"⟩, 22), (⟨"SpoonCourt", "areAlike", "(II)Z"⟩, 22), (⟨"SpoonCourt", "gathersRules", "()V"⟩, 22), (⟨"SpoonCourt", "areNotesSo", "(I)Z"⟩, 22), (⟨"SpoonCourt", "heldBy", "(II)I"⟩, 22), (⟨"SpoonCourt", "alikeIn", "(I)I"⟩, 22), (⟨"SpoonCourt", "dubsByDraw", "(I)I"⟩, 22), (⟨"SpoonCourt", "draw", "(I)I"⟩, 22), (⟨"SpoonCourtModel", "put", "(I)V"⟩, 53)]
theorem lw_r3 : ∀ q ∈ lw_privs_3, lw_okq q := List.forall_mem_cons.mpr ⟨lw_p32, List.forall_mem_cons.mpr ⟨lw_p33, List.forall_mem_cons.mpr ⟨lw_p34, List.forall_mem_cons.mpr ⟨lw_p35, List.forall_mem_cons.mpr ⟨lw_p36, List.forall_mem_cons.mpr ⟨lw_p37, List.forall_mem_cons.mpr ⟨lw_p38, List.forall_mem_cons.mpr ⟨lw_p39, List.forall_mem_cons.mpr ⟨lw_p40, List.forall_mem_cons.mpr ⟨lw_p41, List.forall_mem_cons.mpr ⟨lw_p42, List.forall_mem_cons.mpr ⟨lw_p43, List.forall_mem_cons.mpr ⟨lw_p44, List.forall_mem_cons.mpr ⟨lw_p45, List.forall_mem_cons.mpr ⟨lw_p46, List.forall_mem_cons.mpr ⟨lw_p47, fun _ h => absurd h List.not_mem_nil⟩⟩⟩⟩⟩⟩⟩⟩⟩⟩⟩⟩⟩⟩⟩⟩
theorem lw_p48 : lw_okq (⟨"SpoonCourtModel", "readsAll", "()V"⟩, 53) := ⟨⟨by decide +kernel, by decide +kernel⟩, lw_t5 (List.mem_of_getElem? (i := 41) rfl), lw_t5 (List.mem_of_getElem? (i := 222) rfl), lw_t5 (List.mem_of_getElem? (i := 223) rfl)⟩
theorem lw_p49 : lw_okq (⟨"SpoonCourtModel", "starts", "()V"⟩, 53) := ⟨⟨by decide +kernel, by decide +kernel⟩, lw_t5 (List.mem_of_getElem? (i := 41) rfl), lw_t5 (List.mem_of_getElem? (i := 226) rfl), lw_t5 (List.mem_of_getElem? (i := 227) rfl)⟩
theorem lw_p50 : lw_okq (⟨"SpoonCourtModel", "courtClause", "(I)V"⟩, 53) := ⟨⟨by decide +kernel, by decide +kernel⟩, lw_t5 (List.mem_of_getElem? (i := 41) rfl), lw_t5 (List.mem_of_getElem? (i := 230) rfl), lw_t5 (List.mem_of_getElem? (i := 231) rfl)⟩
theorem lw_p51 : lw_okq (⟨"SpoonCourtModel", "blanks", "()V"⟩, 53) := ⟨⟨by decide +kernel, by decide +kernel⟩, lw_t5 (List.mem_of_getElem? (i := 41) rfl), lw_t5 (List.mem_of_getElem? (i := 234) rfl), lw_t5 (List.mem_of_getElem? (i := 235) rfl)⟩
theorem lw_p52 : lw_okq (⟨"SpoonCourtModel", "sign", "()I"⟩, 53) := ⟨⟨by decide +kernel, by decide +kernel⟩, lw_t5 (List.mem_of_getElem? (i := 41) rfl), lw_t5 (List.mem_of_getElem? (i := 238) rfl), lw_t5 (List.mem_of_getElem? (i := 239) rfl)⟩
theorem lw_p53 : lw_okq (⟨"SpoonCourtModel", "stood", "(Ljava/lang/String;)Z"⟩, 53) := ⟨⟨by decide +kernel, by decide +kernel⟩, lw_t5 (List.mem_of_getElem? (i := 41) rfl), lw_t6 (List.mem_of_getElem? (i := 10) rfl), lw_t6 (List.mem_of_getElem? (i := 11) rfl)⟩
theorem lw_p54 : lw_okq (⟨"SpoonCourtModel", "fails", "(II)V"⟩, 53) := ⟨⟨by decide +kernel, by decide +kernel⟩, lw_t5 (List.mem_of_getElem? (i := 41) rfl), lw_t6 (List.mem_of_getElem? (i := 16) rfl), lw_t6 (List.mem_of_getElem? (i := 17) rfl)⟩
theorem lw_p55 : lw_okq (⟨"SpoonCourtModel", "isFull", "(II)Z"⟩, 53) := ⟨⟨by decide +kernel, by decide +kernel⟩, lw_t5 (List.mem_of_getElem? (i := 41) rfl), lw_t6 (List.mem_of_getElem? (i := 20) rfl), lw_t6 (List.mem_of_getElem? (i := 21) rfl)⟩
theorem lw_p56 : lw_okq (⟨"SpoonCourtModel", "courtPart", "(I)V"⟩, 53) := ⟨⟨by decide +kernel, by decide +kernel⟩, lw_t5 (List.mem_of_getElem? (i := 41) rfl), lw_t6 (List.mem_of_getElem? (i := 24) rfl), lw_t6 (List.mem_of_getElem? (i := 25) rfl)⟩
theorem lw_p57 : lw_okq (⟨"SpoonCourtModel", "amount", "(II)I"⟩, 53) := ⟨⟨by decide +kernel, by decide +kernel⟩, lw_t5 (List.mem_of_getElem? (i := 41) rfl), lw_t6 (List.mem_of_getElem? (i := 28) rfl), lw_t6 (List.mem_of_getElem? (i := 29) rfl)⟩
theorem lw_p58 : lw_okq (⟨"SpoonCourtModel", "digits", "(I)I"⟩, 53) := ⟨⟨by decide +kernel, by decide +kernel⟩, lw_t5 (List.mem_of_getElem? (i := 41) rfl), lw_t6 (List.mem_of_getElem? (i := 33) rfl), lw_t6 (List.mem_of_getElem? (i := 34) rfl)⟩
theorem lw_p59 : lw_okq (⟨"SpoonCourtModel", "isDigit", "()Z"⟩, 53) := ⟨⟨by decide +kernel, by decide +kernel⟩, lw_t5 (List.mem_of_getElem? (i := 41) rfl), lw_t6 (List.mem_of_getElem? (i := 37) rfl), lw_t6 (List.mem_of_getElem? (i := 38) rfl)⟩
theorem lw_p60 : lw_okq (⟨"SpoonCourtModel", "quarrelPart", "()V"⟩, 53) := ⟨⟨by decide +kernel, by decide +kernel⟩, lw_t5 (List.mem_of_getElem? (i := 41) rfl), lw_t6 (List.mem_of_getElem? (i := 46) rfl), lw_t6 (List.mem_of_getElem? (i := 47) rfl)⟩
theorem lw_p61 : lw_okq (⟨"SpoonCourtModel", "goesOn", "()Z"⟩, 53) := ⟨⟨by decide +kernel, by decide +kernel⟩, lw_t5 (List.mem_of_getElem? (i := 41) rfl), lw_t6 (List.mem_of_getElem? (i := 50) rfl), lw_t6 (List.mem_of_getElem? (i := 51) rfl)⟩
theorem lw_p62 : lw_okq (⟨"SpoonCourtModel", "begins", "()V"⟩, 53) := ⟨⟨by decide +kernel, by decide +kernel⟩, lw_t5 (List.mem_of_getElem? (i := 41) rfl), lw_t6 (List.mem_of_getElem? (i := 57) rfl), lw_t6 (List.mem_of_getElem? (i := 58) rfl)⟩
theorem lw_p63 : lw_okq (⟨"SpoonCourtModel", "ruleClause", "(I)V"⟩, 53) := ⟨⟨by decide +kernel, by decide +kernel⟩, lw_t5 (List.mem_of_getElem? (i := 41) rfl), lw_t6 (List.mem_of_getElem? (i := 65) rfl), lw_t6 (List.mem_of_getElem? (i := 66) rfl)⟩
def lw_privs_4 : List (MethodName × Nat) := [(⟨"SpoonCourtModel", "readsAll", "()V"⟩, 53), (⟨"SpoonCourtModel", "starts", "()V"⟩, 53), (⟨"SpoonCourtModel", "courtClause", "(I)V"⟩, 53), (⟨"SpoonCourtModel", "blanks", "()V"⟩, 53), (⟨"SpoonCourtModel", "sign", "()I"⟩, 53), (⟨"SpoonCourtModel", "stood", "(Ljava/lang/String;)Z"⟩, 53), (⟨"SpoonCourtModel", "fails", "(II)V"⟩, 53), (⟨"SpoonCourtModel", "isFull", "(II)Z"⟩, 53), (⟨"SpoonCourtModel", "courtPart", "(I)V"⟩, 53), (⟨"SpoonCourtModel", "amount", "(II)I"⟩, 53), (⟨"SpoonCourtModel", "digits", "(I)I"⟩, 53), (⟨"SpoonCourtModel", "isDigit", "()Z"⟩, 53), (⟨"SpoonCourtModel", "quarrelPart", "()V"⟩, 53), (⟨"SpoonCourtModel", "goesOn", "()Z"⟩, 53), (⟨"SpoonCourtModel", "begins", "()V"⟩, 53), (⟨"SpoonCourtModel", "ruleClause", "(I)V"⟩, 53)]
theorem lw_r4 : ∀ q ∈ lw_privs_4, lw_okq q := List.forall_mem_cons.mpr ⟨lw_p48, List.forall_mem_cons.mpr ⟨lw_p49, List.forall_mem_cons.mpr ⟨lw_p50, List.forall_mem_cons.mpr ⟨lw_p51, List.forall_mem_cons.mpr ⟨lw_p52, List.forall_mem_cons.mpr ⟨lw_p53, List.forall_mem_cons.mpr ⟨lw_p54, List.forall_mem_cons.mpr ⟨lw_p55, List.forall_mem_cons.mpr ⟨lw_p56, List.forall_mem_cons.mpr ⟨lw_p57, List.forall_mem_cons.mpr ⟨lw_p58, List.forall_mem_cons.mpr ⟨lw_p59, List.forall_mem_cons.mpr ⟨lw_p60, List.forall_mem_cons.mpr ⟨lw_p61, List.forall_mem_cons.mpr ⟨lw_p62, List.forall_mem_cons.mpr ⟨lw_p63, fun _ h => absurd h List.not_mem_nil⟩⟩⟩⟩⟩⟩⟩⟩⟩⟩⟩⟩⟩⟩⟩⟩
theorem lw_p64 : lw_okq (⟨"SpoonCourtModel", "sum", "()V"⟩, 53) := ⟨⟨by decide +kernel, by decide +kernel⟩, lw_t5 (List.mem_of_getElem? (i := 41) rfl), lw_t6 (List.mem_of_getElem? (i := 70) rfl), lw_t6 (List.mem_of_getElem? (i := 71) rfl)⟩
theorem lw_p65 : lw_okq (⟨"SpoonCourtModel", "term", "()V"⟩, 53) := ⟨⟨by decide +kernel, by decide +kernel⟩, lw_t5 (List.mem_of_getElem? (i := 41) rfl), lw_t6 (List.mem_of_getElem? (i := 74) rfl), lw_t6 (List.mem_of_getElem? (i := 75) rfl)⟩
theorem lw_p66 : lw_okq (⟨"SpoonCourtModel", "value", "()V"⟩, 53) := ⟨⟨by decide +kernel, by decide +kernel⟩, lw_t5 (List.mem_of_getElem? (i := 41) rfl), lw_t6 (List.mem_of_getElem? (i := 78) rfl), lw_t6 (List.mem_of_getElem? (i := 79) rfl)⟩
theorem lw_p67 : lw_okq (⟨"SpoonCourtModel", "isCounted", "(I)V"⟩, 53) := ⟨⟨by decide +kernel, by decide +kernel⟩, lw_t5 (List.mem_of_getElem? (i := 41) rfl), lw_t6 (List.mem_of_getElem? (i := 82) rfl), lw_t6 (List.mem_of_getElem? (i := 83) rfl)⟩
theorem lw_p68 : lw_okq (⟨"SpoonCourtModel", "entry", "(II)V"⟩, 53) := ⟨⟨by decide +kernel, by decide +kernel⟩, lw_t5 (List.mem_of_getElem? (i := 41) rfl), lw_t6 (List.mem_of_getElem? (i := 86) rfl), lw_t6 (List.mem_of_getElem? (i := 87) rfl)⟩
theorem lw_p69 : lw_okq (⟨"SpoonCourtModel", "takes", "(Ljava/lang/String;)Z"⟩, 53) := ⟨⟨by decide +kernel, by decide +kernel⟩, lw_t5 (List.mem_of_getElem? (i := 41) rfl), lw_t6 (List.mem_of_getElem? (i := 105) rfl), lw_t6 (List.mem_of_getElem? (i := 106) rfl)⟩
theorem lw_p70 : lw_okq (⟨"SpoonCourtModel", "test", "()V"⟩, 53) := ⟨⟨by decide +kernel, by decide +kernel⟩, lw_t5 (List.mem_of_getElem? (i := 41) rfl), lw_t6 (List.mem_of_getElem? (i := 109) rfl), lw_t6 (List.mem_of_getElem? (i := 110) rfl)⟩
theorem lw_p71 : lw_okq (⟨"SpoonCourtModel", "fact", "()Z"⟩, 53) := ⟨⟨by decide +kernel, by decide +kernel⟩, lw_t5 (List.mem_of_getElem? (i := 41) rfl), lw_t6 (List.mem_of_getElem? (i := 113) rfl), lw_t6 (List.mem_of_getElem? (i := 114) rfl)⟩
theorem lw_p72 : lw_okq (⟨"SpoonCourtModel", "opens", "(I)V"⟩, 53) := ⟨⟨by decide +kernel, by decide +kernel⟩, lw_t5 (List.mem_of_getElem? (i := 41) rfl), lw_t6 (List.mem_of_getElem? (i := 118) rfl), lw_t6 (List.mem_of_getElem? (i := 119) rfl)⟩
theorem lw_p73 : lw_okq (⟨"SpoonCourtModel", "compared", "()V"⟩, 53) := ⟨⟨by decide +kernel, by decide +kernel⟩, lw_t5 (List.mem_of_getElem? (i := 41) rfl), lw_t6 (List.mem_of_getElem? (i := 122) rfl), lw_t6 (List.mem_of_getElem? (i := 123) rfl)⟩
theorem lw_p74 : lw_okq (⟨"SpoonCourtModel", "answers", "(I)V"⟩, 53) := ⟨⟨by decide +kernel, by decide +kernel⟩, lw_t5 (List.mem_of_getElem? (i := 41) rfl), lw_t6 (List.mem_of_getElem? (i := 126) rfl), lw_t6 (List.mem_of_getElem? (i := 127) rfl)⟩
theorem lw_p75 : lw_okq (⟨"SpoonCourtModel", "top", "()I"⟩, 53) := ⟨⟨by decide +kernel, by decide +kernel⟩, lw_t5 (List.mem_of_getElem? (i := 41) rfl), lw_t6 (List.mem_of_getElem? (i := 130) rfl), lw_t6 (List.mem_of_getElem? (i := 131) rfl)⟩
theorem lw_p76 : lw_okq (⟨"SpoonCourtModel", "isThing", "(I)Z"⟩, 53) := ⟨⟨by decide +kernel, by decide +kernel⟩, lw_t5 (List.mem_of_getElem? (i := 41) rfl), lw_t6 (List.mem_of_getElem? (i := 145) rfl), lw_t6 (List.mem_of_getElem? (i := 146) rfl)⟩
theorem lw_p77 : lw_okq (⟨"SpoonCourtModel", "knightsOf", "(I)I"⟩, 53) := ⟨⟨by decide +kernel, by decide +kernel⟩, lw_t5 (List.mem_of_getElem? (i := 41) rfl), lw_t6 (List.mem_of_getElem? (i := 149) rfl), lw_t6 (List.mem_of_getElem? (i := 150) rfl)⟩
theorem lw_p78 : lw_okq (⟨"SpoonCourtModel", "isCourt", "()Z"⟩, 53) := ⟨⟨by decide +kernel, by decide +kernel⟩, lw_t5 (List.mem_of_getElem? (i := 41) rfl), lw_t6 (List.mem_of_getElem? (i := 157) rfl), lw_t6 (List.mem_of_getElem? (i := 158) rfl)⟩
theorem lw_p79 : lw_okq (⟨"SpoonCourtModel", "isPerson", "(I)Z"⟩, 53) := ⟨⟨by decide +kernel, by decide +kernel⟩, lw_t5 (List.mem_of_getElem? (i := 41) rfl), lw_t6 (List.mem_of_getElem? (i := 165) rfl), lw_t6 (List.mem_of_getElem? (i := 166) rfl)⟩
def lw_privs_5 : List (MethodName × Nat) := [(⟨"SpoonCourtModel", "sum", "()V"⟩, 53), (⟨"SpoonCourtModel", "term", "()V"⟩, 53), (⟨"SpoonCourtModel", "value", "()V"⟩, 53), (⟨"SpoonCourtModel", "isCounted", "(I)V"⟩, 53), (⟨"SpoonCourtModel", "entry", "(II)V"⟩, 53), (⟨"SpoonCourtModel", "takes", "(Ljava/lang/String;)Z"⟩, 53), (⟨"SpoonCourtModel", "test", "()V"⟩, 53), (⟨"SpoonCourtModel", "fact", "()Z"⟩, 53), (⟨"SpoonCourtModel", "opens", "(I)V"⟩, 53), (⟨"SpoonCourtModel", "compared", "()V"⟩, 53), (⟨"SpoonCourtModel", "answers", "(I)V"⟩, 53), (⟨"SpoonCourtModel", "top", "()I"⟩, 53), (⟨"SpoonCourtModel", "isThing", "(I)Z"⟩, 53), (⟨"SpoonCourtModel", "knightsOf", "(I)I"⟩, 53), (⟨"SpoonCourtModel", "isCourt", "()Z"⟩, 53), (⟨"SpoonCourtModel", "isPerson", "(I)Z"⟩, 53)]
theorem lw_r5 : ∀ q ∈ lw_privs_5, lw_okq q := List.forall_mem_cons.mpr ⟨lw_p64, List.forall_mem_cons.mpr ⟨lw_p65, List.forall_mem_cons.mpr ⟨lw_p66, List.forall_mem_cons.mpr ⟨lw_p67, List.forall_mem_cons.mpr ⟨lw_p68, List.forall_mem_cons.mpr ⟨lw_p69, List.forall_mem_cons.mpr ⟨lw_p70, List.forall_mem_cons.mpr ⟨lw_p71, List.forall_mem_cons.mpr ⟨lw_p72, List.forall_mem_cons.mpr ⟨lw_p73, List.forall_mem_cons.mpr ⟨lw_p74, List.forall_mem_cons.mpr ⟨lw_p75, List.forall_mem_cons.mpr ⟨lw_p76, List.forall_mem_cons.mpr ⟨lw_p77, List.forall_mem_cons.mpr ⟨lw_p78, List.forall_mem_cons.mpr ⟨lw_p79, fun _ h => absurd h List.not_mem_nil⟩⟩⟩⟩⟩⟩⟩⟩⟩⟩⟩⟩⟩⟩⟩⟩
theorem lw_p80 : lw_okq (⟨"SpoonCourtModel", "rankOf", "(I)I"⟩, 53) := ⟨⟨by decide +kernel, by decide +kernel⟩, lw_t5 (List.mem_of_getElem? (i := 41) rfl), lw_t6 (List.mem_of_getElem? (i := 169) rfl), lw_t6 (List.mem_of_getElem? (i := 170) rfl)⟩
theorem lw_p81 : lw_okq (⟨"SpoonCourtModel", "movesAll", "(IZ)V"⟩, 53) := ⟨⟨by decide +kernel, by decide +kernel⟩, lw_t5 (List.mem_of_getElem? (i := 41) rfl), lw_t6 (List.mem_of_getElem? (i := 180) rfl), lw_t6 (List.mem_of_getElem? (i := 181) rfl)⟩
theorem lw_p82 : lw_okq (⟨"SpoonCourtModel", "moves", "(I)I"⟩, 53) := ⟨⟨by decide +kernel, by decide +kernel⟩, lw_t5 (List.mem_of_getElem? (i := 41) rfl), lw_t6 (List.mem_of_getElem? (i := 184) rfl), lw_t6 (List.mem_of_getElem? (i := 185) rfl)⟩
theorem lw_p83 : lw_okq (⟨"SpoonCourtModel", "movesRow", "([I)V"⟩, 53) := ⟨⟨by decide +kernel, by decide +kernel⟩, lw_t5 (List.mem_of_getElem? (i := 41) rfl), lw_t6 (List.mem_of_getElem? (i := 188) rfl), lw_t6 (List.mem_of_getElem? (i := 189) rfl)⟩
theorem lw_p84 : lw_okq (⟨"SpoonCourtModel", "keepsAct", "()V"⟩, 53) := ⟨⟨by decide +kernel, by decide +kernel⟩, lw_t5 (List.mem_of_getElem? (i := 41) rfl), lw_t6 (List.mem_of_getElem? (i := 196) rfl), lw_t6 (List.mem_of_getElem? (i := 197) rfl)⟩
theorem lw_p85 : lw_okq (⟨"SpoonCourtModel", "goes", "()I"⟩, 53) := ⟨⟨by decide +kernel, by decide +kernel⟩, lw_t5 (List.mem_of_getElem? (i := 41) rfl), lw_t6 (List.mem_of_getElem? (i := 200) rfl), lw_t6 (List.mem_of_getElem? (i := 201) rfl)⟩
theorem lw_p86 : lw_okq (⟨"SpoonCourtModel", "holds", "()I"⟩, 53) := ⟨⟨by decide +kernel, by decide +kernel⟩, lw_t5 (List.mem_of_getElem? (i := 41) rfl), lw_t6 (List.mem_of_getElem? (i := 204) rfl), lw_t6 (List.mem_of_getElem? (i := 205) rfl)⟩
theorem lw_p87 : lw_okq (⟨"SpoonCourtModel", "sumOf", "(I)J"⟩, 53) := ⟨⟨by decide +kernel, by decide +kernel⟩, lw_t5 (List.mem_of_getElem? (i := 41) rfl), lw_t6 (List.mem_of_getElem? (i := 208) rfl), lw_t6 (List.mem_of_getElem? (i := 209) rfl)⟩
theorem lw_p88 : lw_okq (⟨"SpoonCourtModel", "knights", "()I"⟩, 53) := ⟨⟨by decide +kernel, by decide +kernel⟩, lw_t5 (List.mem_of_getElem? (i := 41) rfl), lw_t6 (List.mem_of_getElem? (i := 212) rfl), lw_t6 (List.mem_of_getElem? (i := 213) rfl)⟩
theorem lw_p89 : lw_okq (⟨"SpoonCourtModel", "wanted", "()J"⟩, 53) := ⟨⟨by decide +kernel, by decide +kernel⟩, lw_t5 (List.mem_of_getElem? (i := 41) rfl), lw_t6 (List.mem_of_getElem? (i := 219) rfl), lw_t6 (List.mem_of_getElem? (i := 220) rfl)⟩
theorem lw_p90 : lw_okq (⟨"SpoonCourtModel", "answer", "(III)J"⟩, 53) := ⟨⟨by decide +kernel, by decide +kernel⟩, lw_t5 (List.mem_of_getElem? (i := 41) rfl), lw_t6 (List.mem_of_getElem? (i := 223) rfl), lw_t6 (List.mem_of_getElem? (i := 224) rfl)⟩
theorem lw_p91 : lw_okq (⟨"SpoonCourtModel", "keepsAll", "()V"⟩, 53) := ⟨⟨by decide +kernel, by decide +kernel⟩, lw_t5 (List.mem_of_getElem? (i := 41) rfl), lw_t7 (List.mem_of_getElem? (i := 24) rfl), lw_t7 (List.mem_of_getElem? (i := 25) rfl)⟩
theorem lw_p92 : lw_okq (⟨"SpoonCourtModel", "carriesAll", "(IZ)V"⟩, 53) := ⟨⟨by decide +kernel, by decide +kernel⟩, lw_t5 (List.mem_of_getElem? (i := 41) rfl), lw_t7 (List.mem_of_getElem? (i := 28) rfl), lw_t7 (List.mem_of_getElem? (i := 29) rfl)⟩
theorem lw_p93 : lw_okq (⟨"SpoonCourtModel", "carryRow", "([I)V"⟩, 53) := ⟨⟨by decide +kernel, by decide +kernel⟩, lw_t5 (List.mem_of_getElem? (i := 41) rfl), lw_t7 (List.mem_of_getElem? (i := 32) rfl), lw_t7 (List.mem_of_getElem? (i := 33) rfl)⟩
theorem lw_p94 : lw_okq (⟨"SpoonCourtModel", "goFor", "(I)V"⟩, 53) := ⟨⟨by decide +kernel, by decide +kernel⟩, lw_t5 (List.mem_of_getElem? (i := 41) rfl), lw_t7 (List.mem_of_getElem? (i := 36) rfl), lw_t7 (List.mem_of_getElem? (i := 37) rfl)⟩
theorem lw_p95 : lw_okq (⟨"SpoonCourtModel", "laysBack", "()V"⟩, 53) := ⟨⟨by decide +kernel, by decide +kernel⟩, lw_t5 (List.mem_of_getElem? (i := 41) rfl), lw_t7 (List.mem_of_getElem? (i := 40) rfl), lw_t7 (List.mem_of_getElem? (i := 41) rfl)⟩
def lw_privs_6 : List (MethodName × Nat) := [(⟨"SpoonCourtModel", "rankOf", "(I)I"⟩, 53), (⟨"SpoonCourtModel", "movesAll", "(IZ)V"⟩, 53), (⟨"SpoonCourtModel", "moves", "(I)I"⟩, 53), (⟨"SpoonCourtModel", "movesRow", "([I)V"⟩, 53), (⟨"SpoonCourtModel", "keepsAct", "()V"⟩, 53), (⟨"SpoonCourtModel", "goes", "()I"⟩, 53), (⟨"SpoonCourtModel", "holds", "()I"⟩, 53), (⟨"SpoonCourtModel", "sumOf", "(I)J"⟩, 53), (⟨"SpoonCourtModel", "knights", "()I"⟩, 53), (⟨"SpoonCourtModel", "wanted", "()J"⟩, 53), (⟨"SpoonCourtModel", "answer", "(III)J"⟩, 53), (⟨"SpoonCourtModel", "keepsAll", "()V"⟩, 53), (⟨"SpoonCourtModel", "carriesAll", "(IZ)V"⟩, 53), (⟨"SpoonCourtModel", "carryRow", "([I)V"⟩, 53), (⟨"SpoonCourtModel", "goFor", "(I)V"⟩, 53), (⟨"SpoonCourtModel", "laysBack", "()V"⟩, 53)]
theorem lw_r6 : ∀ q ∈ lw_privs_6, lw_okq q := List.forall_mem_cons.mpr ⟨lw_p80, List.forall_mem_cons.mpr ⟨lw_p81, List.forall_mem_cons.mpr ⟨lw_p82, List.forall_mem_cons.mpr ⟨lw_p83, List.forall_mem_cons.mpr ⟨lw_p84, List.forall_mem_cons.mpr ⟨lw_p85, List.forall_mem_cons.mpr ⟨lw_p86, List.forall_mem_cons.mpr ⟨lw_p87, List.forall_mem_cons.mpr ⟨lw_p88, List.forall_mem_cons.mpr ⟨lw_p89, List.forall_mem_cons.mpr ⟨lw_p90, List.forall_mem_cons.mpr ⟨lw_p91, List.forall_mem_cons.mpr ⟨lw_p92, List.forall_mem_cons.mpr ⟨lw_p93, List.forall_mem_cons.mpr ⟨lw_p94, List.forall_mem_cons.mpr ⟨lw_p95, fun _ h => absurd h List.not_mem_nil⟩⟩⟩⟩⟩⟩⟩⟩⟩⟩⟩⟩⟩⟩⟩⟩
theorem lw_p96 : lw_okq (⟨"SpoonCourtModel", "isSpared", "(III)Z"⟩, 53) := ⟨⟨by decide +kernel, by decide +kernel⟩, lw_t5 (List.mem_of_getElem? (i := 41) rfl), lw_t7 (List.mem_of_getElem? (i := 58) rfl), lw_t7 (List.mem_of_getElem? (i := 59) rfl)⟩
theorem lw_p97 : lw_okq (⟨"SpoonCourtModel", "isPeace", "(I)Z"⟩, 53) := ⟨⟨by decide +kernel, by decide +kernel⟩, lw_t5 (List.mem_of_getElem? (i := 41) rfl), lw_t7 (List.mem_of_getElem? (i := 78) rfl), lw_t7 (List.mem_of_getElem? (i := 79) rfl)⟩
theorem lw_p98 : lw_okq (⟨"SpoonCourtModel", "quarrel", "(II)Z"⟩, 53) := ⟨⟨by decide +kernel, by decide +kernel⟩, lw_t5 (List.mem_of_getElem? (i := 41) rfl), lw_t7 (List.mem_of_getElem? (i := 82) rfl), lw_t7 (List.mem_of_getElem? (i := 83) rfl)⟩
theorem lw_p99 : lw_okq (⟨"SpoonCourtModel", "laysDeeds", "(III)V"⟩, 53) := ⟨⟨by decide +kernel, by decide +kernel⟩, lw_t5 (List.mem_of_getElem? (i := 41) rfl), lw_t7 (List.mem_of_getElem? (i := 96) rfl), lw_t7 (List.mem_of_getElem? (i := 97) rfl)⟩
theorem lw_p100 : lw_okq (⟨"SpoonCourtModel", "isRest", "(I)Z"⟩, 53) := ⟨⟨by decide +kernel, by decide +kernel⟩, lw_t5 (List.mem_of_getElem? (i := 41) rfl), lw_t7 (List.mem_of_getElem? (i := 100) rfl), lw_t7 (List.mem_of_getElem? (i := 101) rfl)⟩
theorem lw_p101 : lw_okq (⟨"SpoonCourtModel", "laysCourse", "()V"⟩, 53) := ⟨⟨by decide +kernel, by decide +kernel⟩, lw_t5 (List.mem_of_getElem? (i := 41) rfl), lw_t7 (List.mem_of_getElem? (i := 108) rfl), lw_t7 (List.mem_of_getElem? (i := 109) rfl)⟩
theorem lw_p102 : lw_okq (⟨"SpoonCourtModel", "areAlike", "(II)Z"⟩, 53) := ⟨⟨by decide +kernel, by decide +kernel⟩, lw_t5 (List.mem_of_getElem? (i := 41) rfl), lw_t7 (List.mem_of_getElem? (i := 112) rfl), lw_t7 (List.mem_of_getElem? (i := 113) rfl)⟩
theorem lw_p103 : lw_okq (⟨"SpoonCourtModel", "couldRule", "(I)Z"⟩, 53) := ⟨⟨by decide +kernel, by decide +kernel⟩, lw_t5 (List.mem_of_getElem? (i := 41) rfl), lw_t7 (List.mem_of_getElem? (i := 124) rfl), lw_t7 (List.mem_of_getElem? (i := 125) rfl)⟩
theorem lw_p104 : lw_okq (⟨"SpoonCourtModel", "mostAlike", "(II)I"⟩, 53) := ⟨⟨by decide +kernel, by decide +kernel⟩, lw_t5 (List.mem_of_getElem? (i := 41) rfl), lw_t7 (List.mem_of_getElem? (i := 132) rfl), lw_t7 (List.mem_of_getElem? (i := 133) rfl)⟩
theorem lw_p105 : lw_okq (⟨"SpoonCourtModel", "draws", "(I)I"⟩, 53) := ⟨⟨by decide +kernel, by decide +kernel⟩, lw_t5 (List.mem_of_getElem? (i := 41) rfl), lw_t7 (List.mem_of_getElem? (i := 145) rfl), lw_t7 (List.mem_of_getElem? (i := 146) rfl)⟩
theorem lw_p106 : lw_okq (⟨"SpoonCourtModel", "allRank", "()I"⟩, 53) := ⟨⟨by decide +kernel, by decide +kernel⟩, lw_t5 (List.mem_of_getElem? (i := 41) rfl), lw_t7 (List.mem_of_getElem? (i := 153) rfl), lw_t7 (List.mem_of_getElem? (i := 154) rfl)⟩
def lw_privs_7 : List (MethodName × Nat) := [(⟨"SpoonCourtModel", "isSpared", "(III)Z"⟩, 53), (⟨"SpoonCourtModel", "isPeace", "(I)Z"⟩, 53), (⟨"SpoonCourtModel", "quarrel", "(II)Z"⟩, 53), (⟨"SpoonCourtModel", "laysDeeds", "(III)V"⟩, 53), (⟨"SpoonCourtModel", "isRest", "(I)Z"⟩, 53), (⟨"SpoonCourtModel", "laysCourse", "()V"⟩, 53), (⟨"SpoonCourtModel", "areAlike", "(II)Z"⟩, 53), (⟨"SpoonCourtModel", "couldRule", "(I)Z"⟩, 53), (⟨"SpoonCourtModel", "mostAlike", "(II)I"⟩, 53), (⟨"SpoonCourtModel", "draws", "(I)I"⟩, 53), (⟨"SpoonCourtModel", "allRank", "()I"⟩, 53)]
theorem lw_r7 : ∀ q ∈ lw_privs_7, lw_okq q := List.forall_mem_cons.mpr ⟨lw_p96, List.forall_mem_cons.mpr ⟨lw_p97, List.forall_mem_cons.mpr ⟨lw_p98, List.forall_mem_cons.mpr ⟨lw_p99, List.forall_mem_cons.mpr ⟨lw_p100, List.forall_mem_cons.mpr ⟨lw_p101, List.forall_mem_cons.mpr ⟨lw_p102, List.forall_mem_cons.mpr ⟨lw_p103, List.forall_mem_cons.mpr ⟨lw_p104, List.forall_mem_cons.mpr ⟨lw_p105, List.forall_mem_cons.mpr ⟨lw_p106, fun _ h => absurd h List.not_mem_nil⟩⟩⟩⟩⟩⟩⟩⟩⟩⟩⟩
def lw_privs : List (MethodName × Nat) := lw_privs_1 ++ (lw_privs_2 ++ (lw_privs_3 ++ (lw_privs_4 ++ (lw_privs_5 ++ (lw_privs_6 ++ (lw_privs_7))))))
def lw_tbl : List Cond := k2_sels lw_privs ++ tables_1
theorem lw_privs_ok : ∀ q ∈ lw_privs, lw_okq q := by
  show ∀ q ∈ lw_privs_1 ++ (lw_privs_2 ++ (lw_privs_3 ++ (lw_privs_4 ++ (lw_privs_5 ++ (lw_privs_6 ++ (lw_privs_7)))))), lw_okq q
  exact List.forall_mem_append.mpr ⟨lw_r1, List.forall_mem_append.mpr ⟨lw_r2, List.forall_mem_append.mpr ⟨lw_r3, List.forall_mem_append.mpr ⟨lw_r4, List.forall_mem_append.mpr ⟨lw_r5, List.forall_mem_append.mpr ⟨lw_r6, lw_r7⟩⟩⟩⟩⟩⟩
-- ===== ONE list of words for every method: the tables' words that hold all through a run =====
def lw_all : List Cond := lw_tbl.filter goodWord
/-- a word of the tables by its place: claim/WORDS.tsv -/
theorem lw_w {w : Cond} (i : Nat) (h : lw_tbl[i]? = some w) (g : goodWord w = true) : w ∈ lw_all := List.mem_filter.mpr ⟨List.mem_of_getElem? h, g⟩
theorem lw_all_tbl {w : Cond} (h : w ∈ lw_all) : w ∈ lw_tbl := (List.mem_filter.mp h).1
theorem lw_self : GoodIn lw_all lw_all := fun w h => ⟨h, good_of_word (List.mem_filter.mp h).2⟩
/-- a class's field words, by their places -/
theorem lw_in (ws : List Cond) (ps : List Nat) (hp : ws = ps.filterMap (fun i => lw_tbl[i]?)) (hg : ws.all goodWord = true) : ∀ w ∈ ws, w ∈ lw_all := by
  intro w h
  have h1 := List.all_eq_true.mp hg w h
  rw [hp] at h
  obtain ⟨i, -, hi⟩ := List.mem_filterMap.mp h
  exact lw_w i hi h1
/-- the words of a contract for the method y with code b, L locals, answer r -/
abbrev ws_ (y : MethodName) (b : ByteArray) (L : Nat) (r : Option FieldType) : List Cond := Cond.code y b L r :: lw_all
theorem lw_meth {y : MethodName} {b : ByteArray} {L : Nat} {r : Option FieldType} (h : Cond.code y b L r ∈ lw_all) : GoodIn lw_all (ws_ y b L r) := by
  intro w hw
  rcases List.mem_cons.mp hw with e | e
  · rw [e]
    exact lw_self _ h
  · exact lw_self _ e
theorem lw_app {a c : List Cond} (ha : ∀ w ∈ a, w ∈ lw_all) (hc : GoodIn lw_all c) : GoodIn lw_all (a ++ c) := by
  intro w hw
  rcases List.mem_append.mp hw with e | e
  · exact lw_self w (ha w e)
  · exact hc w e
/-- what a call through an object asks: cwV n hts (lw_V ..) -/
theorem lw_V {own : String} {idx : Nat} {C : String} {y : MethodName} {b : ByteArray} {L : Nat} {r : Option FieldType} (h1 : Cond.methodLink own idx y ∈ lw_all) (h2 : Cond.instanceMethod y ∈ lw_all) (h3 : Cond.selects C y y ∈ lw_all) (h4 : Cond.initialized C ∈ lw_all) (h5 : Cond.code y b L r ∈ lw_all) : GoodIn lw_all (wsV own idx C y (ws_ y b L r)) := by
  refine lw_app ?_ (lw_meth h5)
  intro w hw
  simp only [List.mem_cons, List.not_mem_nil, or_false] at hw
  rcases hw with e | e | e | e
  · rw [e]; exact h1
  · rw [e]; exact h2
  · rw [e]; exact h3
  · rw [e]; exact h4
/-- what a static call asks: va_cwS n hts (lw_S ..) -/
theorem lw_S {own : String} {idx : Nat} {y : MethodName} {b : ByteArray} {L : Nat} {r : Option FieldType} (h1 : Cond.methodLink own idx y ∈ lw_all) (h2 : Cond.static y ∈ lw_all) (h3 : Cond.initialized y.cls ∈ lw_all) (h4 : Cond.code y b L r ∈ lw_all) : GoodIn lw_all (va_wsS own idx y (ws_ y b L r)) := by
  refine lw_app ?_ (lw_meth h4)
  intro w hw
  simp only [List.mem_cons, List.not_mem_nil, or_false] at hw
  rcases hw with e | e | e
  · rw [e]; exact h1
  · rw [e]; exact h2
  · rw [e]; exact h3
/-- the words of a contract for a method WITH HANDLERS (hh: its table) -/
abbrev wsW_ (y : MethodName) (b : ByteArray) (L : Nat) (r : Option FieldType) (hh : List (Nat × Nat × Nat × Nat)) : List Cond := Cond.codeWith y b L r hh :: lw_all
theorem lw_methW {y : MethodName} {b : ByteArray} {L : Nat} {r : Option FieldType} {hh : List (Nat × Nat × Nat × Nat)} (h : Cond.codeWith y b L r hh ∈ lw_all) : GoodIn lw_all (wsW_ y b L r hh) := by
  intro w hw
  rcases List.mem_cons.mp hw with e | e
  · rw [e]
    exact lw_self _ h
  · exact lw_self _ e
/-- any list of words by their places (lw_in), good -/
theorem lw_good {ws : List Cond} (h : ∀ w ∈ ws, w ∈ lw_all) : GoodIn lw_all ws := fun w hw => lw_self w (h w hw)
/-- what a call of a method with handlers asks: vx_cwVW n hts (lw_VW ..), vx_cwSW n hts (lw_SW ..) -/
theorem lw_VW {own : String} {idx : Nat} {C : String} {y : MethodName} {b : ByteArray} {L : Nat} {r : Option FieldType} {hh : List (Nat × Nat × Nat × Nat)} (h1 : Cond.methodLink own idx y ∈ lw_all) (h2 : Cond.instanceMethod y ∈ lw_all) (h3 : Cond.selects C y y ∈ lw_all) (h4 : Cond.initialized C ∈ lw_all) (h5 : Cond.codeWith y b L r hh ∈ lw_all) : GoodIn lw_all (wsV own idx C y (wsW_ y b L r hh)) := by
  refine lw_app ?_ (lw_methW h5)
  intro w hw
  simp only [List.mem_cons, List.not_mem_nil, or_false] at hw
  rcases hw with e | e | e | e
  · rw [e]; exact h1
  · rw [e]; exact h2
  · rw [e]; exact h3
  · rw [e]; exact h4
theorem lw_SW {own : String} {idx : Nat} {y : MethodName} {b : ByteArray} {L : Nat} {r : Option FieldType} {hh : List (Nat × Nat × Nat × Nat)} (h1 : Cond.methodLink own idx y ∈ lw_all) (h2 : Cond.static y ∈ lw_all) (h3 : Cond.initialized y.cls ∈ lw_all) (h4 : Cond.codeWith y b L r hh ∈ lw_all) : GoodIn lw_all (va_wsS own idx y (wsW_ y b L r hh)) := by
  refine lw_app ?_ (lw_methW h4)
  intro w hw
  simp only [List.mem_cons, List.not_mem_nil, or_false] at hw
  rcases hw with e | e | e
  · rw [e]; exact h1
  · rw [e]; exact h2
  · rw [e]; exact h3
/-- a word by its place in its run of the tables -/
theorem lw_at {r : List Cond} (hr : ∀ w ∈ r, w ∈ lw_tbl) {w : Cond} (i : Nat) (h : r[i]? = some w) : w ∈ lw_tbl := hr w (List.mem_of_getElem? h)
theorem lw_g {w : Cond} (h : w ∈ lw_tbl) (g : goodWord w = true) : w ∈ lw_all := List.mem_filter.mpr ⟨h, g⟩
theorem lw_ms : ∀ w ∈ k2_sels lw_privs, w ∈ lw_tbl := fun w h => show w ∈ k2_sels lw_privs ++ tables_1 from List.mem_append_left _ h
theorem lw_m1 : ∀ w ∈ tables_1_1, w ∈ lw_tbl := fun w h => show w ∈ k2_sels lw_privs ++ tables_1 from List.mem_append_right (k2_sels lw_privs) (show w ∈ tables_1 from List.mem_append_left _ h)
theorem lw_m2 : ∀ w ∈ tables_1_2, w ∈ lw_tbl := fun w h => show w ∈ k2_sels lw_privs ++ tables_1 from List.mem_append_right (k2_sels lw_privs) (show w ∈ tables_1 from List.mem_append_right _ (List.mem_append_left _ h))
theorem lw_m3 : ∀ w ∈ tables_1_3, w ∈ lw_tbl := fun w h => show w ∈ k2_sels lw_privs ++ tables_1 from List.mem_append_right (k2_sels lw_privs) (show w ∈ tables_1 from List.mem_append_right _ (List.mem_append_right _ (List.mem_append_left _ h)))
theorem lw_m4 : ∀ w ∈ tables_1_4, w ∈ lw_tbl := fun w h => show w ∈ k2_sels lw_privs ++ tables_1 from List.mem_append_right (k2_sels lw_privs) (show w ∈ tables_1 from List.mem_append_right _ (List.mem_append_right _ (List.mem_append_right _ (List.mem_append_left _ h))))
theorem lw_m5 : ∀ w ∈ tables_1_5, w ∈ lw_tbl := fun w h => show w ∈ k2_sels lw_privs ++ tables_1 from List.mem_append_right (k2_sels lw_privs) (show w ∈ tables_1 from List.mem_append_right _ (List.mem_append_right _ (List.mem_append_right _ (List.mem_append_right _ (List.mem_append_left _ h)))))
theorem lw_m6 : ∀ w ∈ tables_1_6, w ∈ lw_tbl := fun w h => show w ∈ k2_sels lw_privs ++ tables_1 from List.mem_append_right (k2_sels lw_privs) (show w ∈ tables_1 from List.mem_append_right _ (List.mem_append_right _ (List.mem_append_right _ (List.mem_append_right _ (List.mem_append_right _ (List.mem_append_left _ h))))))
theorem lw_m7 : ∀ w ∈ tables_1_7, w ∈ lw_tbl := fun w h => show w ∈ k2_sels lw_privs ++ tables_1 from List.mem_append_right (k2_sels lw_privs) (show w ∈ tables_1 from List.mem_append_right _ (List.mem_append_right _ (List.mem_append_right _ (List.mem_append_right _ (List.mem_append_right _ (List.mem_append_right _ h))))))
theorem qs0 : (Cond.selects "java/lang/Throwable" ⟨"java/lang/Throwable", "fillInStackTrace", "(I)Ljava/lang/Throwable;"⟩ ⟨"java/lang/Throwable", "fillInStackTrace", "(I)Ljava/lang/Throwable;"⟩) ∈ lw_all := lw_g (lw_at lw_ms 0 rfl) rfl
theorem qs1 : (Cond.selects "SpoonCourt" ⟨"SpoonCourt", "four", "(I)V"⟩ ⟨"SpoonCourt", "four", "(I)V"⟩) ∈ lw_all := lw_g (lw_at lw_ms 1 rfl) rfl
theorem qs2 : (Cond.selects "SpoonCourt$Text" ⟨"SpoonCourt$Text", "see", "()I"⟩ ⟨"SpoonCourt$Text", "see", "()I"⟩) ∈ lw_all := lw_g (lw_at lw_ms 2 rfl) rfl
theorem qs3 : (Cond.selects "SpoonCourt$Text" ⟨"SpoonCourt$Text", "oneOf", "([Ljava/lang/String;)I"⟩ ⟨"SpoonCourt$Text", "oneOf", "([Ljava/lang/String;)I"⟩) ∈ lw_all := lw_g (lw_at lw_ms 3 rfl) rfl
theorem qs4 : (Cond.selects "SpoonCourt$Text" ⟨"SpoonCourt$Text", "isWord", "(Ljava/lang/String;)Z"⟩ ⟨"SpoonCourt$Text", "isWord", "(Ljava/lang/String;)Z"⟩) ∈ lw_all := lw_g (lw_at lw_ms 4 rfl) rfl
theorem qs5 : (Cond.selects "SpoonCourt$Text" ⟨"SpoonCourt$Text", "letters", "()I"⟩ ⟨"SpoonCourt$Text", "letters", "()I"⟩) ∈ lw_all := lw_g (lw_at lw_ms 5 rfl) rfl
theorem qs6 : (Cond.selects "SpoonCourt$Text" ⟨"SpoonCourt$Text", "demand", "(ZII)V"⟩ ⟨"SpoonCourt$Text", "demand", "(ZII)V"⟩) ∈ lw_all := lw_g (lw_at lw_ms 6 rfl) rfl
theorem qs7 : (Cond.selects "SpoonCourt$Text" ⟨"SpoonCourt$Text", "canBe", "(I)Z"⟩ ⟨"SpoonCourt$Text", "canBe", "(I)Z"⟩) ∈ lw_all := lw_g (lw_at lw_ms 7 rfl) rfl
theorem qs8 : (Cond.selects "SpoonCourt$Text" ⟨"SpoonCourt$Text", "line", "(I)V"⟩ ⟨"SpoonCourt$Text", "line", "(I)V"⟩) ∈ lw_all := lw_g (lw_at lw_ms 8 rfl) rfl
theorem qs9 : (Cond.selects "SpoonCourt$Text" ⟨"SpoonCourt$Text", "courtHere", "()V"⟩ ⟨"SpoonCourt$Text", "courtHere", "()V"⟩) ∈ lw_all := lw_g (lw_at lw_ms 9 rfl) rfl
theorem qs10 : (Cond.selects "SpoonCourt$Text" ⟨"SpoonCourt$Text", "number", "(II)I"⟩ ⟨"SpoonCourt$Text", "number", "(II)I"⟩) ∈ lw_all := lw_g (lw_at lw_ms 10 rfl) rfl
theorem qs11 : (Cond.selects "SpoonCourt$Text" ⟨"SpoonCourt$Text", "isDigit", "(I)Z"⟩ ⟨"SpoonCourt$Text", "isDigit", "(I)Z"⟩) ∈ lw_all := lw_g (lw_at lw_ms 11 rfl) rfl
theorem qs12 : (Cond.selects "SpoonCourt$Text" ⟨"SpoonCourt$Text", "thingNumber", "()I"⟩ ⟨"SpoonCourt$Text", "thingNumber", "()I"⟩) ∈ lw_all := lw_g (lw_at lw_ms 12 rfl) rfl
theorem qs13 : (Cond.selects "SpoonCourt$Text" ⟨"SpoonCourt$Text", "personHere", "()V"⟩ ⟨"SpoonCourt$Text", "personHere", "()V"⟩) ∈ lw_all := lw_g (lw_at lw_ms 13 rfl) rfl
theorem qs14 : (Cond.selects "SpoonCourt$Text" ⟨"SpoonCourt$Text", "quarrelHere", "()V"⟩ ⟨"SpoonCourt$Text", "quarrelHere", "()V"⟩) ∈ lw_all := lw_g (lw_at lw_ms 14 rfl) rfl
theorem qs15 : (Cond.selects "SpoonCourt$Text" ⟨"SpoonCourt$Text", "takesSign", "(I)Z"⟩ ⟨"SpoonCourt$Text", "takesSign", "(I)Z"⟩) ∈ lw_all := lw_g (lw_at lw_ms 15 rfl) rfl
theorem qs16 : (Cond.selects "SpoonCourt$Text" ⟨"SpoonCourt$Text", "ends", "()V"⟩ ⟨"SpoonCourt$Text", "ends", "()V"⟩) ∈ lw_all := lw_g (lw_at lw_ms 16 rfl) rfl
theorem qs17 : (Cond.selects "SpoonCourt" ⟨"SpoonCourt", "faulted", "()I"⟩ ⟨"SpoonCourt", "faulted", "()I"⟩) ∈ lw_all := lw_g (lw_at lw_ms 17 rfl) rfl
theorem qs18 : (Cond.selects "SpoonCourt$Text" ⟨"SpoonCourt$Text", "clauseHere", "()LSpoonCourt$Clause;"⟩ ⟨"SpoonCourt$Text", "clauseHere", "()LSpoonCourt$Clause;"⟩) ∈ lw_all := lw_g (lw_at lw_ms 18 rfl) rfl
theorem qs19 : (Cond.selects "SpoonCourt$Text" ⟨"SpoonCourt$Text", "sum", "()LSpoonCourt$Value;"⟩ ⟨"SpoonCourt$Text", "sum", "()LSpoonCourt$Value;"⟩) ∈ lw_all := lw_g (lw_at lw_ms 19 rfl) rfl
theorem qs20 : (Cond.selects "SpoonCourt$Text" ⟨"SpoonCourt$Text", "term", "()LSpoonCourt$Value;"⟩ ⟨"SpoonCourt$Text", "term", "()LSpoonCourt$Value;"⟩) ∈ lw_all := lw_g (lw_at lw_ms 20 rfl) rfl
theorem qs21 : (Cond.selects "SpoonCourt$Text" ⟨"SpoonCourt$Text", "value", "()LSpoonCourt$Value;"⟩ ⟨"SpoonCourt$Text", "value", "()LSpoonCourt$Value;"⟩) ∈ lw_all := lw_g (lw_at lw_ms 21 rfl) rfl
theorem qs22 : (Cond.selects "SpoonCourt$Text" ⟨"SpoonCourt$Text", "makes", "(I)V"⟩ ⟨"SpoonCourt$Text", "makes", "(I)V"⟩) ∈ lw_all := lw_g (lw_at lw_ms 22 rfl) rfl
theorem qs23 : (Cond.selects "SpoonCourt$Text" ⟨"SpoonCourt$Text", "takesWord", "(Ljava/lang/String;)Z"⟩ ⟨"SpoonCourt$Text", "takesWord", "(Ljava/lang/String;)Z"⟩) ∈ lw_all := lw_g (lw_at lw_ms 23 rfl) rfl
theorem qs24 : (Cond.selects "SpoonCourt$Text" ⟨"SpoonCourt$Text", "tested", "()LSpoonCourt$Test;"⟩ ⟨"SpoonCourt$Text", "tested", "()LSpoonCourt$Test;"⟩) ∈ lw_all := lw_g (lw_at lw_ms 24 rfl) rfl
theorem qs25 : (Cond.selects "SpoonCourt$Text" ⟨"SpoonCourt$Text", "parted", "()LSpoonCourt$Test;"⟩ ⟨"SpoonCourt$Text", "parted", "()LSpoonCourt$Test;"⟩) ∈ lw_all := lw_g (lw_at lw_ms 25 rfl) rfl
theorem qs26 : (Cond.selects "SpoonCourt$Text" ⟨"SpoonCourt$Text", "fact", "()LSpoonCourt$Test;"⟩ ⟨"SpoonCourt$Text", "fact", "()LSpoonCourt$Test;"⟩) ∈ lw_all := lw_g (lw_at lw_ms 26 rfl) rfl
theorem qs27 : (Cond.selects "SpoonCourt$Text" ⟨"SpoonCourt$Text", "opens", "(I)V"⟩ ⟨"SpoonCourt$Text", "opens", "(I)V"⟩) ∈ lw_all := lw_g (lw_at lw_ms 27 rfl) rfl
theorem qs28 : (Cond.selects "SpoonCourt$Text" ⟨"SpoonCourt$Text", "sign", "()I"⟩ ⟨"SpoonCourt$Text", "sign", "()I"⟩) ∈ lw_all := lw_g (lw_at lw_ms 28 rfl) rfl
theorem qs29 : (Cond.selects "SpoonCourt" ⟨"SpoonCourt", "isThing", "(I)Z"⟩ ⟨"SpoonCourt", "isThing", "(I)Z"⟩) ∈ lw_all := lw_g (lw_at lw_ms 29 rfl) rfl
theorem qs30 : (Cond.selects "SpoonCourt" ⟨"SpoonCourt", "isPerson", "(I)Z"⟩ ⟨"SpoonCourt", "isPerson", "(I)Z"⟩) ∈ lw_all := lw_g (lw_at lw_ms 30 rfl) rfl
theorem qs31 : (Cond.selects "SpoonCourt" ⟨"SpoonCourt", "keepsAct", "()V"⟩ ⟨"SpoonCourt", "keepsAct", "()V"⟩) ∈ lw_all := lw_g (lw_at lw_ms 31 rfl) rfl
theorem qs32 : (Cond.selects "SpoonCourt" ⟨"SpoonCourt", "law", "()LSpoonCourt$Rule;"⟩ ⟨"SpoonCourt", "law", "()LSpoonCourt$Rule;"⟩) ∈ lw_all := lw_g (lw_at lw_ms 32 rfl) rfl
theorem qs33 : (Cond.selects "SpoonCourt$Court" ⟨"SpoonCourt$Court", "sumOf", "(ILSpoonCourt$Rule;)J"⟩ ⟨"SpoonCourt$Court", "sumOf", "(ILSpoonCourt$Rule;)J"⟩) ∈ lw_all := lw_g (lw_at lw_ms 33 rfl) rfl
theorem qs34 : (Cond.selects "SpoonCourt$Court" ⟨"SpoonCourt$Court", "dubs", "(I)V"⟩ ⟨"SpoonCourt$Court", "dubs", "(I)V"⟩) ∈ lw_all := lw_g (lw_at lw_ms 34 rfl) rfl
theorem qs35 : (Cond.selects "SpoonCourt" ⟨"SpoonCourt", "isSpared", "(III)Z"⟩ ⟨"SpoonCourt", "isSpared", "(III)Z"⟩) ∈ lw_all := lw_g (lw_at lw_ms 35 rfl) rfl
theorem qs36 : (Cond.selects "SpoonCourt" ⟨"SpoonCourt", "rankBy", "(III)I"⟩ ⟨"SpoonCourt", "rankBy", "(III)I"⟩) ∈ lw_all := lw_g (lw_at lw_ms 36 rfl) rfl
theorem qs37 : (Cond.selects "SpoonCourt" ⟨"SpoonCourt", "arePeaceful", "(I)Z"⟩ ⟨"SpoonCourt", "arePeaceful", "(I)Z"⟩) ∈ lw_all := lw_g (lw_at lw_ms 37 rfl) rfl
theorem qs38 : (Cond.selects "SpoonCourt" ⟨"SpoonCourt", "doQuarrel", "(II)Z"⟩ ⟨"SpoonCourt", "doQuarrel", "(II)Z"⟩) ∈ lw_all := lw_g (lw_at lw_ms 38 rfl) rfl
theorem qs39 : (Cond.selects "SpoonCourt" ⟨"SpoonCourt", "isRest", "(II)Z"⟩ ⟨"SpoonCourt", "isRest", "(II)Z"⟩) ∈ lw_all := lw_g (lw_at lw_ms 39 rfl) rfl
theorem qs40 : (Cond.selects "SpoonCourt" ⟨"SpoonCourt", "areAlike", "(II)Z"⟩ ⟨"SpoonCourt", "areAlike", "(II)Z"⟩) ∈ lw_all := lw_g (lw_at lw_ms 40 rfl) rfl
theorem qs41 : (Cond.selects "SpoonCourt" ⟨"SpoonCourt", "gathersRules", "()V"⟩ ⟨"SpoonCourt", "gathersRules", "()V"⟩) ∈ lw_all := lw_g (lw_at lw_ms 41 rfl) rfl
theorem qs42 : (Cond.selects "SpoonCourt" ⟨"SpoonCourt", "areNotesSo", "(I)Z"⟩ ⟨"SpoonCourt", "areNotesSo", "(I)Z"⟩) ∈ lw_all := lw_g (lw_at lw_ms 42 rfl) rfl
theorem qs43 : (Cond.selects "SpoonCourt" ⟨"SpoonCourt", "heldBy", "(II)I"⟩ ⟨"SpoonCourt", "heldBy", "(II)I"⟩) ∈ lw_all := lw_g (lw_at lw_ms 43 rfl) rfl
theorem qs44 : (Cond.selects "SpoonCourt" ⟨"SpoonCourt", "alikeIn", "(I)I"⟩ ⟨"SpoonCourt", "alikeIn", "(I)I"⟩) ∈ lw_all := lw_g (lw_at lw_ms 44 rfl) rfl
theorem qs45 : (Cond.selects "SpoonCourt" ⟨"SpoonCourt", "dubsByDraw", "(I)I"⟩ ⟨"SpoonCourt", "dubsByDraw", "(I)I"⟩) ∈ lw_all := lw_g (lw_at lw_ms 45 rfl) rfl
theorem qs46 : (Cond.selects "SpoonCourt" ⟨"SpoonCourt", "draw", "(I)I"⟩ ⟨"SpoonCourt", "draw", "(I)I"⟩) ∈ lw_all := lw_g (lw_at lw_ms 46 rfl) rfl
theorem qs47 : (Cond.selects "SpoonCourtModel" ⟨"SpoonCourtModel", "put", "(I)V"⟩ ⟨"SpoonCourtModel", "put", "(I)V"⟩) ∈ lw_all := lw_g (lw_at lw_ms 47 rfl) rfl
theorem qs48 : (Cond.selects "SpoonCourtModel" ⟨"SpoonCourtModel", "readsAll", "()V"⟩ ⟨"SpoonCourtModel", "readsAll", "()V"⟩) ∈ lw_all := lw_g (lw_at lw_ms 48 rfl) rfl
theorem qs49 : (Cond.selects "SpoonCourtModel" ⟨"SpoonCourtModel", "starts", "()V"⟩ ⟨"SpoonCourtModel", "starts", "()V"⟩) ∈ lw_all := lw_g (lw_at lw_ms 49 rfl) rfl
theorem qs50 : (Cond.selects "SpoonCourtModel" ⟨"SpoonCourtModel", "courtClause", "(I)V"⟩ ⟨"SpoonCourtModel", "courtClause", "(I)V"⟩) ∈ lw_all := lw_g (lw_at lw_ms 50 rfl) rfl
theorem qs51 : (Cond.selects "SpoonCourtModel" ⟨"SpoonCourtModel", "blanks", "()V"⟩ ⟨"SpoonCourtModel", "blanks", "()V"⟩) ∈ lw_all := lw_g (lw_at lw_ms 51 rfl) rfl
theorem qs52 : (Cond.selects "SpoonCourtModel" ⟨"SpoonCourtModel", "sign", "()I"⟩ ⟨"SpoonCourtModel", "sign", "()I"⟩) ∈ lw_all := lw_g (lw_at lw_ms 52 rfl) rfl
theorem qs53 : (Cond.selects "SpoonCourtModel" ⟨"SpoonCourtModel", "stood", "(Ljava/lang/String;)Z"⟩ ⟨"SpoonCourtModel", "stood", "(Ljava/lang/String;)Z"⟩) ∈ lw_all := lw_g (lw_at lw_ms 53 rfl) rfl
theorem qs54 : (Cond.selects "SpoonCourtModel" ⟨"SpoonCourtModel", "fails", "(II)V"⟩ ⟨"SpoonCourtModel", "fails", "(II)V"⟩) ∈ lw_all := lw_g (lw_at lw_ms 54 rfl) rfl
theorem qs55 : (Cond.selects "SpoonCourtModel" ⟨"SpoonCourtModel", "isFull", "(II)Z"⟩ ⟨"SpoonCourtModel", "isFull", "(II)Z"⟩) ∈ lw_all := lw_g (lw_at lw_ms 55 rfl) rfl
theorem qs56 : (Cond.selects "SpoonCourtModel" ⟨"SpoonCourtModel", "courtPart", "(I)V"⟩ ⟨"SpoonCourtModel", "courtPart", "(I)V"⟩) ∈ lw_all := lw_g (lw_at lw_ms 56 rfl) rfl
theorem qs57 : (Cond.selects "SpoonCourtModel" ⟨"SpoonCourtModel", "amount", "(II)I"⟩ ⟨"SpoonCourtModel", "amount", "(II)I"⟩) ∈ lw_all := lw_g (lw_at lw_ms 57 rfl) rfl
theorem qs58 : (Cond.selects "SpoonCourtModel" ⟨"SpoonCourtModel", "digits", "(I)I"⟩ ⟨"SpoonCourtModel", "digits", "(I)I"⟩) ∈ lw_all := lw_g (lw_at lw_ms 58 rfl) rfl
theorem qs59 : (Cond.selects "SpoonCourtModel" ⟨"SpoonCourtModel", "isDigit", "()Z"⟩ ⟨"SpoonCourtModel", "isDigit", "()Z"⟩) ∈ lw_all := lw_g (lw_at lw_ms 59 rfl) rfl
theorem qs60 : (Cond.selects "SpoonCourtModel" ⟨"SpoonCourtModel", "quarrelPart", "()V"⟩ ⟨"SpoonCourtModel", "quarrelPart", "()V"⟩) ∈ lw_all := lw_g (lw_at lw_ms 60 rfl) rfl
theorem qs61 : (Cond.selects "SpoonCourtModel" ⟨"SpoonCourtModel", "goesOn", "()Z"⟩ ⟨"SpoonCourtModel", "goesOn", "()Z"⟩) ∈ lw_all := lw_g (lw_at lw_ms 61 rfl) rfl
theorem qs62 : (Cond.selects "SpoonCourtModel" ⟨"SpoonCourtModel", "begins", "()V"⟩ ⟨"SpoonCourtModel", "begins", "()V"⟩) ∈ lw_all := lw_g (lw_at lw_ms 62 rfl) rfl
theorem qs63 : (Cond.selects "SpoonCourtModel" ⟨"SpoonCourtModel", "ruleClause", "(I)V"⟩ ⟨"SpoonCourtModel", "ruleClause", "(I)V"⟩) ∈ lw_all := lw_g (lw_at lw_ms 63 rfl) rfl
theorem qs64 : (Cond.selects "SpoonCourtModel" ⟨"SpoonCourtModel", "sum", "()V"⟩ ⟨"SpoonCourtModel", "sum", "()V"⟩) ∈ lw_all := lw_g (lw_at lw_ms 64 rfl) rfl
theorem qs65 : (Cond.selects "SpoonCourtModel" ⟨"SpoonCourtModel", "term", "()V"⟩ ⟨"SpoonCourtModel", "term", "()V"⟩) ∈ lw_all := lw_g (lw_at lw_ms 65 rfl) rfl
theorem qs66 : (Cond.selects "SpoonCourtModel" ⟨"SpoonCourtModel", "value", "()V"⟩ ⟨"SpoonCourtModel", "value", "()V"⟩) ∈ lw_all := lw_g (lw_at lw_ms 66 rfl) rfl
theorem qs67 : (Cond.selects "SpoonCourtModel" ⟨"SpoonCourtModel", "isCounted", "(I)V"⟩ ⟨"SpoonCourtModel", "isCounted", "(I)V"⟩) ∈ lw_all := lw_g (lw_at lw_ms 67 rfl) rfl
theorem qs68 : (Cond.selects "SpoonCourtModel" ⟨"SpoonCourtModel", "entry", "(II)V"⟩ ⟨"SpoonCourtModel", "entry", "(II)V"⟩) ∈ lw_all := lw_g (lw_at lw_ms 68 rfl) rfl
theorem qs69 : (Cond.selects "SpoonCourtModel" ⟨"SpoonCourtModel", "takes", "(Ljava/lang/String;)Z"⟩ ⟨"SpoonCourtModel", "takes", "(Ljava/lang/String;)Z"⟩) ∈ lw_all := lw_g (lw_at lw_ms 69 rfl) rfl
theorem qs70 : (Cond.selects "SpoonCourtModel" ⟨"SpoonCourtModel", "test", "()V"⟩ ⟨"SpoonCourtModel", "test", "()V"⟩) ∈ lw_all := lw_g (lw_at lw_ms 70 rfl) rfl
theorem qs71 : (Cond.selects "SpoonCourtModel" ⟨"SpoonCourtModel", "fact", "()Z"⟩ ⟨"SpoonCourtModel", "fact", "()Z"⟩) ∈ lw_all := lw_g (lw_at lw_ms 71 rfl) rfl
theorem qs72 : (Cond.selects "SpoonCourtModel" ⟨"SpoonCourtModel", "opens", "(I)V"⟩ ⟨"SpoonCourtModel", "opens", "(I)V"⟩) ∈ lw_all := lw_g (lw_at lw_ms 72 rfl) rfl
theorem qs73 : (Cond.selects "SpoonCourtModel" ⟨"SpoonCourtModel", "compared", "()V"⟩ ⟨"SpoonCourtModel", "compared", "()V"⟩) ∈ lw_all := lw_g (lw_at lw_ms 73 rfl) rfl
theorem qs74 : (Cond.selects "SpoonCourtModel" ⟨"SpoonCourtModel", "answers", "(I)V"⟩ ⟨"SpoonCourtModel", "answers", "(I)V"⟩) ∈ lw_all := lw_g (lw_at lw_ms 74 rfl) rfl
theorem qs75 : (Cond.selects "SpoonCourtModel" ⟨"SpoonCourtModel", "top", "()I"⟩ ⟨"SpoonCourtModel", "top", "()I"⟩) ∈ lw_all := lw_g (lw_at lw_ms 75 rfl) rfl
theorem qs76 : (Cond.selects "SpoonCourtModel" ⟨"SpoonCourtModel", "isThing", "(I)Z"⟩ ⟨"SpoonCourtModel", "isThing", "(I)Z"⟩) ∈ lw_all := lw_g (lw_at lw_ms 76 rfl) rfl
theorem qs77 : (Cond.selects "SpoonCourtModel" ⟨"SpoonCourtModel", "knightsOf", "(I)I"⟩ ⟨"SpoonCourtModel", "knightsOf", "(I)I"⟩) ∈ lw_all := lw_g (lw_at lw_ms 77 rfl) rfl
theorem qs78 : (Cond.selects "SpoonCourtModel" ⟨"SpoonCourtModel", "isCourt", "()Z"⟩ ⟨"SpoonCourtModel", "isCourt", "()Z"⟩) ∈ lw_all := lw_g (lw_at lw_ms 78 rfl) rfl
theorem qs79 : (Cond.selects "SpoonCourtModel" ⟨"SpoonCourtModel", "isPerson", "(I)Z"⟩ ⟨"SpoonCourtModel", "isPerson", "(I)Z"⟩) ∈ lw_all := lw_g (lw_at lw_ms 79 rfl) rfl
theorem qs80 : (Cond.selects "SpoonCourtModel" ⟨"SpoonCourtModel", "rankOf", "(I)I"⟩ ⟨"SpoonCourtModel", "rankOf", "(I)I"⟩) ∈ lw_all := lw_g (lw_at lw_ms 80 rfl) rfl
theorem qs81 : (Cond.selects "SpoonCourtModel" ⟨"SpoonCourtModel", "movesAll", "(IZ)V"⟩ ⟨"SpoonCourtModel", "movesAll", "(IZ)V"⟩) ∈ lw_all := lw_g (lw_at lw_ms 81 rfl) rfl
theorem qs82 : (Cond.selects "SpoonCourtModel" ⟨"SpoonCourtModel", "moves", "(I)I"⟩ ⟨"SpoonCourtModel", "moves", "(I)I"⟩) ∈ lw_all := lw_g (lw_at lw_ms 82 rfl) rfl
theorem qs83 : (Cond.selects "SpoonCourtModel" ⟨"SpoonCourtModel", "movesRow", "([I)V"⟩ ⟨"SpoonCourtModel", "movesRow", "([I)V"⟩) ∈ lw_all := lw_g (lw_at lw_ms 83 rfl) rfl
theorem qs84 : (Cond.selects "SpoonCourtModel" ⟨"SpoonCourtModel", "keepsAct", "()V"⟩ ⟨"SpoonCourtModel", "keepsAct", "()V"⟩) ∈ lw_all := lw_g (lw_at lw_ms 84 rfl) rfl
theorem qs85 : (Cond.selects "SpoonCourtModel" ⟨"SpoonCourtModel", "goes", "()I"⟩ ⟨"SpoonCourtModel", "goes", "()I"⟩) ∈ lw_all := lw_g (lw_at lw_ms 85 rfl) rfl
theorem qs86 : (Cond.selects "SpoonCourtModel" ⟨"SpoonCourtModel", "holds", "()I"⟩ ⟨"SpoonCourtModel", "holds", "()I"⟩) ∈ lw_all := lw_g (lw_at lw_ms 86 rfl) rfl
theorem qs87 : (Cond.selects "SpoonCourtModel" ⟨"SpoonCourtModel", "sumOf", "(I)J"⟩ ⟨"SpoonCourtModel", "sumOf", "(I)J"⟩) ∈ lw_all := lw_g (lw_at lw_ms 87 rfl) rfl
theorem qs88 : (Cond.selects "SpoonCourtModel" ⟨"SpoonCourtModel", "knights", "()I"⟩ ⟨"SpoonCourtModel", "knights", "()I"⟩) ∈ lw_all := lw_g (lw_at lw_ms 88 rfl) rfl
theorem qs89 : (Cond.selects "SpoonCourtModel" ⟨"SpoonCourtModel", "wanted", "()J"⟩ ⟨"SpoonCourtModel", "wanted", "()J"⟩) ∈ lw_all := lw_g (lw_at lw_ms 89 rfl) rfl
theorem qs90 : (Cond.selects "SpoonCourtModel" ⟨"SpoonCourtModel", "answer", "(III)J"⟩ ⟨"SpoonCourtModel", "answer", "(III)J"⟩) ∈ lw_all := lw_g (lw_at lw_ms 90 rfl) rfl
theorem qs91 : (Cond.selects "SpoonCourtModel" ⟨"SpoonCourtModel", "keepsAll", "()V"⟩ ⟨"SpoonCourtModel", "keepsAll", "()V"⟩) ∈ lw_all := lw_g (lw_at lw_ms 91 rfl) rfl
theorem qs92 : (Cond.selects "SpoonCourtModel" ⟨"SpoonCourtModel", "carriesAll", "(IZ)V"⟩ ⟨"SpoonCourtModel", "carriesAll", "(IZ)V"⟩) ∈ lw_all := lw_g (lw_at lw_ms 92 rfl) rfl
theorem qs93 : (Cond.selects "SpoonCourtModel" ⟨"SpoonCourtModel", "carryRow", "([I)V"⟩ ⟨"SpoonCourtModel", "carryRow", "([I)V"⟩) ∈ lw_all := lw_g (lw_at lw_ms 93 rfl) rfl
theorem qs94 : (Cond.selects "SpoonCourtModel" ⟨"SpoonCourtModel", "goFor", "(I)V"⟩ ⟨"SpoonCourtModel", "goFor", "(I)V"⟩) ∈ lw_all := lw_g (lw_at lw_ms 94 rfl) rfl
theorem qs95 : (Cond.selects "SpoonCourtModel" ⟨"SpoonCourtModel", "laysBack", "()V"⟩ ⟨"SpoonCourtModel", "laysBack", "()V"⟩) ∈ lw_all := lw_g (lw_at lw_ms 95 rfl) rfl
theorem qs96 : (Cond.selects "SpoonCourtModel" ⟨"SpoonCourtModel", "isSpared", "(III)Z"⟩ ⟨"SpoonCourtModel", "isSpared", "(III)Z"⟩) ∈ lw_all := lw_g (lw_at lw_ms 96 rfl) rfl
theorem qs97 : (Cond.selects "SpoonCourtModel" ⟨"SpoonCourtModel", "isPeace", "(I)Z"⟩ ⟨"SpoonCourtModel", "isPeace", "(I)Z"⟩) ∈ lw_all := lw_g (lw_at lw_ms 97 rfl) rfl
theorem qs98 : (Cond.selects "SpoonCourtModel" ⟨"SpoonCourtModel", "quarrel", "(II)Z"⟩ ⟨"SpoonCourtModel", "quarrel", "(II)Z"⟩) ∈ lw_all := lw_g (lw_at lw_ms 98 rfl) rfl
theorem qs99 : (Cond.selects "SpoonCourtModel" ⟨"SpoonCourtModel", "laysDeeds", "(III)V"⟩ ⟨"SpoonCourtModel", "laysDeeds", "(III)V"⟩) ∈ lw_all := lw_g (lw_at lw_ms 99 rfl) rfl
theorem qs100 : (Cond.selects "SpoonCourtModel" ⟨"SpoonCourtModel", "isRest", "(I)Z"⟩ ⟨"SpoonCourtModel", "isRest", "(I)Z"⟩) ∈ lw_all := lw_g (lw_at lw_ms 100 rfl) rfl
theorem qs101 : (Cond.selects "SpoonCourtModel" ⟨"SpoonCourtModel", "laysCourse", "()V"⟩ ⟨"SpoonCourtModel", "laysCourse", "()V"⟩) ∈ lw_all := lw_g (lw_at lw_ms 101 rfl) rfl
theorem qs102 : (Cond.selects "SpoonCourtModel" ⟨"SpoonCourtModel", "areAlike", "(II)Z"⟩ ⟨"SpoonCourtModel", "areAlike", "(II)Z"⟩) ∈ lw_all := lw_g (lw_at lw_ms 102 rfl) rfl
theorem qs103 : (Cond.selects "SpoonCourtModel" ⟨"SpoonCourtModel", "couldRule", "(I)Z"⟩ ⟨"SpoonCourtModel", "couldRule", "(I)Z"⟩) ∈ lw_all := lw_g (lw_at lw_ms 103 rfl) rfl
theorem qs104 : (Cond.selects "SpoonCourtModel" ⟨"SpoonCourtModel", "mostAlike", "(II)I"⟩ ⟨"SpoonCourtModel", "mostAlike", "(II)I"⟩) ∈ lw_all := lw_g (lw_at lw_ms 104 rfl) rfl
theorem qs105 : (Cond.selects "SpoonCourtModel" ⟨"SpoonCourtModel", "draws", "(I)I"⟩ ⟨"SpoonCourtModel", "draws", "(I)I"⟩) ∈ lw_all := lw_g (lw_at lw_ms 105 rfl) rfl
theorem qs106 : (Cond.selects "SpoonCourtModel" ⟨"SpoonCourtModel", "allRank", "()I"⟩ ⟨"SpoonCourtModel", "allRank", "()I"⟩) ∈ lw_all := lw_g (lw_at lw_ms 106 rfl) rfl
