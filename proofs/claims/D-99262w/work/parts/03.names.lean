set_option maxRecDepth 100000
-- X0.SpoonCourt.lean.txt
def RX0 : String := "SpoonCourt"
def TX0 : u_T := fun k => match k with
  | 0 => ("SpoonCourt", "court", "LSpoonCourt$Court;", false)
  | 1 => ("SpoonCourt", "own", "LSpoonCourt$Court;", true)
  | 2 => ("SpoonCourt", "spare", "LSpoonCourt$Court;", true)
  | 3 => ("SpoonCourt", "reading", "LSpoonCourt$Court;", true)
  | 4 => ("SpoonCourt", "blank", "LSpoonCourt$Court;", true)
  | 5 => ("SpoonCourt", "x", "I", false)
  | 6 => ("SpoonCourt", "inForce", "I", false)
  | 7 => ("SpoonCourt", "fault", "LSpoonCourt$Fault;", true)
  | 8 => ("SpoonCourt", "tape", "[B", true)
  | 9 => ("SpoonCourt", "taped", "I", false)
  | 10 => ("SpoonCourt", "lineWords", "[Ljava/lang/String;", true)
  | 11 => ("SpoonCourt", "clauseWords", "[Ljava/lang/String;", true)
  | 12 => ("SpoonCourt", "wordNames", "[Ljava/lang/String;", true)
  | 13 => ("SpoonCourt", "rules", "[LSpoonCourt$Rule;", true)
  | 14 => ("SpoonCourt", "ruleMany", "I", false)
  | 15 => ("SpoonCourt", "hasOne", "[I", true)
  | 16 => ("SpoonCourt", "hasOther", "[I", true)
  | 17 => ("SpoonCourt", "hands", "[I", true)
  | 18 => ("SpoonCourt", "isFit", "[Z", true)
  | 19 => ("SpoonCourt", "heldThen", "[I", true)
  | 20 => ("SpoonCourt", "drawX", "I", false)
  | _ => ("SpoonCourt", "images", "[LSpoonCourt$Image;", true)
def tyX0 : Nat → FieldType := fun k => match k with
  | 0 => .object "SpoonCourt$Court"
  | 1 => .object "SpoonCourt$Court"
  | 2 => .object "SpoonCourt$Court"
  | 3 => .object "SpoonCourt$Court"
  | 4 => .object "SpoonCourt$Court"
  | 5 => .int
  | 6 => .int
  | 7 => .object "SpoonCourt$Fault"
  | 8 => .array .byte
  | 9 => .int
  | 10 => .array (.object "java/lang/String")
  | 11 => .array (.object "java/lang/String")
  | 12 => .array (.object "java/lang/String")
  | 13 => .array (.object "SpoonCourt$Rule")
  | 14 => .int
  | 15 => .array .int
  | 16 => .array .int
  | 17 => .array .int
  | 18 => .array .boolean
  | 19 => .array .int
  | 20 => .int
  | _ => .array (.object "SpoonCourt$Image")
abbrev wsX00 : List Cond := u_ws RX0 TX0 22
set_option maxRecDepth 100000 in
theorem nmX0 : ∀ a, a < 22 → ∀ b, b < 22 → a ≠ b → (TX0 a).2.1 ≠ (TX0 b).2.1 := by decide +kernel
set_option maxRecDepth 100000 in
theorem tyX0_ok : ∀ k, k < 22 → parseFieldDescriptor (TX0 k).2.2.1 = some (tyX0 k) := by decide +kernel
abbrev cX0_init : ByteArray := prog_1_method_3_code
def yX0_init : MethodName := ⟨RX0, "<init>", "()V"⟩
abbrev cX0_feed : ByteArray := prog_1_method_4_code
def yX0_feed : MethodName := ⟨RX0, "feed", "(IIIII)I"⟩
abbrev cX0_four : ByteArray := prog_1_method_5_code
def yX0_four : MethodName := ⟨RX0, "four", "(I)V"⟩
abbrev cX0_end : ByteArray := prog_1_method_6_code
def yX0_end : MethodName := ⟨RX0, "end", "(I)I"⟩
abbrev cX0_court : ByteArray := prog_1_method_8_code
def yX0_court : MethodName := ⟨RX0, "court", "()I"⟩
abbrev cX0_in : ByteArray := prog_1_method_1_code
def yX0_in : MethodName := ⟨RX0, "in", "(JJJ)Z"⟩
abbrev cX0_faulted : ByteArray := prog_1_method_7_code
def yX0_faulted : MethodName := ⟨RX0, "faulted", "()I"⟩
abbrev cX0_rule : ByteArray := prog_1_method_9_code
def yX0_rule : MethodName := ⟨RX0, "rule", "()I"⟩
abbrev cX0_force : ByteArray := prog_1_method_10_code
def yX0_force : MethodName := ⟨RX0, "force", "(I)I"⟩
abbrev cX0_thing : ByteArray := prog_1_method_14_code
def yX0_thing : MethodName := ⟨RX0, "thing", "(II)I"⟩
abbrev cX0_isThing : ByteArray := prog_1_method_12_code
def yX0_isThing : MethodName := ⟨RX0, "isThing", "(I)Z"⟩
abbrev cX0_has : ByteArray := prog_1_method_2_code
def yX0_has : MethodName := ⟨RX0, "has", "(II)Z"⟩
abbrev cX0_usual : ByteArray := prog_1_method_15_code
def yX0_usual : MethodName := ⟨RX0, "usual", "(I)I"⟩
abbrev cX0_person : ByteArray := prog_1_method_16_code
def yX0_person : MethodName := ⟨RX0, "person", "(II)I"⟩
abbrev cX0_isPerson : ByteArray := prog_1_method_13_code
def yX0_isPerson : MethodName := ⟨RX0, "isPerson", "(I)Z"⟩
abbrev cX0_undo : ByteArray := prog_1_method_18_code
def yX0_undo : MethodName := ⟨RX0, "undo", "()I"⟩
abbrev cX0_hour : ByteArray := prog_1_method_19_code
def yX0_hour : MethodName := ⟨RX0, "hour", "()I"⟩
abbrev cX0_keepsAct : ByteArray := prog_1_method_17_code
def yX0_keepsAct : MethodName := ⟨RX0, "keepsAct", "()V"⟩
abbrev cX0_law : ByteArray := prog_1_method_11_code
def yX0_law : MethodName := ⟨RX0, "law", "()LSpoonCourt$Rule;"⟩
abbrev cX0_deed : ByteArray := prog_1_method_20_code
def yX0_deed : MethodName := ⟨RX0, "deed", "(II)I"⟩
abbrev cX0_slight : ByteArray := prog_1_method_21_code
def yX0_slight : MethodName := ⟨RX0, "slight", "(II)I"⟩
abbrev cX0_tray : ByteArray := prog_1_method_22_code
def yX0_tray : MethodName := ⟨RX0, "tray", "(I)I"⟩
abbrev cX0_gloves : ByteArray := prog_1_method_23_code
def yX0_gloves : MethodName := ⟨RX0, "gloves", "(I)I"⟩
abbrev cX0_strip : ByteArray := prog_1_method_24_code
def yX0_strip : MethodName := ⟨RX0, "strip", "(II)I"⟩
abbrev cX0_ahead : ByteArray := prog_1_method_25_code
def yX0_ahead : MethodName := ⟨RX0, "ahead", "(III)I"⟩
abbrev cX0_dubbed : ByteArray := prog_1_method_26_code
def yX0_dubbed : MethodName := ⟨RX0, "dubbed", "(II)I"⟩
abbrev cX0_least : ByteArray := prog_1_method_27_code
def yX0_least : MethodName := ⟨RX0, "least", "(III)I"⟩
abbrev cX0_spare : ByteArray := prog_1_method_29_code
def yX0_spare : MethodName := ⟨RX0, "spare", "(III)I"⟩
abbrev cX0_isSpared : ByteArray := prog_1_method_28_code
def yX0_isSpared : MethodName := ⟨RX0, "isSpared", "(III)Z"⟩
abbrev cX0_lay : ByteArray := prog_1_method_31_code
def yX0_lay : MethodName := ⟨RX0, "lay", "(III)I"⟩
abbrev cX0_rankBy : ByteArray := prog_1_method_30_code
def yX0_rankBy : MethodName := ⟨RX0, "rankBy", "(III)I"⟩
abbrev cX0_held : ByteArray := prog_1_method_32_code
def yX0_held : MethodName := ⟨RX0, "held", "(II)I"⟩
abbrev cX0_place : ByteArray := prog_1_method_33_code
def yX0_place : MethodName := ⟨RX0, "place", "(I)I"⟩
abbrev cX0_stripped : ByteArray := prog_1_method_36_code
def yX0_stripped : MethodName := ⟨RX0, "stripped", "(I)I"⟩
abbrev cX0_arePeaceful : ByteArray := prog_1_method_35_code
def yX0_arePeaceful : MethodName := ⟨RX0, "arePeaceful", "(I)Z"⟩
abbrev cX0_doQuarrel : ByteArray := prog_1_method_34_code
def yX0_doQuarrel : MethodName := ⟨RX0, "doQuarrel", "(II)Z"⟩
abbrev cX0_gold : ByteArray := prog_1_method_37_code
def yX0_gold : MethodName := ⟨RX0, "gold", "(II)I"⟩
abbrev cX0_rests : ByteArray := prog_1_method_39_code
def yX0_rests : MethodName := ⟨RX0, "rests", "(IIII)I"⟩
abbrev cX0_isRest : ByteArray := prog_1_method_38_code
def yX0_isRest : MethodName := ⟨RX0, "isRest", "(II)Z"⟩
abbrev cX0_ring : ByteArray := prog_1_method_41_code
def yX0_ring : MethodName := ⟨RX0, "ring", "(I)I"⟩
abbrev cX0_areAlike : ByteArray := prog_1_method_40_code
def yX0_areAlike : MethodName := ⟨RX0, "areAlike", "(II)Z"⟩
abbrev cX0_note : ByteArray := prog_1_method_42_code
def yX0_note : MethodName := ⟨RX0, "note", "(II)I"⟩
abbrev cX0_ruled : ByteArray := prog_1_method_46_code
def yX0_ruled : MethodName := ⟨RX0, "ruled", "(I)I"⟩
abbrev cX0_gathersRules : ByteArray := prog_1_method_45_code
def yX0_gathersRules : MethodName := ⟨RX0, "gathersRules", "()V"⟩
abbrev cX0_areNotesSo : ByteArray := prog_1_method_44_code
def yX0_areNotesSo : MethodName := ⟨RX0, "areNotesSo", "(I)Z"⟩
abbrev cX0_heldBy : ByteArray := prog_1_method_43_code
def yX0_heldBy : MethodName := ⟨RX0, "heldBy", "(II)I"⟩
abbrev cX0_look : ByteArray := prog_1_method_48_code
def yX0_look : MethodName := ⟨RX0, "look", "(I)I"⟩
abbrev cX0_alikeIn : ByteArray := prog_1_method_47_code
def yX0_alikeIn : MethodName := ⟨RX0, "alikeIn", "(I)I"⟩
abbrev cX0_seed : ByteArray := prog_1_method_49_code
def yX0_seed : MethodName := ⟨RX0, "seed", "(I)I"⟩
abbrev cX0_years : ByteArray := prog_1_method_52_code
def yX0_years : MethodName := ⟨RX0, "years", "(IIII)I"⟩
abbrev cX0_dubsByDraw : ByteArray := prog_1_method_51_code
def yX0_dubsByDraw : MethodName := ⟨RX0, "dubsByDraw", "(I)I"⟩
abbrev cX0_draw : ByteArray := prog_1_method_50_code
def yX0_draw : MethodName := ⟨RX0, "draw", "(I)I"⟩
abbrev cX0_count : ByteArray := prog_1_method_53_code
def yX0_count : MethodName := ⟨RX0, "count", "(I)I"⟩
abbrev cX0_image : ByteArray := prog_1_method_54_code
def yX0_image : MethodName := ⟨RX0, "image", "(I)I"⟩
abbrev cX0_back : ByteArray := prog_1_method_55_code
def yX0_back : MethodName := ⟨RX0, "back", "(I)I"⟩
theorem q108 : (Jvm.Cond.initialized "SpoonCourt") ∈ lw_all := lw_g (lw_at lw_m1 1 rfl) rfl
theorem q135 : (Jvm.Cond.instantiable "SpoonCourt" (22 : Nat)) ∈ lw_all := lw_g (lw_at lw_m1 28 rfl) rfl
theorem q137 : (Jvm.Cond.instanceMethod ({ cls := "SpoonCourt", name := "<init>", desc := "()V" } : Jvm.MethodName)) ∈ lw_all := lw_g (lw_at lw_m1 30 rfl) rfl
theorem q138 : (Jvm.Cond.code ({ cls := "SpoonCourt", name := "<init>", desc := "()V" } : Jvm.MethodName) prog_1_method_3_code (1 : Nat) (Option.none : Option Jvm.ClassFile.FieldType)) ∈ lw_all := lw_g (lw_at lw_m1 31 rfl) rfl
theorem q139 : (Jvm.Cond.methodLink "SpoonCourt" (1 : Nat) ({ cls := "java/lang/Object", name := "<init>", desc := "()V" } : Jvm.MethodName)) ∈ lw_all := lw_g (lw_at lw_m1 32 rfl) rfl
theorem q142 : (Jvm.Cond.classLink "SpoonCourt" (7 : Nat) "SpoonCourt$Court") ∈ lw_all := lw_g (lw_at lw_m1 35 rfl) rfl
theorem q144 : (Jvm.Cond.methodLinkNest "SpoonCourt" (9 : Nat) ({ cls := "SpoonCourt$Court", name := "<init>", desc := "()V" } : Jvm.MethodName) "SpoonCourt") ∈ lw_tbl := lw_at lw_m1 37 rfl
theorem q149 : (Jvm.Cond.fieldLinkNest "SpoonCourt" (175 : Nat) "SpoonCourt$Court" "day" "I" "SpoonCourt") ∈ lw_tbl := lw_at lw_m1 42 rfl
theorem q153 : (Jvm.Cond.fieldLinkNest "SpoonCourt" (352 : Nat) "SpoonCourt$Court" "owed" "I" "SpoonCourt") ∈ lw_tbl := lw_at lw_m1 46 rfl
theorem q155 : (Jvm.Cond.fieldLinkNest "SpoonCourt" (143 : Nat) "SpoonCourt$Court" "thingMany" "I" "SpoonCourt") ∈ lw_tbl := lw_at lw_m1 48 rfl
theorem q158 : (Jvm.Cond.fieldLinkNest "SpoonCourt" (157 : Nat) "SpoonCourt$Court" "personMany" "I" "SpoonCourt") ∈ lw_tbl := lw_at lw_m1 51 rfl
theorem q161 : (Jvm.Cond.fieldLinkNest "SpoonCourt" (302 : Nat) "SpoonCourt$Court" "noteMany" "I" "SpoonCourt") ∈ lw_tbl := lw_at lw_m1 54 rfl
theorem q163 : (Jvm.Cond.fieldLinkNest "SpoonCourt" (201 : Nat) "SpoonCourt$Court" "undoMany" "I" "SpoonCourt") ∈ lw_tbl := lw_at lw_m1 56 rfl
theorem q167 : (Jvm.Cond.fieldLinkNest "SpoonCourt" (219 : Nat) "SpoonCourt$Court" "now" "I" "SpoonCourt") ∈ lw_tbl := lw_at lw_m1 60 rfl
theorem q169 : (Jvm.Cond.fieldLinkNest "SpoonCourt" (261 : Nat) "SpoonCourt$Court" "last" "I" "SpoonCourt") ∈ lw_tbl := lw_at lw_m1 62 rfl
theorem q171 : (Jvm.Cond.fieldLinkNest "SpoonCourt" (238 : Nat) "SpoonCourt$Court" "tray" "I" "SpoonCourt") ∈ lw_tbl := lw_at lw_m1 64 rfl
theorem q173 : (Jvm.Cond.fieldLinkNest "SpoonCourt" (243 : Nat) "SpoonCourt$Court" "gloves" "I" "SpoonCourt") ∈ lw_tbl := lw_at lw_m1 66 rfl
theorem q175 : (Jvm.Cond.fieldLinkNest "SpoonCourt" (164 : Nat) "SpoonCourt$Court" "rank" "[I" "SpoonCourt") ∈ lw_tbl := lw_at lw_m1 68 rfl
theorem q178 : (Jvm.Cond.fieldLinkNest "SpoonCourt" (182 : Nat) "SpoonCourt$Court" "usual" "[I" "SpoonCourt") ∈ lw_tbl := lw_at lw_m1 71 rfl
theorem q181 : (Jvm.Cond.fieldLinkNest "SpoonCourt" (172 : Nat) "SpoonCourt$Court" "quarrels" "[I" "SpoonCourt") ∈ lw_tbl := lw_at lw_m1 74 rfl
theorem q186 : (Jvm.Cond.fieldLinkNest "SpoonCourt" (190 : Nat) "SpoonCourt$Court" "serves" "[I" "SpoonCourt") ∈ lw_tbl := lw_at lw_m1 79 rfl
theorem q189 : (Jvm.Cond.fieldLinkNest "SpoonCourt" (305 : Nat) "SpoonCourt$Court" "notes" "[I" "SpoonCourt") ∈ lw_tbl := lw_at lw_m1 82 rfl
theorem q191 : (Jvm.Cond.fieldLinkNest "SpoonCourt" (166 : Nat) "SpoonCourt$Court" "times" "[I" "SpoonCourt") ∈ lw_tbl := lw_at lw_m1 84 rfl
theorem q193 : (Jvm.Cond.fieldLinkNest "SpoonCourt" (187 : Nat) "SpoonCourt$Court" "thanks" "[I" "SpoonCourt") ∈ lw_tbl := lw_at lw_m1 86 rfl
theorem q195 : (Jvm.Cond.fieldLinkNest "SpoonCourt" (193 : Nat) "SpoonCourt$Court" "titles" "[I" "SpoonCourt") ∈ lw_tbl := lw_at lw_m1 88 rfl
theorem q197 : (Jvm.Cond.fieldLinkNest "SpoonCourt" (198 : Nat) "SpoonCourt$Court" "byHand" "[I" "SpoonCourt") ∈ lw_tbl := lw_at lw_m1 90 rfl
theorem q199 : (Jvm.Cond.fieldLinkNest "SpoonCourt" (204 : Nat) "SpoonCourt$Court" "undo" "[I" "SpoonCourt") ∈ lw_tbl := lw_at lw_m1 92 rfl
theorem q250 : (Jvm.Cond.classLink "SpoonCourt" (29 : Nat) "SpoonCourt$Fault") ∈ lw_all := lw_g (lw_at lw_m1 143 rfl) rfl
theorem q289 : (Jvm.Cond.methodLink "SpoonCourt" (31 : Nat) ({ cls := "SpoonCourt$Fault", name := "<init>", desc := "()V" } : Jvm.MethodName)) ∈ lw_all := lw_g (lw_at lw_m1 182 rfl) rfl
theorem q303 : (Jvm.Cond.fieldLinkNest "SpoonCourt" (125 : Nat) "SpoonCourt$Fault" "kind" "I" "SpoonCourt") ∈ lw_tbl := lw_at lw_m1 196 rfl
theorem q305 : (Jvm.Cond.fieldLinkNest "SpoonCourt" (122 : Nat) "SpoonCourt$Fault" "place" "I" "SpoonCourt") ∈ lw_tbl := lw_at lw_m1 198 rfl
theorem q324 : (Jvm.Cond.classLink "SpoonCourt" (40 : Nat) "java/lang/String") ∈ lw_all := lw_g (lw_at lw_m1 217 rfl) rfl
theorem q326 : (Jvm.Cond.stringRef "SpoonCourt" (42 : Nat) "court") ∈ lw_tbl := lw_at lw_m1 219 rfl
theorem q327 : (Jvm.Cond.stringRef "SpoonCourt" (44 : Nat) "thing") ∈ lw_tbl := lw_at lw_m1 220 rfl
theorem q328 : (Jvm.Cond.stringRef "SpoonCourt" (46 : Nat) "holds") ∈ lw_tbl := lw_at lw_m1 221 rfl
theorem q329 : (Jvm.Cond.stringRef "SpoonCourt" (48 : Nat) "person") ∈ lw_tbl := lw_at lw_m1 222 rfl
theorem q330 : (Jvm.Cond.stringRef "SpoonCourt" (50 : Nat) "quarrel") ∈ lw_tbl := lw_at lw_m1 223 rfl
theorem q331 : (Jvm.Cond.stringRef "SpoonCourt" (56 : Nat) "hold") ∈ lw_tbl := lw_at lw_m1 224 rfl
theorem q332 : (Jvm.Cond.stringRef "SpoonCourt" (61 : Nat) "rank") ∈ lw_tbl := lw_at lw_m1 225 rfl
theorem q333 : (Jvm.Cond.stringRef "SpoonCourt" (63 : Nat) "clock") ∈ lw_tbl := lw_at lw_m1 226 rfl
theorem q334 : (Jvm.Cond.stringRef "SpoonCourt" (65 : Nat) "usual") ∈ lw_tbl := lw_at lw_m1 227 rfl
theorem q335 : (Jvm.Cond.stringRef "SpoonCourt" (67 : Nat) "last") ∈ lw_tbl := lw_at lw_m1 228 rfl
theorem q336 : (Jvm.Cond.stringRef "SpoonCourt" (69 : Nat) "times") ∈ lw_tbl := lw_at lw_m1 229 rfl
theorem q337 : (Jvm.Cond.stringRef "SpoonCourt" (71 : Nat) "titles") ∈ lw_tbl := lw_at lw_m1 230 rfl
theorem q338 : (Jvm.Cond.stringRef "SpoonCourt" (73 : Nat) "due") ∈ lw_tbl := lw_at lw_m1 231 rfl
theorem q339 : (Jvm.Cond.stringRef "SpoonCourt" (75 : Nat) "knights") ∈ lw_tbl := lw_at lw_m1 232 rfl
theorem q340 : (Jvm.Cond.stringRef "SpoonCourt" (77 : Nat) "most") ∈ lw_tbl := lw_at lw_m1 233 rfl
theorem q341 : (Jvm.Cond.stringRef "SpoonCourt" (79 : Nat) "people") ∈ lw_tbl := lw_at lw_m1 234 rfl
theorem q342 : (Jvm.Cond.stringRef "SpoonCourt" (81 : Nat) "hour") ∈ lw_tbl := lw_at lw_m1 235 rfl
theorem q343 : (Jvm.Cond.classLink "SpoonCourt" (86 : Nat) "SpoonCourt$Rule") ∈ lw_all := lw_g (lw_at lw_m1 236 rfl) rfl
theorem q345 : (Jvm.Cond.classLink "SpoonCourt" (109 : Nat) "SpoonCourt$Image") ∈ lw_all := lw_g (lw_at lw_m1 238 rfl) rfl
theorem q347 : (Jvm.Cond.fieldLink "SpoonCourt" (141 : Nat) "SpoonCourt" "court" "LSpoonCourt$Court;") ∈ lw_all := lw_g (lw_at lw_m2 0 rfl) rfl
theorem q348 : (Jvm.Cond.fieldLink "SpoonCourt" (10 : Nat) "SpoonCourt" "own" "LSpoonCourt$Court;") ∈ lw_all := lw_g (lw_at lw_m2 1 rfl) rfl
theorem q349 : (Jvm.Cond.fieldLink "SpoonCourt" (16 : Nat) "SpoonCourt" "spare" "LSpoonCourt$Court;") ∈ lw_all := lw_g (lw_at lw_m2 2 rfl) rfl
theorem q351 : (Jvm.Cond.fieldLink "SpoonCourt" (19 : Nat) "SpoonCourt" "reading" "LSpoonCourt$Court;") ∈ lw_all := lw_g (lw_at lw_m2 4 rfl) rfl
theorem q352 : (Jvm.Cond.fieldLink "SpoonCourt" (22 : Nat) "SpoonCourt" "blank" "LSpoonCourt$Court;") ∈ lw_all := lw_g (lw_at lw_m2 5 rfl) rfl
theorem q354 : (Jvm.Cond.fieldLink "SpoonCourt" (329 : Nat) "SpoonCourt" "x" "I") ∈ lw_all := lw_g (lw_at lw_m2 7 rfl) rfl
theorem q355 : (Jvm.Cond.fieldLink "SpoonCourt" (25 : Nat) "SpoonCourt" "inForce" "I") ∈ lw_all := lw_g (lw_at lw_m2 8 rfl) rfl
theorem q357 : (Jvm.Cond.fieldLink "SpoonCourt" (32 : Nat) "SpoonCourt" "fault" "LSpoonCourt$Fault;") ∈ lw_all := lw_g (lw_at lw_m2 10 rfl) rfl
theorem q359 : (Jvm.Cond.fieldLink "SpoonCourt" (36 : Nat) "SpoonCourt" "tape" "[B") ∈ lw_all := lw_g (lw_at lw_m2 12 rfl) rfl
theorem q361 : (Jvm.Cond.fieldLink "SpoonCourt" (115 : Nat) "SpoonCourt" "taped" "I") ∈ lw_all := lw_g (lw_at lw_m2 14 rfl) rfl
theorem q362 : (Jvm.Cond.fieldLink "SpoonCourt" (52 : Nat) "SpoonCourt" "lineWords" "[Ljava/lang/String;") ∈ lw_all := lw_g (lw_at lw_m2 15 rfl) rfl
theorem q364 : (Jvm.Cond.fieldLink "SpoonCourt" (58 : Nat) "SpoonCourt" "clauseWords" "[Ljava/lang/String;") ∈ lw_all := lw_g (lw_at lw_m2 17 rfl) rfl
theorem q367 : (Jvm.Cond.fieldLink "SpoonCourt" (83 : Nat) "SpoonCourt" "wordNames" "[Ljava/lang/String;") ∈ lw_all := lw_g (lw_at lw_m2 20 rfl) rfl
theorem q368 : (Jvm.Cond.fieldLink "SpoonCourt" (88 : Nat) "SpoonCourt" "rules" "[LSpoonCourt$Rule;") ∈ lw_all := lw_g (lw_at lw_m2 21 rfl) rfl
theorem q369 : (Jvm.Cond.fieldLink "SpoonCourt" (150 : Nat) "SpoonCourt" "ruleMany" "I") ∈ lw_all := lw_g (lw_at lw_m2 22 rfl) rfl
theorem q370 : (Jvm.Cond.fieldLink "SpoonCourt" (92 : Nat) "SpoonCourt" "hasOne" "[I") ∈ lw_all := lw_g (lw_at lw_m2 23 rfl) rfl
theorem q371 : (Jvm.Cond.fieldLink "SpoonCourt" (96 : Nat) "SpoonCourt" "hasOther" "[I") ∈ lw_all := lw_g (lw_at lw_m2 24 rfl) rfl
theorem q372 : (Jvm.Cond.fieldLink "SpoonCourt" (99 : Nat) "SpoonCourt" "hands" "[I") ∈ lw_all := lw_g (lw_at lw_m2 25 rfl) rfl
theorem q373 : (Jvm.Cond.fieldLink "SpoonCourt" (102 : Nat) "SpoonCourt" "isFit" "[Z") ∈ lw_all := lw_g (lw_at lw_m2 26 rfl) rfl
theorem q374 : (Jvm.Cond.fieldLink "SpoonCourt" (106 : Nat) "SpoonCourt" "heldThen" "[I") ∈ lw_all := lw_g (lw_at lw_m2 27 rfl) rfl
theorem q375 : (Jvm.Cond.fieldLink "SpoonCourt" (332 : Nat) "SpoonCourt" "drawX" "I") ∈ lw_all := lw_g (lw_at lw_m2 28 rfl) rfl
theorem q376 : (Jvm.Cond.fieldLink "SpoonCourt" (111 : Nat) "SpoonCourt" "images" "[LSpoonCourt$Image;") ∈ lw_all := lw_g (lw_at lw_m2 29 rfl) rfl
theorem q377 : (Jvm.Cond.lays "SpoonCourt" "SpoonCourt" "court" "LSpoonCourt$Court;") ∈ lw_all := lw_g (lw_at lw_m2 30 rfl) rfl
theorem q378 : (Jvm.Cond.soleField "SpoonCourt" "court") ∈ lw_all := lw_g (lw_at lw_m2 31 rfl) rfl
theorem q379 : (Jvm.Cond.laysFinal "SpoonCourt" "SpoonCourt" "own" "LSpoonCourt$Court;") ∈ lw_all := lw_g (lw_at lw_m2 32 rfl) rfl
theorem q380 : (Jvm.Cond.soleField "SpoonCourt" "own") ∈ lw_all := lw_g (lw_at lw_m2 33 rfl) rfl
theorem q381 : (Jvm.Cond.laysFinal "SpoonCourt" "SpoonCourt" "spare" "LSpoonCourt$Court;") ∈ lw_all := lw_g (lw_at lw_m2 34 rfl) rfl
theorem q382 : (Jvm.Cond.soleField "SpoonCourt" "spare") ∈ lw_all := lw_g (lw_at lw_m2 35 rfl) rfl
theorem q383 : (Jvm.Cond.laysFinal "SpoonCourt" "SpoonCourt" "reading" "LSpoonCourt$Court;") ∈ lw_all := lw_g (lw_at lw_m2 36 rfl) rfl
theorem q384 : (Jvm.Cond.soleField "SpoonCourt" "reading") ∈ lw_all := lw_g (lw_at lw_m2 37 rfl) rfl
theorem q385 : (Jvm.Cond.laysFinal "SpoonCourt" "SpoonCourt" "blank" "LSpoonCourt$Court;") ∈ lw_all := lw_g (lw_at lw_m2 38 rfl) rfl
theorem q386 : (Jvm.Cond.soleField "SpoonCourt" "blank") ∈ lw_all := lw_g (lw_at lw_m2 39 rfl) rfl
theorem q387 : (Jvm.Cond.lays "SpoonCourt" "SpoonCourt" "x" "I") ∈ lw_all := lw_g (lw_at lw_m2 40 rfl) rfl
theorem q388 : (Jvm.Cond.soleField "SpoonCourt" "x") ∈ lw_all := lw_g (lw_at lw_m2 41 rfl) rfl
theorem q389 : (Jvm.Cond.lays "SpoonCourt" "SpoonCourt" "inForce" "I") ∈ lw_all := lw_g (lw_at lw_m2 42 rfl) rfl
theorem q390 : (Jvm.Cond.soleField "SpoonCourt" "inForce") ∈ lw_all := lw_g (lw_at lw_m2 43 rfl) rfl
theorem q391 : (Jvm.Cond.laysFinal "SpoonCourt" "SpoonCourt" "fault" "LSpoonCourt$Fault;") ∈ lw_all := lw_g (lw_at lw_m2 44 rfl) rfl
theorem q392 : (Jvm.Cond.soleField "SpoonCourt" "fault") ∈ lw_all := lw_g (lw_at lw_m2 45 rfl) rfl
theorem q393 : (Jvm.Cond.laysFinal "SpoonCourt" "SpoonCourt" "tape" "[B") ∈ lw_all := lw_g (lw_at lw_m2 46 rfl) rfl
theorem q394 : (Jvm.Cond.soleField "SpoonCourt" "tape") ∈ lw_all := lw_g (lw_at lw_m2 47 rfl) rfl
theorem q395 : (Jvm.Cond.lays "SpoonCourt" "SpoonCourt" "taped" "I") ∈ lw_all := lw_g (lw_at lw_m2 48 rfl) rfl
theorem q396 : (Jvm.Cond.soleField "SpoonCourt" "taped") ∈ lw_all := lw_g (lw_at lw_m2 49 rfl) rfl
theorem q397 : (Jvm.Cond.laysFinal "SpoonCourt" "SpoonCourt" "lineWords" "[Ljava/lang/String;") ∈ lw_all := lw_g (lw_at lw_m2 50 rfl) rfl
theorem q398 : (Jvm.Cond.soleField "SpoonCourt" "lineWords") ∈ lw_all := lw_g (lw_at lw_m2 51 rfl) rfl
theorem q399 : (Jvm.Cond.laysFinal "SpoonCourt" "SpoonCourt" "clauseWords" "[Ljava/lang/String;") ∈ lw_all := lw_g (lw_at lw_m2 52 rfl) rfl
theorem q400 : (Jvm.Cond.soleField "SpoonCourt" "clauseWords") ∈ lw_all := lw_g (lw_at lw_m2 53 rfl) rfl
theorem q401 : (Jvm.Cond.laysFinal "SpoonCourt" "SpoonCourt" "wordNames" "[Ljava/lang/String;") ∈ lw_all := lw_g (lw_at lw_m2 54 rfl) rfl
theorem q402 : (Jvm.Cond.soleField "SpoonCourt" "wordNames") ∈ lw_all := lw_g (lw_at lw_m2 55 rfl) rfl
theorem q403 : (Jvm.Cond.laysFinal "SpoonCourt" "SpoonCourt" "rules" "[LSpoonCourt$Rule;") ∈ lw_all := lw_g (lw_at lw_m2 56 rfl) rfl
theorem q404 : (Jvm.Cond.soleField "SpoonCourt" "rules") ∈ lw_all := lw_g (lw_at lw_m2 57 rfl) rfl
theorem q405 : (Jvm.Cond.lays "SpoonCourt" "SpoonCourt" "ruleMany" "I") ∈ lw_all := lw_g (lw_at lw_m2 58 rfl) rfl
theorem q406 : (Jvm.Cond.soleField "SpoonCourt" "ruleMany") ∈ lw_all := lw_g (lw_at lw_m2 59 rfl) rfl
theorem q407 : (Jvm.Cond.laysFinal "SpoonCourt" "SpoonCourt" "hasOne" "[I") ∈ lw_all := lw_g (lw_at lw_m2 60 rfl) rfl
theorem q408 : (Jvm.Cond.soleField "SpoonCourt" "hasOne") ∈ lw_all := lw_g (lw_at lw_m2 61 rfl) rfl
theorem q409 : (Jvm.Cond.laysFinal "SpoonCourt" "SpoonCourt" "hasOther" "[I") ∈ lw_all := lw_g (lw_at lw_m2 62 rfl) rfl
theorem q410 : (Jvm.Cond.soleField "SpoonCourt" "hasOther") ∈ lw_all := lw_g (lw_at lw_m2 63 rfl) rfl
theorem q411 : (Jvm.Cond.laysFinal "SpoonCourt" "SpoonCourt" "hands" "[I") ∈ lw_all := lw_g (lw_at lw_m2 64 rfl) rfl
theorem q412 : (Jvm.Cond.soleField "SpoonCourt" "hands") ∈ lw_all := lw_g (lw_at lw_m2 65 rfl) rfl
theorem q413 : (Jvm.Cond.laysFinal "SpoonCourt" "SpoonCourt" "isFit" "[Z") ∈ lw_all := lw_g (lw_at lw_m2 66 rfl) rfl
theorem q414 : (Jvm.Cond.soleField "SpoonCourt" "isFit") ∈ lw_all := lw_g (lw_at lw_m2 67 rfl) rfl
theorem q415 : (Jvm.Cond.laysFinal "SpoonCourt" "SpoonCourt" "heldThen" "[I") ∈ lw_all := lw_g (lw_at lw_m2 68 rfl) rfl
theorem q416 : (Jvm.Cond.soleField "SpoonCourt" "heldThen") ∈ lw_all := lw_g (lw_at lw_m2 69 rfl) rfl
theorem q417 : (Jvm.Cond.lays "SpoonCourt" "SpoonCourt" "drawX" "I") ∈ lw_all := lw_g (lw_at lw_m2 70 rfl) rfl
theorem q418 : (Jvm.Cond.soleField "SpoonCourt" "drawX") ∈ lw_all := lw_g (lw_at lw_m2 71 rfl) rfl
theorem q419 : (Jvm.Cond.laysFinal "SpoonCourt" "SpoonCourt" "images" "[LSpoonCourt$Image;") ∈ lw_all := lw_g (lw_at lw_m2 72 rfl) rfl
theorem q420 : (Jvm.Cond.soleField "SpoonCourt" "images") ∈ lw_all := lw_g (lw_at lw_m2 73 rfl) rfl
theorem q421 : (Jvm.Cond.superclass "SpoonCourt" "java/lang/Object") ∈ lw_all := lw_g (lw_at lw_m2 74 rfl) rfl
theorem q424 : (Jvm.Cond.instanceMethod ({ cls := "SpoonCourt", name := "feed", desc := "(IIIII)I" } : Jvm.MethodName)) ∈ lw_all := lw_g (lw_at lw_m2 77 rfl) rfl
theorem q425 : (Jvm.Cond.selects "SpoonCourt" ({ cls := "SpoonCourt", name := "feed", desc := "(IIIII)I" } : Jvm.MethodName) ({ cls := "SpoonCourt", name := "feed", desc := "(IIIII)I" } : Jvm.MethodName)) ∈ lw_all := lw_g (lw_at lw_m2 78 rfl) rfl
theorem q426 : (Jvm.Cond.code ({ cls := "SpoonCourt", name := "feed", desc := "(IIIII)I" } : Jvm.MethodName) prog_1_method_4_code (6 : Nat) (Option.some Jvm.ClassFile.FieldType.int)) ∈ lw_all := lw_g (lw_at lw_m2 79 rfl) rfl
theorem q427 : (Jvm.Cond.methodLink "SpoonCourt" (118 : Nat) ({ cls := "SpoonCourt", name := "four", desc := "(I)V" } : Jvm.MethodName)) ∈ lw_all := lw_g (lw_at lw_m2 80 rfl) rfl
theorem q428 : (Jvm.Cond.privateMethod ({ cls := "SpoonCourt", name := "four", desc := "(I)V" } : Jvm.MethodName)) ∈ lw_tbl := lw_at lw_m2 81 rfl
theorem q429 : (Jvm.Cond.instanceMethod ({ cls := "SpoonCourt", name := "four", desc := "(I)V" } : Jvm.MethodName)) ∈ lw_all := lw_g (lw_at lw_m2 82 rfl) rfl
theorem q430 : (Jvm.Cond.code ({ cls := "SpoonCourt", name := "four", desc := "(I)V" } : Jvm.MethodName) prog_1_method_5_code (3 : Nat) (Option.none : Option Jvm.ClassFile.FieldType)) ∈ lw_all := lw_g (lw_at lw_m2 83 rfl) rfl
theorem q432 : (Jvm.Cond.instanceMethod ({ cls := "SpoonCourt", name := "end", desc := "(I)I" } : Jvm.MethodName)) ∈ lw_all := lw_g (lw_at lw_m2 85 rfl) rfl
theorem q433 : (Jvm.Cond.selects "SpoonCourt" ({ cls := "SpoonCourt", name := "end", desc := "(I)I" } : Jvm.MethodName) ({ cls := "SpoonCourt", name := "end", desc := "(I)I" } : Jvm.MethodName)) ∈ lw_all := lw_g (lw_at lw_m2 86 rfl) rfl
theorem q434 : (Jvm.Cond.code ({ cls := "SpoonCourt", name := "end", desc := "(I)I" } : Jvm.MethodName) prog_1_method_6_code (2 : Nat) (Option.some Jvm.ClassFile.FieldType.int)) ∈ lw_all := lw_g (lw_at lw_m2 87 rfl) rfl
theorem q436 : (Jvm.Cond.instanceMethod ({ cls := "SpoonCourt", name := "court", desc := "()I" } : Jvm.MethodName)) ∈ lw_all := lw_g (lw_at lw_m2 89 rfl) rfl
theorem q437 : (Jvm.Cond.selects "SpoonCourt" ({ cls := "SpoonCourt", name := "court", desc := "()I" } : Jvm.MethodName) ({ cls := "SpoonCourt", name := "court", desc := "()I" } : Jvm.MethodName)) ∈ lw_all := lw_g (lw_at lw_m2 90 rfl) rfl
theorem q438 : (Jvm.Cond.codeWith ({ cls := "SpoonCourt", name := "court", desc := "()I" } : Jvm.MethodName) prog_1_method_8_code (3 : Nat) (Option.some Jvm.ClassFile.FieldType.int) [((0 : Nat), (30 : Nat), (33 : Nat), (29 : Nat))]) ∈ lw_all := lw_g (lw_at lw_m2 91 rfl) rfl
theorem q439 : (Jvm.Cond.classLink "SpoonCourt" (128 : Nat) "SpoonCourt$Text") ∈ lw_all := lw_g (lw_at lw_m2 92 rfl) rfl
theorem q441 : (Jvm.Cond.methodLinkNest "SpoonCourt" (130 : Nat) ({ cls := "SpoonCourt$Text", name := "<init>", desc := "(LSpoonCourt;)V" } : Jvm.MethodName) "SpoonCourt") ∈ lw_tbl := lw_at lw_m2 94 rfl
theorem q467 : (Jvm.Cond.methodLink "SpoonCourt" (133 : Nat) ({ cls := "SpoonCourt$Text", name := "courtTold", desc := "()LSpoonCourt$Court;" } : Jvm.MethodName)) ∈ lw_all := lw_g (lw_at lw_m2 120 rfl) rfl
theorem q571 : (Jvm.Cond.static ({ cls := "SpoonCourt", name := "in", desc := "(JJJ)Z" } : Jvm.MethodName)) ∈ lw_all := lw_g (lw_at lw_m2 224 rfl) rfl
theorem q572 : (Jvm.Cond.code ({ cls := "SpoonCourt", name := "in", desc := "(JJJ)Z" } : Jvm.MethodName) prog_1_method_1_code (6 : Nat) (Option.some Jvm.ClassFile.FieldType.boolean)) ∈ lw_all := lw_g (lw_at lw_m2 225 rfl) rfl
theorem q597 : (Jvm.Cond.methodLink "SpoonCourt" (137 : Nat) ({ cls := "SpoonCourt$Court", name := "copies", desc := "(LSpoonCourt$Court;)LSpoonCourt$Court;" } : Jvm.MethodName)) ∈ lw_all := lw_g (lw_at lw_m3 10 rfl) rfl
theorem q598 : (Jvm.Cond.methodLink "SpoonCourt" (146 : Nat) ({ cls := "SpoonCourt", name := "faulted", desc := "()I" } : Jvm.MethodName)) ∈ lw_all := lw_g (lw_at lw_m3 11 rfl) rfl
theorem q599 : (Jvm.Cond.privateMethod ({ cls := "SpoonCourt", name := "faulted", desc := "()I" } : Jvm.MethodName)) ∈ lw_tbl := lw_at lw_m3 12 rfl
theorem q600 : (Jvm.Cond.instanceMethod ({ cls := "SpoonCourt", name := "faulted", desc := "()I" } : Jvm.MethodName)) ∈ lw_all := lw_g (lw_at lw_m3 13 rfl) rfl
theorem q601 : (Jvm.Cond.code ({ cls := "SpoonCourt", name := "faulted", desc := "()I" } : Jvm.MethodName) prog_1_method_7_code (1 : Nat) (Option.some Jvm.ClassFile.FieldType.int)) ∈ lw_all := lw_g (lw_at lw_m3 14 rfl) rfl
theorem q603 : (Jvm.Cond.instanceMethod ({ cls := "SpoonCourt", name := "rule", desc := "()I" } : Jvm.MethodName)) ∈ lw_all := lw_g (lw_at lw_m3 16 rfl) rfl
theorem q604 : (Jvm.Cond.selects "SpoonCourt" ({ cls := "SpoonCourt", name := "rule", desc := "()I" } : Jvm.MethodName) ({ cls := "SpoonCourt", name := "rule", desc := "()I" } : Jvm.MethodName)) ∈ lw_all := lw_g (lw_at lw_m3 17 rfl) rfl
theorem q605 : (Jvm.Cond.codeWith ({ cls := "SpoonCourt", name := "rule", desc := "()I" } : Jvm.MethodName) prog_1_method_9_code (3 : Nat) (Option.some Jvm.ClassFile.FieldType.int) [((16 : Nat), (46 : Nat), (49 : Nat), (29 : Nat))]) ∈ lw_all := lw_g (lw_at lw_m3 18 rfl) rfl
theorem q606 : (Jvm.Cond.methodLink "SpoonCourt" (153 : Nat) ({ cls := "SpoonCourt$Text", name := "ruleTold", desc := "()LSpoonCourt$Rule;" } : Jvm.MethodName)) ∈ lw_all := lw_g (lw_at lw_m3 19 rfl) rfl
theorem q776 : (Jvm.Cond.instanceMethod ({ cls := "SpoonCourt", name := "force", desc := "(I)I" } : Jvm.MethodName)) ∈ lw_all := lw_g (lw_at lw_m3 189 rfl) rfl
theorem q777 : (Jvm.Cond.selects "SpoonCourt" ({ cls := "SpoonCourt", name := "force", desc := "(I)I" } : Jvm.MethodName) ({ cls := "SpoonCourt", name := "force", desc := "(I)I" } : Jvm.MethodName)) ∈ lw_all := lw_g (lw_at lw_m3 190 rfl) rfl
theorem q778 : (Jvm.Cond.code ({ cls := "SpoonCourt", name := "force", desc := "(I)I" } : Jvm.MethodName) prog_1_method_10_code (3 : Nat) (Option.some Jvm.ClassFile.FieldType.int)) ∈ lw_all := lw_g (lw_at lw_m3 191 rfl) rfl
theorem q780 : (Jvm.Cond.instanceMethod ({ cls := "SpoonCourt", name := "thing", desc := "(II)I" } : Jvm.MethodName)) ∈ lw_all := lw_g (lw_at lw_m3 193 rfl) rfl
theorem q781 : (Jvm.Cond.selects "SpoonCourt" ({ cls := "SpoonCourt", name := "thing", desc := "(II)I" } : Jvm.MethodName) ({ cls := "SpoonCourt", name := "thing", desc := "(II)I" } : Jvm.MethodName)) ∈ lw_all := lw_g (lw_at lw_m3 194 rfl) rfl
theorem q782 : (Jvm.Cond.code ({ cls := "SpoonCourt", name := "thing", desc := "(II)I" } : Jvm.MethodName) prog_1_method_14_code (3 : Nat) (Option.some Jvm.ClassFile.FieldType.int)) ∈ lw_all := lw_g (lw_at lw_m3 195 rfl) rfl
theorem q783 : (Jvm.Cond.methodLink "SpoonCourt" (160 : Nat) ({ cls := "SpoonCourt", name := "isThing", desc := "(I)Z" } : Jvm.MethodName)) ∈ lw_all := lw_g (lw_at lw_m3 196 rfl) rfl
theorem q784 : (Jvm.Cond.privateMethod ({ cls := "SpoonCourt", name := "isThing", desc := "(I)Z" } : Jvm.MethodName)) ∈ lw_tbl := lw_at lw_m3 197 rfl
theorem q785 : (Jvm.Cond.instanceMethod ({ cls := "SpoonCourt", name := "isThing", desc := "(I)Z" } : Jvm.MethodName)) ∈ lw_all := lw_g (lw_at lw_m3 198 rfl) rfl
theorem q786 : (Jvm.Cond.code ({ cls := "SpoonCourt", name := "isThing", desc := "(I)Z" } : Jvm.MethodName) prog_1_method_12_code (2 : Nat) (Option.some Jvm.ClassFile.FieldType.boolean)) ∈ lw_all := lw_g (lw_at lw_m3 199 rfl) rfl
theorem q787 : (Jvm.Cond.methodLink "SpoonCourt" (168 : Nat) ({ cls := "SpoonCourt$Court", name := "titled", desc := "(I)I" } : Jvm.MethodName)) ∈ lw_all := lw_g (lw_at lw_m3 200 rfl) rfl
theorem q792 : (Jvm.Cond.static ({ cls := "SpoonCourt", name := "has", desc := "(II)Z" } : Jvm.MethodName)) ∈ lw_all := lw_g (lw_at lw_m3 205 rfl) rfl
theorem q793 : (Jvm.Cond.code ({ cls := "SpoonCourt", name := "has", desc := "(II)Z" } : Jvm.MethodName) prog_1_method_2_code (2 : Nat) (Option.some Jvm.ClassFile.FieldType.boolean)) ∈ lw_all := lw_g (lw_at lw_m3 206 rfl) rfl
theorem q795 : (Jvm.Cond.instanceMethod ({ cls := "SpoonCourt", name := "usual", desc := "(I)I" } : Jvm.MethodName)) ∈ lw_all := lw_g (lw_at lw_m3 208 rfl) rfl
theorem q796 : (Jvm.Cond.selects "SpoonCourt" ({ cls := "SpoonCourt", name := "usual", desc := "(I)I" } : Jvm.MethodName) ({ cls := "SpoonCourt", name := "usual", desc := "(I)I" } : Jvm.MethodName)) ∈ lw_all := lw_g (lw_at lw_m3 209 rfl) rfl
theorem q797 : (Jvm.Cond.code ({ cls := "SpoonCourt", name := "usual", desc := "(I)I" } : Jvm.MethodName) prog_1_method_15_code (2 : Nat) (Option.some Jvm.ClassFile.FieldType.int)) ∈ lw_all := lw_g (lw_at lw_m3 210 rfl) rfl
theorem q798 : (Jvm.Cond.methodLink "SpoonCourt" (178 : Nat) ({ cls := "SpoonCourt", name := "in", desc := "(JJJ)Z" } : Jvm.MethodName)) ∈ lw_all := lw_g (lw_at lw_m3 211 rfl) rfl
theorem q800 : (Jvm.Cond.instanceMethod ({ cls := "SpoonCourt", name := "person", desc := "(II)I" } : Jvm.MethodName)) ∈ lw_all := lw_g (lw_at lw_m3 213 rfl) rfl
theorem q801 : (Jvm.Cond.selects "SpoonCourt" ({ cls := "SpoonCourt", name := "person", desc := "(II)I" } : Jvm.MethodName) ({ cls := "SpoonCourt", name := "person", desc := "(II)I" } : Jvm.MethodName)) ∈ lw_all := lw_g (lw_at lw_m3 214 rfl) rfl
theorem q802 : (Jvm.Cond.code ({ cls := "SpoonCourt", name := "person", desc := "(II)I" } : Jvm.MethodName) prog_1_method_16_code (3 : Nat) (Option.some Jvm.ClassFile.FieldType.int)) ∈ lw_all := lw_g (lw_at lw_m3 215 rfl) rfl
theorem q803 : (Jvm.Cond.methodLink "SpoonCourt" (184 : Nat) ({ cls := "SpoonCourt", name := "isPerson", desc := "(I)Z" } : Jvm.MethodName)) ∈ lw_all := lw_g (lw_at lw_m3 216 rfl) rfl
theorem q804 : (Jvm.Cond.privateMethod ({ cls := "SpoonCourt", name := "isPerson", desc := "(I)Z" } : Jvm.MethodName)) ∈ lw_tbl := lw_at lw_m3 217 rfl
theorem q805 : (Jvm.Cond.instanceMethod ({ cls := "SpoonCourt", name := "isPerson", desc := "(I)Z" } : Jvm.MethodName)) ∈ lw_all := lw_g (lw_at lw_m3 218 rfl) rfl
theorem q806 : (Jvm.Cond.code ({ cls := "SpoonCourt", name := "isPerson", desc := "(I)Z" } : Jvm.MethodName) prog_1_method_13_code (2 : Nat) (Option.some Jvm.ClassFile.FieldType.boolean)) ∈ lw_all := lw_g (lw_at lw_m3 219 rfl) rfl
theorem q807 : (Jvm.Cond.methodLink "SpoonCourt" (195 : Nat) ({ cls := "SpoonCourt$Court", name := "rankOf", desc := "(I)I" } : Jvm.MethodName)) ∈ lw_all := lw_g (lw_at lw_m3 220 rfl) rfl
theorem q812 : (Jvm.Cond.instanceMethod ({ cls := "SpoonCourt", name := "undo", desc := "()I" } : Jvm.MethodName)) ∈ lw_all := lw_g (lw_at lw_m3 225 rfl) rfl
theorem q813 : (Jvm.Cond.selects "SpoonCourt" ({ cls := "SpoonCourt", name := "undo", desc := "()I" } : Jvm.MethodName) ({ cls := "SpoonCourt", name := "undo", desc := "()I" } : Jvm.MethodName)) ∈ lw_all := lw_g (lw_at lw_m3 226 rfl) rfl
theorem q814 : (Jvm.Cond.code ({ cls := "SpoonCourt", name := "undo", desc := "()I" } : Jvm.MethodName) prog_1_method_18_code (1 : Nat) (Option.some Jvm.ClassFile.FieldType.int)) ∈ lw_all := lw_g (lw_at lw_m3 227 rfl) rfl
theorem q815 : (Jvm.Cond.methodLink "SpoonCourt" (216 : Nat) ({ cls := "SpoonCourt$Court", name := "takes", desc := "(I)V" } : Jvm.MethodName)) ∈ lw_all := lw_g (lw_at lw_m3 228 rfl) rfl
theorem q820 : (Jvm.Cond.instanceMethod ({ cls := "SpoonCourt", name := "hour", desc := "()I" } : Jvm.MethodName)) ∈ lw_all := lw_g (lw_at lw_m3 233 rfl) rfl
theorem q821 : (Jvm.Cond.selects "SpoonCourt" ({ cls := "SpoonCourt", name := "hour", desc := "()I" } : Jvm.MethodName) ({ cls := "SpoonCourt", name := "hour", desc := "()I" } : Jvm.MethodName)) ∈ lw_all := lw_g (lw_at lw_m3 234 rfl) rfl
theorem q822 : (Jvm.Cond.code ({ cls := "SpoonCourt", name := "hour", desc := "()I" } : Jvm.MethodName) prog_1_method_19_code (1 : Nat) (Option.some Jvm.ClassFile.FieldType.int)) ∈ lw_all := lw_g (lw_at lw_m3 235 rfl) rfl
theorem q823 : (Jvm.Cond.methodLink "SpoonCourt" (222 : Nat) ({ cls := "SpoonCourt", name := "keepsAct", desc := "()V" } : Jvm.MethodName)) ∈ lw_all := lw_g (lw_at lw_m3 236 rfl) rfl
theorem q824 : (Jvm.Cond.privateMethod ({ cls := "SpoonCourt", name := "keepsAct", desc := "()V" } : Jvm.MethodName)) ∈ lw_tbl := lw_at lw_m3 237 rfl
theorem q825 : (Jvm.Cond.instanceMethod ({ cls := "SpoonCourt", name := "keepsAct", desc := "()V" } : Jvm.MethodName)) ∈ lw_all := lw_g (lw_at lw_m3 238 rfl) rfl
theorem q826 : (Jvm.Cond.code ({ cls := "SpoonCourt", name := "keepsAct", desc := "()V" } : Jvm.MethodName) prog_1_method_17_code (1 : Nat) (Option.none : Option Jvm.ClassFile.FieldType)) ∈ lw_all := lw_g (lw_at lw_m3 239 rfl) rfl
theorem q827 : (Jvm.Cond.methodLink "SpoonCourt" (207 : Nat) ({ cls := "java/lang/System", name := "arraycopy", desc := "(Ljava/lang/Object;ILjava/lang/Object;II)V" } : Jvm.MethodName)) ∈ lw_all := lw_g (lw_at lw_m4 0 rfl) rfl
theorem q828 : (Jvm.Cond.methodLink "SpoonCourt" (213 : Nat) ({ cls := "SpoonCourt$Court", name := "lays", desc := "(I)V" } : Jvm.MethodName)) ∈ lw_all := lw_g (lw_at lw_m4 1 rfl) rfl
theorem q832 : (Jvm.Cond.methodLink "SpoonCourt" (225 : Nat) ({ cls := "SpoonCourt", name := "law", desc := "()LSpoonCourt$Rule;" } : Jvm.MethodName)) ∈ lw_all := lw_g (lw_at lw_m4 5 rfl) rfl
theorem q833 : (Jvm.Cond.privateMethod ({ cls := "SpoonCourt", name := "law", desc := "()LSpoonCourt$Rule;" } : Jvm.MethodName)) ∈ lw_tbl := lw_at lw_m4 6 rfl
theorem q834 : (Jvm.Cond.instanceMethod ({ cls := "SpoonCourt", name := "law", desc := "()LSpoonCourt$Rule;" } : Jvm.MethodName)) ∈ lw_all := lw_g (lw_at lw_m4 7 rfl) rfl
theorem q835 : (Jvm.Cond.code ({ cls := "SpoonCourt", name := "law", desc := "()LSpoonCourt$Rule;" } : Jvm.MethodName) prog_1_method_11_code (1 : Nat) (Option.some (Jvm.ClassFile.FieldType.object "SpoonCourt$Rule"))) ∈ lw_all := lw_g (lw_at lw_m4 8 rfl) rfl
theorem q836 : (Jvm.Cond.methodLink "SpoonCourt" (228 : Nat) ({ cls := "SpoonCourt$Court", name := "passes", desc := "(LSpoonCourt$Rule;)I" } : Jvm.MethodName)) ∈ lw_all := lw_g (lw_at lw_m4 9 rfl) rfl
theorem q910 : (Jvm.Cond.instanceMethod ({ cls := "SpoonCourt", name := "deed", desc := "(II)I" } : Jvm.MethodName)) ∈ lw_all := lw_g (lw_at lw_m4 83 rfl) rfl
theorem q911 : (Jvm.Cond.selects "SpoonCourt" ({ cls := "SpoonCourt", name := "deed", desc := "(II)I" } : Jvm.MethodName) ({ cls := "SpoonCourt", name := "deed", desc := "(II)I" } : Jvm.MethodName)) ∈ lw_all := lw_g (lw_at lw_m4 84 rfl) rfl
theorem q912 : (Jvm.Cond.code ({ cls := "SpoonCourt", name := "deed", desc := "(II)I" } : Jvm.MethodName) prog_1_method_20_code (3 : Nat) (Option.some Jvm.ClassFile.FieldType.int)) ∈ lw_all := lw_g (lw_at lw_m4 85 rfl) rfl
theorem q913 : (Jvm.Cond.constantLong "SpoonCourt" (232 : Nat) (99 : Int64)) ∈ lw_all := lw_g (lw_at lw_m4 86 rfl) rfl
theorem q914 : (Jvm.Cond.methodLink "SpoonCourt" (234 : Nat) ({ cls := "SpoonCourt$Court", name := "thanked", desc := "(II)V" } : Jvm.MethodName)) ∈ lw_all := lw_g (lw_at lw_m4 87 rfl) rfl
theorem q916 : (Jvm.Cond.instanceMethod ({ cls := "SpoonCourt", name := "slight", desc := "(II)I" } : Jvm.MethodName)) ∈ lw_all := lw_g (lw_at lw_m4 89 rfl) rfl
theorem q917 : (Jvm.Cond.selects "SpoonCourt" ({ cls := "SpoonCourt", name := "slight", desc := "(II)I" } : Jvm.MethodName) ({ cls := "SpoonCourt", name := "slight", desc := "(II)I" } : Jvm.MethodName)) ∈ lw_all := lw_g (lw_at lw_m4 90 rfl) rfl
theorem q918 : (Jvm.Cond.code ({ cls := "SpoonCourt", name := "slight", desc := "(II)I" } : Jvm.MethodName) prog_1_method_21_code (3 : Nat) (Option.some Jvm.ClassFile.FieldType.int)) ∈ lw_all := lw_g (lw_at lw_m4 91 rfl) rfl
theorem q920 : (Jvm.Cond.instanceMethod ({ cls := "SpoonCourt", name := "tray", desc := "(I)I" } : Jvm.MethodName)) ∈ lw_all := lw_g (lw_at lw_m4 93 rfl) rfl
theorem q921 : (Jvm.Cond.selects "SpoonCourt" ({ cls := "SpoonCourt", name := "tray", desc := "(I)I" } : Jvm.MethodName) ({ cls := "SpoonCourt", name := "tray", desc := "(I)I" } : Jvm.MethodName)) ∈ lw_all := lw_g (lw_at lw_m4 94 rfl) rfl
theorem q922 : (Jvm.Cond.code ({ cls := "SpoonCourt", name := "tray", desc := "(I)I" } : Jvm.MethodName) prog_1_method_22_code (3 : Nat) (Option.some Jvm.ClassFile.FieldType.int)) ∈ lw_all := lw_g (lw_at lw_m4 95 rfl) rfl
theorem q924 : (Jvm.Cond.instanceMethod ({ cls := "SpoonCourt", name := "gloves", desc := "(I)I" } : Jvm.MethodName)) ∈ lw_all := lw_g (lw_at lw_m4 97 rfl) rfl
theorem q925 : (Jvm.Cond.selects "SpoonCourt" ({ cls := "SpoonCourt", name := "gloves", desc := "(I)I" } : Jvm.MethodName) ({ cls := "SpoonCourt", name := "gloves", desc := "(I)I" } : Jvm.MethodName)) ∈ lw_all := lw_g (lw_at lw_m4 98 rfl) rfl
theorem q926 : (Jvm.Cond.code ({ cls := "SpoonCourt", name := "gloves", desc := "(I)I" } : Jvm.MethodName) prog_1_method_23_code (3 : Nat) (Option.some Jvm.ClassFile.FieldType.int)) ∈ lw_all := lw_g (lw_at lw_m4 99 rfl) rfl
theorem q927 : (Jvm.Cond.constantLong "SpoonCourt" (241 : Nat) (9 : Int64)) ∈ lw_all := lw_g (lw_at lw_m4 100 rfl) rfl
theorem q929 : (Jvm.Cond.instanceMethod ({ cls := "SpoonCourt", name := "strip", desc := "(II)I" } : Jvm.MethodName)) ∈ lw_all := lw_g (lw_at lw_m4 102 rfl) rfl
theorem q930 : (Jvm.Cond.selects "SpoonCourt" ({ cls := "SpoonCourt", name := "strip", desc := "(II)I" } : Jvm.MethodName) ({ cls := "SpoonCourt", name := "strip", desc := "(II)I" } : Jvm.MethodName)) ∈ lw_all := lw_g (lw_at lw_m4 103 rfl) rfl
theorem q931 : (Jvm.Cond.code ({ cls := "SpoonCourt", name := "strip", desc := "(II)I" } : Jvm.MethodName) prog_1_method_24_code (3 : Nat) (Option.some Jvm.ClassFile.FieldType.int)) ∈ lw_all := lw_g (lw_at lw_m4 104 rfl) rfl
theorem q932 : (Jvm.Cond.methodLink "SpoonCourt" (246 : Nat) ({ cls := "SpoonCourt", name := "has", desc := "(II)Z" } : Jvm.MethodName)) ∈ lw_all := lw_g (lw_at lw_m4 105 rfl) rfl
theorem q934 : (Jvm.Cond.instanceMethod ({ cls := "SpoonCourt", name := "ahead", desc := "(III)I" } : Jvm.MethodName)) ∈ lw_all := lw_g (lw_at lw_m4 107 rfl) rfl
theorem q935 : (Jvm.Cond.selects "SpoonCourt" ({ cls := "SpoonCourt", name := "ahead", desc := "(III)I" } : Jvm.MethodName) ({ cls := "SpoonCourt", name := "ahead", desc := "(III)I" } : Jvm.MethodName)) ∈ lw_all := lw_g (lw_at lw_m4 108 rfl) rfl
theorem q936 : (Jvm.Cond.code ({ cls := "SpoonCourt", name := "ahead", desc := "(III)I" } : Jvm.MethodName) prog_1_method_25_code (4 : Nat) (Option.some Jvm.ClassFile.FieldType.int)) ∈ lw_all := lw_g (lw_at lw_m4 109 rfl) rfl
theorem q937 : (Jvm.Cond.constantLong "SpoonCourt" (250 : Nat) (100 : Int64)) ∈ lw_all := lw_g (lw_at lw_m4 110 rfl) rfl
theorem q938 : (Jvm.Cond.constantLong "SpoonCourt" (252 : Nat) (2 : Int64)) ∈ lw_all := lw_g (lw_at lw_m4 111 rfl) rfl
theorem q939 : (Jvm.Cond.methodLink "SpoonCourt" (254 : Nat) ({ cls := "SpoonCourt$Court", name := "goesOn", desc := "(ILSpoonCourt$Rule;)LSpoonCourt$Court;" } : Jvm.MethodName)) ∈ lw_all := lw_g (lw_at lw_m4 112 rfl) rfl
theorem q944 : (Jvm.Cond.methodLink "SpoonCourt" (258 : Nat) ({ cls := "SpoonCourt$Court", name := "inHand", desc := "(LSpoonCourt$Rule;)I" } : Jvm.MethodName)) ∈ lw_all := lw_g (lw_at lw_m4 117 rfl) rfl
theorem q946 : (Jvm.Cond.instanceMethod ({ cls := "SpoonCourt", name := "dubbed", desc := "(II)I" } : Jvm.MethodName)) ∈ lw_all := lw_g (lw_at lw_m4 119 rfl) rfl
theorem q947 : (Jvm.Cond.selects "SpoonCourt" ({ cls := "SpoonCourt", name := "dubbed", desc := "(II)I" } : Jvm.MethodName) ({ cls := "SpoonCourt", name := "dubbed", desc := "(II)I" } : Jvm.MethodName)) ∈ lw_all := lw_g (lw_at lw_m4 120 rfl) rfl
theorem q948 : (Jvm.Cond.code ({ cls := "SpoonCourt", name := "dubbed", desc := "(II)I" } : Jvm.MethodName) prog_1_method_26_code (4 : Nat) (Option.some Jvm.ClassFile.FieldType.int)) ∈ lw_all := lw_g (lw_at lw_m4 121 rfl) rfl
theorem q950 : (Jvm.Cond.instanceMethod ({ cls := "SpoonCourt", name := "least", desc := "(III)I" } : Jvm.MethodName)) ∈ lw_all := lw_g (lw_at lw_m4 123 rfl) rfl
theorem q951 : (Jvm.Cond.selects "SpoonCourt" ({ cls := "SpoonCourt", name := "least", desc := "(III)I" } : Jvm.MethodName) ({ cls := "SpoonCourt", name := "least", desc := "(III)I" } : Jvm.MethodName)) ∈ lw_all := lw_g (lw_at lw_m4 124 rfl) rfl
theorem q952 : (Jvm.Cond.code ({ cls := "SpoonCourt", name := "least", desc := "(III)I" } : Jvm.MethodName) prog_1_method_27_code (5 : Nat) (Option.some Jvm.ClassFile.FieldType.int)) ∈ lw_all := lw_g (lw_at lw_m4 125 rfl) rfl
theorem q953 : (Jvm.Cond.constantLong "SpoonCourt" (263 : Nat) (60 : Int64)) ∈ lw_all := lw_g (lw_at lw_m4 126 rfl) rfl
theorem q954 : (Jvm.Cond.methodLink "SpoonCourt" (265 : Nat) ({ cls := "SpoonCourt$Court", name := "standsAs", desc := "(LSpoonCourt$Court;)LSpoonCourt$Court;" } : Jvm.MethodName)) ∈ lw_all := lw_g (lw_at lw_m4 127 rfl) rfl
theorem q956 : (Jvm.Cond.instanceMethod ({ cls := "SpoonCourt", name := "spare", desc := "(III)I" } : Jvm.MethodName)) ∈ lw_all := lw_g (lw_at lw_m4 129 rfl) rfl
theorem q957 : (Jvm.Cond.selects "SpoonCourt" ({ cls := "SpoonCourt", name := "spare", desc := "(III)I" } : Jvm.MethodName) ({ cls := "SpoonCourt", name := "spare", desc := "(III)I" } : Jvm.MethodName)) ∈ lw_all := lw_g (lw_at lw_m4 130 rfl) rfl
theorem q958 : (Jvm.Cond.code ({ cls := "SpoonCourt", name := "spare", desc := "(III)I" } : Jvm.MethodName) prog_1_method_29_code (6 : Nat) (Option.some Jvm.ClassFile.FieldType.int)) ∈ lw_all := lw_g (lw_at lw_m4 131 rfl) rfl
theorem q959 : (Jvm.Cond.constantLong "SpoonCourt" (268 : Nat) (8 : Int64)) ∈ lw_all := lw_g (lw_at lw_m4 132 rfl) rfl
theorem q960 : (Jvm.Cond.methodLink "SpoonCourt" (270 : Nat) ({ cls := "java/lang/Integer", name := "bitCount", desc := "(I)I" } : Jvm.MethodName)) ∈ lw_all := lw_g (lw_at lw_m4 133 rfl) rfl
theorem q961 : (Jvm.Cond.methodLink "SpoonCourt" (275 : Nat) ({ cls := "SpoonCourt", name := "isSpared", desc := "(III)Z" } : Jvm.MethodName)) ∈ lw_all := lw_g (lw_at lw_m4 134 rfl) rfl
theorem q962 : (Jvm.Cond.privateMethod ({ cls := "SpoonCourt", name := "isSpared", desc := "(III)Z" } : Jvm.MethodName)) ∈ lw_tbl := lw_at lw_m4 135 rfl
theorem q963 : (Jvm.Cond.instanceMethod ({ cls := "SpoonCourt", name := "isSpared", desc := "(III)Z" } : Jvm.MethodName)) ∈ lw_all := lw_g (lw_at lw_m4 136 rfl) rfl
theorem q964 : (Jvm.Cond.code ({ cls := "SpoonCourt", name := "isSpared", desc := "(III)Z" } : Jvm.MethodName) prog_1_method_28_code (5 : Nat) (Option.some Jvm.ClassFile.FieldType.boolean)) ∈ lw_all := lw_g (lw_at lw_m4 137 rfl) rfl
theorem q966 : (Jvm.Cond.instanceMethod ({ cls := "SpoonCourt", name := "lay", desc := "(III)I" } : Jvm.MethodName)) ∈ lw_all := lw_g (lw_at lw_m4 139 rfl) rfl
theorem q967 : (Jvm.Cond.selects "SpoonCourt" ({ cls := "SpoonCourt", name := "lay", desc := "(III)I" } : Jvm.MethodName) ({ cls := "SpoonCourt", name := "lay", desc := "(III)I" } : Jvm.MethodName)) ∈ lw_all := lw_g (lw_at lw_m4 140 rfl) rfl
theorem q968 : (Jvm.Cond.code ({ cls := "SpoonCourt", name := "lay", desc := "(III)I" } : Jvm.MethodName) prog_1_method_31_code (8 : Nat) (Option.some Jvm.ClassFile.FieldType.int)) ∈ lw_all := lw_g (lw_at lw_m4 141 rfl) rfl
theorem q969 : (Jvm.Cond.methodLink "SpoonCourt" (279 : Nat) ({ cls := "SpoonCourt", name := "rankBy", desc := "(III)I" } : Jvm.MethodName)) ∈ lw_all := lw_g (lw_at lw_m4 142 rfl) rfl
theorem q970 : (Jvm.Cond.privateMethod ({ cls := "SpoonCourt", name := "rankBy", desc := "(III)I" } : Jvm.MethodName)) ∈ lw_tbl := lw_at lw_m4 143 rfl
theorem q971 : (Jvm.Cond.instanceMethod ({ cls := "SpoonCourt", name := "rankBy", desc := "(III)I" } : Jvm.MethodName)) ∈ lw_all := lw_g (lw_at lw_m4 144 rfl) rfl
theorem q972 : (Jvm.Cond.code ({ cls := "SpoonCourt", name := "rankBy", desc := "(III)I" } : Jvm.MethodName) prog_1_method_30_code (4 : Nat) (Option.some Jvm.ClassFile.FieldType.int)) ∈ lw_all := lw_g (lw_at lw_m4 145 rfl) rfl
theorem q974 : (Jvm.Cond.instanceMethod ({ cls := "SpoonCourt", name := "held", desc := "(II)I" } : Jvm.MethodName)) ∈ lw_all := lw_g (lw_at lw_m4 147 rfl) rfl
theorem q975 : (Jvm.Cond.selects "SpoonCourt" ({ cls := "SpoonCourt", name := "held", desc := "(II)I" } : Jvm.MethodName) ({ cls := "SpoonCourt", name := "held", desc := "(II)I" } : Jvm.MethodName)) ∈ lw_all := lw_g (lw_at lw_m4 148 rfl) rfl
theorem q976 : (Jvm.Cond.code ({ cls := "SpoonCourt", name := "held", desc := "(II)I" } : Jvm.MethodName) prog_1_method_32_code (5 : Nat) (Option.some Jvm.ClassFile.FieldType.int)) ∈ lw_all := lw_g (lw_at lw_m4 149 rfl) rfl
theorem q978 : (Jvm.Cond.instanceMethod ({ cls := "SpoonCourt", name := "place", desc := "(I)I" } : Jvm.MethodName)) ∈ lw_all := lw_g (lw_at lw_m4 151 rfl) rfl
theorem q979 : (Jvm.Cond.selects "SpoonCourt" ({ cls := "SpoonCourt", name := "place", desc := "(I)I" } : Jvm.MethodName) ({ cls := "SpoonCourt", name := "place", desc := "(I)I" } : Jvm.MethodName)) ∈ lw_all := lw_g (lw_at lw_m4 152 rfl) rfl
theorem q980 : (Jvm.Cond.code ({ cls := "SpoonCourt", name := "place", desc := "(I)I" } : Jvm.MethodName) prog_1_method_33_code (5 : Nat) (Option.some Jvm.ClassFile.FieldType.int)) ∈ lw_all := lw_g (lw_at lw_m4 153 rfl) rfl
theorem q982 : (Jvm.Cond.instanceMethod ({ cls := "SpoonCourt", name := "stripped", desc := "(I)I" } : Jvm.MethodName)) ∈ lw_all := lw_g (lw_at lw_m4 155 rfl) rfl
theorem q983 : (Jvm.Cond.selects "SpoonCourt" ({ cls := "SpoonCourt", name := "stripped", desc := "(I)I" } : Jvm.MethodName) ({ cls := "SpoonCourt", name := "stripped", desc := "(I)I" } : Jvm.MethodName)) ∈ lw_all := lw_g (lw_at lw_m4 156 rfl) rfl
theorem q984 : (Jvm.Cond.code ({ cls := "SpoonCourt", name := "stripped", desc := "(I)I" } : Jvm.MethodName) prog_1_method_36_code (5 : Nat) (Option.some Jvm.ClassFile.FieldType.int)) ∈ lw_all := lw_g (lw_at lw_m4 157 rfl) rfl
theorem q985 : (Jvm.Cond.methodLink "SpoonCourt" (286 : Nat) ({ cls := "SpoonCourt", name := "arePeaceful", desc := "(I)Z" } : Jvm.MethodName)) ∈ lw_all := lw_g (lw_at lw_m4 158 rfl) rfl
theorem q986 : (Jvm.Cond.privateMethod ({ cls := "SpoonCourt", name := "arePeaceful", desc := "(I)Z" } : Jvm.MethodName)) ∈ lw_tbl := lw_at lw_m4 159 rfl
theorem q987 : (Jvm.Cond.instanceMethod ({ cls := "SpoonCourt", name := "arePeaceful", desc := "(I)Z" } : Jvm.MethodName)) ∈ lw_all := lw_g (lw_at lw_m4 160 rfl) rfl
theorem q988 : (Jvm.Cond.code ({ cls := "SpoonCourt", name := "arePeaceful", desc := "(I)Z" } : Jvm.MethodName) prog_1_method_35_code (4 : Nat) (Option.some Jvm.ClassFile.FieldType.boolean)) ∈ lw_all := lw_g (lw_at lw_m4 161 rfl) rfl
theorem q989 : (Jvm.Cond.methodLink "SpoonCourt" (283 : Nat) ({ cls := "SpoonCourt", name := "doQuarrel", desc := "(II)Z" } : Jvm.MethodName)) ∈ lw_all := lw_g (lw_at lw_m4 162 rfl) rfl
theorem q990 : (Jvm.Cond.privateMethod ({ cls := "SpoonCourt", name := "doQuarrel", desc := "(II)Z" } : Jvm.MethodName)) ∈ lw_tbl := lw_at lw_m4 163 rfl
theorem q991 : (Jvm.Cond.instanceMethod ({ cls := "SpoonCourt", name := "doQuarrel", desc := "(II)Z" } : Jvm.MethodName)) ∈ lw_all := lw_g (lw_at lw_m4 164 rfl) rfl
theorem q992 : (Jvm.Cond.code ({ cls := "SpoonCourt", name := "doQuarrel", desc := "(II)Z" } : Jvm.MethodName) prog_1_method_34_code (4 : Nat) (Option.some Jvm.ClassFile.FieldType.boolean)) ∈ lw_all := lw_g (lw_at lw_m4 165 rfl) rfl
theorem q994 : (Jvm.Cond.instanceMethod ({ cls := "SpoonCourt", name := "gold", desc := "(II)I" } : Jvm.MethodName)) ∈ lw_all := lw_g (lw_at lw_m4 167 rfl) rfl
theorem q995 : (Jvm.Cond.selects "SpoonCourt" ({ cls := "SpoonCourt", name := "gold", desc := "(II)I" } : Jvm.MethodName) ({ cls := "SpoonCourt", name := "gold", desc := "(II)I" } : Jvm.MethodName)) ∈ lw_all := lw_g (lw_at lw_m4 168 rfl) rfl
theorem q996 : (Jvm.Cond.code ({ cls := "SpoonCourt", name := "gold", desc := "(II)I" } : Jvm.MethodName) prog_1_method_37_code (9 : Nat) (Option.some Jvm.ClassFile.FieldType.int)) ∈ lw_all := lw_g (lw_at lw_m4 169 rfl) rfl
theorem q997 : (Jvm.Cond.constantLong "SpoonCourt" (289 : Nat) (9999 : Int64)) ∈ lw_all := lw_g (lw_at lw_m4 170 rfl) rfl
theorem q998 : (Jvm.Cond.methodLink "SpoonCourt" (291 : Nat) ({ cls := "SpoonCourt$Court", name := "rankAll", desc := "()I" } : Jvm.MethodName)) ∈ lw_all := lw_g (lw_at lw_m4 171 rfl) rfl
theorem q1004 : (Jvm.Cond.instanceMethod ({ cls := "SpoonCourt", name := "rests", desc := "(IIII)I" } : Jvm.MethodName)) ∈ lw_all := lw_g (lw_at lw_m4 177 rfl) rfl
theorem q1005 : (Jvm.Cond.selects "SpoonCourt" ({ cls := "SpoonCourt", name := "rests", desc := "(IIII)I" } : Jvm.MethodName) ({ cls := "SpoonCourt", name := "rests", desc := "(IIII)I" } : Jvm.MethodName)) ∈ lw_all := lw_g (lw_at lw_m4 178 rfl) rfl
theorem q1006 : (Jvm.Cond.code ({ cls := "SpoonCourt", name := "rests", desc := "(IIII)I" } : Jvm.MethodName) prog_1_method_39_code (8 : Nat) (Option.some Jvm.ClassFile.FieldType.int)) ∈ lw_all := lw_g (lw_at lw_m4 179 rfl) rfl
theorem q1007 : (Jvm.Cond.constantLong "SpoonCourt" (294 : Nat) (20 : Int64)) ∈ lw_all := lw_g (lw_at lw_m4 180 rfl) rfl
theorem q1008 : (Jvm.Cond.methodLink "SpoonCourt" (296 : Nat) ({ cls := "SpoonCourt", name := "isRest", desc := "(II)Z" } : Jvm.MethodName)) ∈ lw_all := lw_g (lw_at lw_m4 181 rfl) rfl
theorem q1009 : (Jvm.Cond.privateMethod ({ cls := "SpoonCourt", name := "isRest", desc := "(II)Z" } : Jvm.MethodName)) ∈ lw_tbl := lw_at lw_m4 182 rfl
theorem q1010 : (Jvm.Cond.instanceMethod ({ cls := "SpoonCourt", name := "isRest", desc := "(II)Z" } : Jvm.MethodName)) ∈ lw_all := lw_g (lw_at lw_m4 183 rfl) rfl
theorem q1011 : (Jvm.Cond.code ({ cls := "SpoonCourt", name := "isRest", desc := "(II)Z" } : Jvm.MethodName) prog_1_method_38_code (4 : Nat) (Option.some Jvm.ClassFile.FieldType.boolean)) ∈ lw_all := lw_g (lw_at lw_m4 184 rfl) rfl
theorem q1013 : (Jvm.Cond.instanceMethod ({ cls := "SpoonCourt", name := "ring", desc := "(I)I" } : Jvm.MethodName)) ∈ lw_all := lw_g (lw_at lw_m4 186 rfl) rfl
theorem q1014 : (Jvm.Cond.selects "SpoonCourt" ({ cls := "SpoonCourt", name := "ring", desc := "(I)I" } : Jvm.MethodName) ({ cls := "SpoonCourt", name := "ring", desc := "(I)I" } : Jvm.MethodName)) ∈ lw_all := lw_g (lw_at lw_m4 187 rfl) rfl
theorem q1015 : (Jvm.Cond.code ({ cls := "SpoonCourt", name := "ring", desc := "(I)I" } : Jvm.MethodName) prog_1_method_41_code (4 : Nat) (Option.some Jvm.ClassFile.FieldType.int)) ∈ lw_all := lw_g (lw_at lw_m4 188 rfl) rfl
theorem q1016 : (Jvm.Cond.methodLink "SpoonCourt" (299 : Nat) ({ cls := "SpoonCourt", name := "areAlike", desc := "(II)Z" } : Jvm.MethodName)) ∈ lw_all := lw_g (lw_at lw_m4 189 rfl) rfl
theorem q1017 : (Jvm.Cond.privateMethod ({ cls := "SpoonCourt", name := "areAlike", desc := "(II)Z" } : Jvm.MethodName)) ∈ lw_tbl := lw_at lw_m4 190 rfl
theorem q1018 : (Jvm.Cond.instanceMethod ({ cls := "SpoonCourt", name := "areAlike", desc := "(II)Z" } : Jvm.MethodName)) ∈ lw_all := lw_g (lw_at lw_m4 191 rfl) rfl
theorem q1019 : (Jvm.Cond.code ({ cls := "SpoonCourt", name := "areAlike", desc := "(II)Z" } : Jvm.MethodName) prog_1_method_40_code (4 : Nat) (Option.some Jvm.ClassFile.FieldType.boolean)) ∈ lw_all := lw_g (lw_at lw_m4 192 rfl) rfl
theorem q1021 : (Jvm.Cond.instanceMethod ({ cls := "SpoonCourt", name := "note", desc := "(II)I" } : Jvm.MethodName)) ∈ lw_all := lw_g (lw_at lw_m4 194 rfl) rfl
theorem q1022 : (Jvm.Cond.selects "SpoonCourt" ({ cls := "SpoonCourt", name := "note", desc := "(II)I" } : Jvm.MethodName) ({ cls := "SpoonCourt", name := "note", desc := "(II)I" } : Jvm.MethodName)) ∈ lw_all := lw_g (lw_at lw_m4 195 rfl) rfl
theorem q1023 : (Jvm.Cond.code ({ cls := "SpoonCourt", name := "note", desc := "(II)I" } : Jvm.MethodName) prog_1_method_42_code (3 : Nat) (Option.some Jvm.ClassFile.FieldType.int)) ∈ lw_all := lw_g (lw_at lw_m4 196 rfl) rfl
theorem q1025 : (Jvm.Cond.instanceMethod ({ cls := "SpoonCourt", name := "ruled", desc := "(I)I" } : Jvm.MethodName)) ∈ lw_all := lw_g (lw_at lw_m4 198 rfl) rfl
theorem q1026 : (Jvm.Cond.selects "SpoonCourt" ({ cls := "SpoonCourt", name := "ruled", desc := "(I)I" } : Jvm.MethodName) ({ cls := "SpoonCourt", name := "ruled", desc := "(I)I" } : Jvm.MethodName)) ∈ lw_all := lw_g (lw_at lw_m4 199 rfl) rfl
theorem q1027 : (Jvm.Cond.code ({ cls := "SpoonCourt", name := "ruled", desc := "(I)I" } : Jvm.MethodName) prog_1_method_46_code (5 : Nat) (Option.some Jvm.ClassFile.FieldType.int)) ∈ lw_all := lw_g (lw_at lw_m4 200 rfl) rfl
theorem q1028 : (Jvm.Cond.methodLink "SpoonCourt" (318 : Nat) ({ cls := "SpoonCourt", name := "gathersRules", desc := "()V" } : Jvm.MethodName)) ∈ lw_all := lw_g (lw_at lw_m4 201 rfl) rfl
theorem q1029 : (Jvm.Cond.privateMethod ({ cls := "SpoonCourt", name := "gathersRules", desc := "()V" } : Jvm.MethodName)) ∈ lw_tbl := lw_at lw_m4 202 rfl
theorem q1030 : (Jvm.Cond.instanceMethod ({ cls := "SpoonCourt", name := "gathersRules", desc := "()V" } : Jvm.MethodName)) ∈ lw_all := lw_g (lw_at lw_m4 203 rfl) rfl
theorem q1031 : (Jvm.Cond.code ({ cls := "SpoonCourt", name := "gathersRules", desc := "()V" } : Jvm.MethodName) prog_1_method_45_code (3 : Nat) (Option.none : Option Jvm.ClassFile.FieldType)) ∈ lw_all := lw_g (lw_at lw_m4 204 rfl) rfl
theorem q1032 : (Jvm.Cond.methodLink "SpoonCourt" (312 : Nat) ({ cls := "SpoonCourt$Court", name := "begins", desc := "()V" } : Jvm.MethodName)) ∈ lw_all := lw_g (lw_at lw_m4 205 rfl) rfl
theorem q1033 : (Jvm.Cond.methodLink "SpoonCourt" (315 : Nat) ({ cls := "SpoonCourt", name := "areNotesSo", desc := "(I)Z" } : Jvm.MethodName)) ∈ lw_all := lw_g (lw_at lw_m4 206 rfl) rfl
theorem q1034 : (Jvm.Cond.privateMethod ({ cls := "SpoonCourt", name := "areNotesSo", desc := "(I)Z" } : Jvm.MethodName)) ∈ lw_tbl := lw_at lw_m4 207 rfl
theorem q1035 : (Jvm.Cond.instanceMethod ({ cls := "SpoonCourt", name := "areNotesSo", desc := "(I)Z" } : Jvm.MethodName)) ∈ lw_all := lw_g (lw_at lw_m4 208 rfl) rfl
theorem q1036 : (Jvm.Cond.code ({ cls := "SpoonCourt", name := "areNotesSo", desc := "(I)Z" } : Jvm.MethodName) prog_1_method_44_code (3 : Nat) (Option.some Jvm.ClassFile.FieldType.boolean)) ∈ lw_all := lw_g (lw_at lw_m4 209 rfl) rfl
theorem q1037 : (Jvm.Cond.methodLink "SpoonCourt" (308 : Nat) ({ cls := "SpoonCourt", name := "heldBy", desc := "(II)I" } : Jvm.MethodName)) ∈ lw_all := lw_g (lw_at lw_m4 210 rfl) rfl
theorem q1038 : (Jvm.Cond.privateMethod ({ cls := "SpoonCourt", name := "heldBy", desc := "(II)I" } : Jvm.MethodName)) ∈ lw_tbl := lw_at lw_m4 211 rfl
theorem q1039 : (Jvm.Cond.instanceMethod ({ cls := "SpoonCourt", name := "heldBy", desc := "(II)I" } : Jvm.MethodName)) ∈ lw_all := lw_g (lw_at lw_m4 212 rfl) rfl
theorem q1040 : (Jvm.Cond.code ({ cls := "SpoonCourt", name := "heldBy", desc := "(II)I" } : Jvm.MethodName) prog_1_method_43_code (3 : Nat) (Option.some Jvm.ClassFile.FieldType.int)) ∈ lw_all := lw_g (lw_at lw_m4 213 rfl) rfl
theorem q1042 : (Jvm.Cond.instanceMethod ({ cls := "SpoonCourt", name := "look", desc := "(I)I" } : Jvm.MethodName)) ∈ lw_all := lw_g (lw_at lw_m4 215 rfl) rfl
theorem q1043 : (Jvm.Cond.selects "SpoonCourt" ({ cls := "SpoonCourt", name := "look", desc := "(I)I" } : Jvm.MethodName) ({ cls := "SpoonCourt", name := "look", desc := "(I)I" } : Jvm.MethodName)) ∈ lw_all := lw_g (lw_at lw_m4 216 rfl) rfl
theorem q1044 : (Jvm.Cond.code ({ cls := "SpoonCourt", name := "look", desc := "(I)I" } : Jvm.MethodName) prog_1_method_48_code (4 : Nat) (Option.some Jvm.ClassFile.FieldType.int)) ∈ lw_all := lw_g (lw_at lw_m4 217 rfl) rfl
theorem q1045 : (Jvm.Cond.methodLink "SpoonCourt" (326 : Nat) ({ cls := "SpoonCourt", name := "alikeIn", desc := "(I)I" } : Jvm.MethodName)) ∈ lw_all := lw_g (lw_at lw_m4 218 rfl) rfl
theorem q1046 : (Jvm.Cond.privateMethod ({ cls := "SpoonCourt", name := "alikeIn", desc := "(I)I" } : Jvm.MethodName)) ∈ lw_tbl := lw_at lw_m4 219 rfl
theorem q1047 : (Jvm.Cond.instanceMethod ({ cls := "SpoonCourt", name := "alikeIn", desc := "(I)I" } : Jvm.MethodName)) ∈ lw_all := lw_g (lw_at lw_m4 220 rfl) rfl
theorem q1048 : (Jvm.Cond.code ({ cls := "SpoonCourt", name := "alikeIn", desc := "(I)I" } : Jvm.MethodName) prog_1_method_47_code (6 : Nat) (Option.some Jvm.ClassFile.FieldType.int)) ∈ lw_all := lw_g (lw_at lw_m4 221 rfl) rfl
theorem q1049 : (Jvm.Cond.methodLink "SpoonCourt" (321 : Nat) ({ cls := "java/lang/Math", name := "max", desc := "(II)I" } : Jvm.MethodName)) ∈ lw_all := lw_g (lw_at lw_m4 222 rfl) rfl
theorem q1051 : (Jvm.Cond.instanceMethod ({ cls := "SpoonCourt", name := "seed", desc := "(I)I" } : Jvm.MethodName)) ∈ lw_all := lw_g (lw_at lw_m4 224 rfl) rfl
theorem q1052 : (Jvm.Cond.selects "SpoonCourt" ({ cls := "SpoonCourt", name := "seed", desc := "(I)I" } : Jvm.MethodName) ({ cls := "SpoonCourt", name := "seed", desc := "(I)I" } : Jvm.MethodName)) ∈ lw_all := lw_g (lw_at lw_m4 225 rfl) rfl
theorem q1053 : (Jvm.Cond.code ({ cls := "SpoonCourt", name := "seed", desc := "(I)I" } : Jvm.MethodName) prog_1_method_49_code (3 : Nat) (Option.some Jvm.ClassFile.FieldType.int)) ∈ lw_all := lw_g (lw_at lw_m4 226 rfl) rfl
theorem q1055 : (Jvm.Cond.instanceMethod ({ cls := "SpoonCourt", name := "years", desc := "(IIII)I" } : Jvm.MethodName)) ∈ lw_all := lw_g (lw_at lw_m4 228 rfl) rfl
theorem q1056 : (Jvm.Cond.selects "SpoonCourt" ({ cls := "SpoonCourt", name := "years", desc := "(IIII)I" } : Jvm.MethodName) ({ cls := "SpoonCourt", name := "years", desc := "(IIII)I" } : Jvm.MethodName)) ∈ lw_all := lw_g (lw_at lw_m4 229 rfl) rfl
theorem q1057 : (Jvm.Cond.code ({ cls := "SpoonCourt", name := "years", desc := "(IIII)I" } : Jvm.MethodName) prog_1_method_52_code (9 : Nat) (Option.some Jvm.ClassFile.FieldType.int)) ∈ lw_all := lw_g (lw_at lw_m4 230 rfl) rfl
theorem q1058 : (Jvm.Cond.constantLong "SpoonCourt" (345 : Nat) (10 : Int64)) ∈ lw_all := lw_g (lw_at lw_m4 231 rfl) rfl
theorem q1059 : (Jvm.Cond.methodLink "SpoonCourt" (347 : Nat) ({ cls := "SpoonCourt", name := "dubsByDraw", desc := "(I)I" } : Jvm.MethodName)) ∈ lw_all := lw_g (lw_at lw_m4 232 rfl) rfl
theorem q1060 : (Jvm.Cond.privateMethod ({ cls := "SpoonCourt", name := "dubsByDraw", desc := "(I)I" } : Jvm.MethodName)) ∈ lw_tbl := lw_at lw_m4 233 rfl
theorem q1061 : (Jvm.Cond.instanceMethod ({ cls := "SpoonCourt", name := "dubsByDraw", desc := "(I)I" } : Jvm.MethodName)) ∈ lw_all := lw_g (lw_at lw_m4 234 rfl) rfl
theorem q1062 : (Jvm.Cond.code ({ cls := "SpoonCourt", name := "dubsByDraw", desc := "(I)I" } : Jvm.MethodName) prog_1_method_51_code (4 : Nat) (Option.some Jvm.ClassFile.FieldType.int)) ∈ lw_all := lw_g (lw_at lw_m4 235 rfl) rfl
theorem q1063 : (Jvm.Cond.methodLink "SpoonCourt" (342 : Nat) ({ cls := "SpoonCourt", name := "draw", desc := "(I)I" } : Jvm.MethodName)) ∈ lw_all := lw_g (lw_at lw_m4 236 rfl) rfl
theorem q1064 : (Jvm.Cond.privateMethod ({ cls := "SpoonCourt", name := "draw", desc := "(I)I" } : Jvm.MethodName)) ∈ lw_tbl := lw_at lw_m4 237 rfl
theorem q1065 : (Jvm.Cond.instanceMethod ({ cls := "SpoonCourt", name := "draw", desc := "(I)I" } : Jvm.MethodName)) ∈ lw_all := lw_g (lw_at lw_m4 238 rfl) rfl
theorem q1066 : (Jvm.Cond.code ({ cls := "SpoonCourt", name := "draw", desc := "(I)I" } : Jvm.MethodName) prog_1_method_50_code (2 : Nat) (Option.some Jvm.ClassFile.FieldType.int)) ∈ lw_all := lw_g (lw_at lw_m4 239 rfl) rfl
theorem q1067 : (Jvm.Cond.constantLong "SpoonCourt" (335 : Nat) (1103515245 : Int64)) ∈ lw_all := lw_g (lw_at lw_m5 0 rfl) rfl
theorem q1068 : (Jvm.Cond.constantLong "SpoonCourt" (337 : Nat) (12345 : Int64)) ∈ lw_all := lw_g (lw_at lw_m5 1 rfl) rfl
theorem q1069 : (Jvm.Cond.constantLong "SpoonCourt" (339 : Nat) (2147483648 : Int64)) ∈ lw_all := lw_g (lw_at lw_m5 2 rfl) rfl
theorem q1070 : (Jvm.Cond.constant "SpoonCourt" (341 : Nat) (65536 : Int32)) ∈ lw_all := lw_g (lw_at lw_m5 3 rfl) rfl
theorem q1072 : (Jvm.Cond.instanceMethod ({ cls := "SpoonCourt", name := "count", desc := "(I)I" } : Jvm.MethodName)) ∈ lw_all := lw_g (lw_at lw_m5 5 rfl) rfl
theorem q1073 : (Jvm.Cond.selects "SpoonCourt" ({ cls := "SpoonCourt", name := "count", desc := "(I)I" } : Jvm.MethodName) ({ cls := "SpoonCourt", name := "count", desc := "(I)I" } : Jvm.MethodName)) ∈ lw_all := lw_g (lw_at lw_m5 6 rfl) rfl
theorem q1074 : (Jvm.Cond.code ({ cls := "SpoonCourt", name := "count", desc := "(I)I" } : Jvm.MethodName) prog_1_method_53_code (2 : Nat) (Option.some Jvm.ClassFile.FieldType.int)) ∈ lw_all := lw_g (lw_at lw_m5 7 rfl) rfl
theorem q1075 : (Jvm.Cond.constantLong "SpoonCourt" (350 : Nat) (14 : Int64)) ∈ lw_all := lw_g (lw_at lw_m5 8 rfl) rfl
theorem q1076 : (Jvm.Cond.methodLink "SpoonCourt" (355 : Nat) ({ cls := "SpoonCourt$Court", name := "knights", desc := "()I" } : Jvm.MethodName)) ∈ lw_all := lw_g (lw_at lw_m5 9 rfl) rfl
theorem q1078 : (Jvm.Cond.instanceMethod ({ cls := "SpoonCourt", name := "image", desc := "(I)I" } : Jvm.MethodName)) ∈ lw_all := lw_g (lw_at lw_m5 11 rfl) rfl
theorem q1079 : (Jvm.Cond.selects "SpoonCourt" ({ cls := "SpoonCourt", name := "image", desc := "(I)I" } : Jvm.MethodName) ({ cls := "SpoonCourt", name := "image", desc := "(I)I" } : Jvm.MethodName)) ∈ lw_all := lw_g (lw_at lw_m5 12 rfl) rfl
theorem q1080 : (Jvm.Cond.code ({ cls := "SpoonCourt", name := "image", desc := "(I)I" } : Jvm.MethodName) prog_1_method_54_code (3 : Nat) (Option.some Jvm.ClassFile.FieldType.int)) ∈ lw_all := lw_g (lw_at lw_m5 13 rfl) rfl
theorem q1081 : (Jvm.Cond.constantLong "SpoonCourt" (357 : Nat) (3 : Int64)) ∈ lw_all := lw_g (lw_at lw_m5 14 rfl) rfl
theorem q1083 : (Jvm.Cond.methodLinkNest "SpoonCourt" (359 : Nat) ({ cls := "SpoonCourt$Image", name := "<init>", desc := "()V" } : Jvm.MethodName) "SpoonCourt") ∈ lw_tbl := lw_at lw_m5 16 rfl
theorem q1090 : (Jvm.Cond.fieldLinkNest "SpoonCourt" (366 : Nat) "SpoonCourt$Image" "court" "LSpoonCourt$Court;" "SpoonCourt") ∈ lw_tbl := lw_at lw_m5 23 rfl
theorem q1091 : (Jvm.Cond.fieldLinkNest "SpoonCourt" (360 : Nat) "SpoonCourt$Image" "isTold" "Z" "SpoonCourt") ∈ lw_tbl := lw_at lw_m5 24 rfl
theorem q1092 : (Jvm.Cond.fieldLinkNest "SpoonCourt" (364 : Nat) "SpoonCourt$Image" "x" "I" "SpoonCourt") ∈ lw_tbl := lw_at lw_m5 25 rfl
theorem q1093 : (Jvm.Cond.fieldLinkNest "SpoonCourt" (365 : Nat) "SpoonCourt$Image" "inForce" "I" "SpoonCourt") ∈ lw_tbl := lw_at lw_m5 26 rfl
theorem q1104 : (Jvm.Cond.instanceMethod ({ cls := "SpoonCourt", name := "back", desc := "(I)I" } : Jvm.MethodName)) ∈ lw_all := lw_g (lw_at lw_m5 37 rfl) rfl
theorem q1105 : (Jvm.Cond.selects "SpoonCourt" ({ cls := "SpoonCourt", name := "back", desc := "(I)I" } : Jvm.MethodName) ({ cls := "SpoonCourt", name := "back", desc := "(I)I" } : Jvm.MethodName)) ∈ lw_all := lw_g (lw_at lw_m5 38 rfl) rfl
theorem q1106 : (Jvm.Cond.code ({ cls := "SpoonCourt", name := "back", desc := "(I)I" } : Jvm.MethodName) prog_1_method_55_code (2 : Nat) (Option.some Jvm.ClassFile.FieldType.int)) ∈ lw_all := lw_g (lw_at lw_m5 39 rfl) rfl
theorem in_X0 : ∀ w ∈ wsX00, w ∈ lw_all := lw_in wsX00 [377, 379, 381, 383, 385, 387, 389, 391, 393, 395, 397, 399, 401, 403, 405, 407, 409, 411, 413, 415, 417, 419] (by decide +kernel) (by decide +kernel)
-- X1.SpoonCourt_Court.lean.txt
def RX1 : String := "SpoonCourt$Court"
def TX1 : u_T := fun k => match k with
  | 0 => ("SpoonCourt$Court", "day", "I", false)
  | 1 => ("SpoonCourt$Court", "owed", "I", false)
  | 2 => ("SpoonCourt$Court", "thingMany", "I", false)
  | 3 => ("SpoonCourt$Court", "personMany", "I", false)
  | 4 => ("SpoonCourt$Court", "noteMany", "I", false)
  | 5 => ("SpoonCourt$Court", "undoMany", "I", false)
  | 6 => ("SpoonCourt$Court", "isTold", "I", false)
  | 7 => ("SpoonCourt$Court", "now", "I", false)
  | 8 => ("SpoonCourt$Court", "last", "I", false)
  | 9 => ("SpoonCourt$Court", "tray", "I", false)
  | 10 => ("SpoonCourt$Court", "gloves", "I", false)
  | 11 => ("SpoonCourt$Court", "rank", "[I", true)
  | 12 => ("SpoonCourt$Court", "usual", "[I", true)
  | 13 => ("SpoonCourt$Court", "quarrels", "[I", true)
  | 14 => ("SpoonCourt$Court", "toldThanks", "[I", true)
  | 15 => ("SpoonCourt$Court", "serves", "[I", true)
  | 16 => ("SpoonCourt$Court", "notes", "[I", true)
  | 17 => ("SpoonCourt$Court", "times", "[I", true)
  | 18 => ("SpoonCourt$Court", "thanks", "[I", true)
  | 19 => ("SpoonCourt$Court", "titles", "[I", true)
  | 20 => ("SpoonCourt$Court", "byHand", "[I", true)
  | 21 => ("SpoonCourt$Court", "undo", "[I", true)
  | _ => ("SpoonCourt$Court", "words", "[J", true)
def tyX1 : Nat → FieldType := fun k => match k with
  | 0 => .int
  | 1 => .int
  | 2 => .int
  | 3 => .int
  | 4 => .int
  | 5 => .int
  | 6 => .int
  | 7 => .int
  | 8 => .int
  | 9 => .int
  | 10 => .int
  | 11 => .array .int
  | 12 => .array .int
  | 13 => .array .int
  | 14 => .array .int
  | 15 => .array .int
  | 16 => .array .int
  | 17 => .array .int
  | 18 => .array .int
  | 19 => .array .int
  | 20 => .array .int
  | 21 => .array .int
  | _ => .array .long
abbrev wsX10 : List Cond := u_ws RX1 TX1 23
set_option maxRecDepth 100000 in
theorem nmX1 : ∀ a, a < 23 → ∀ b, b < 23 → a ≠ b → (TX1 a).2.1 ≠ (TX1 b).2.1 := by decide +kernel
set_option maxRecDepth 100000 in
theorem tyX1_ok : ∀ k, k < 23 → parseFieldDescriptor (TX1 k).2.2.1 = some (tyX1 k) := by decide +kernel
abbrev cX1_init : ByteArray := prog_5_method_1_code
def yX1_init : MethodName := ⟨RX1, "<init>", "()V"⟩
abbrev cX1_copies : ByteArray := prog_5_method_2_code
def yX1_copies : MethodName := ⟨RX1, "copies", "(LSpoonCourt$Court;)LSpoonCourt$Court;"⟩
abbrev cX1_standsAs : ByteArray := prog_5_method_3_code
def yX1_standsAs : MethodName := ⟨RX1, "standsAs", "(LSpoonCourt$Court;)LSpoonCourt$Court;"⟩
abbrev cX1_begins : ByteArray := prog_5_method_6_code
def yX1_begins : MethodName := ⟨RX1, "begins", "()V"⟩
abbrev cX1_titled : ByteArray := prog_5_method_9_code
def yX1_titled : MethodName := ⟨RX1, "titled", "(I)I"⟩
abbrev cX1_rankOf : ByteArray := prog_5_method_7_code
def yX1_rankOf : MethodName := ⟨RX1, "rankOf", "(I)I"⟩
abbrev cX1_takes : ByteArray := prog_5_method_5_code
def yX1_takes : MethodName := ⟨RX1, "takes", "(I)V"⟩
abbrev cX1_lays : ByteArray := prog_5_method_4_code
def yX1_lays : MethodName := ⟨RX1, "lays", "(I)V"⟩
abbrev cX1_passes : ByteArray := prog_5_method_15_code
def yX1_passes : MethodName := ⟨RX1, "passes", "(LSpoonCourt$Rule;)I"⟩
abbrev cX1_inHand : ByteArray := prog_5_method_13_code
def yX1_inHand : MethodName := ⟨RX1, "inHand", "(LSpoonCourt$Rule;)I"⟩
abbrev cX1_sumOf : ByteArray := prog_5_method_12_code
def yX1_sumOf : MethodName := ⟨RX1, "sumOf", "(ILSpoonCourt$Rule;)J"⟩
abbrev cX1_knights : ByteArray := prog_5_method_10_code
def yX1_knights : MethodName := ⟨RX1, "knights", "()I"⟩
abbrev cX1_thanked : ByteArray := prog_5_method_11_code
def yX1_thanked : MethodName := ⟨RX1, "thanked", "(II)V"⟩
abbrev cX1_dubs : ByteArray := prog_5_method_14_code
def yX1_dubs : MethodName := ⟨RX1, "dubs", "(I)V"⟩
abbrev cX1_goesOn : ByteArray := prog_5_method_16_code
def yX1_goesOn : MethodName := ⟨RX1, "goesOn", "(ILSpoonCourt$Rule;)LSpoonCourt$Court;"⟩
abbrev cX1_rankAll : ByteArray := prog_5_method_8_code
def yX1_rankAll : MethodName := ⟨RX1, "rankAll", "()I"⟩
theorem q109 : (Jvm.Cond.initialized "SpoonCourt$Court") ∈ lw_all := lw_g (lw_at lw_m1 2 rfl) rfl
theorem q143 : (Jvm.Cond.instantiable "SpoonCourt$Court" (23 : Nat)) ∈ lw_all := lw_g (lw_at lw_m1 36 rfl) rfl
theorem q145 : (Jvm.Cond.instanceMethod ({ cls := "SpoonCourt$Court", name := "<init>", desc := "()V" } : Jvm.MethodName)) ∈ lw_all := lw_g (lw_at lw_m1 38 rfl) rfl
theorem q146 : (Jvm.Cond.code ({ cls := "SpoonCourt$Court", name := "<init>", desc := "()V" } : Jvm.MethodName) prog_5_method_1_code (1 : Nat) (Option.none : Option Jvm.ClassFile.FieldType)) ∈ lw_all := lw_g (lw_at lw_m1 39 rfl) rfl
theorem q147 : (Jvm.Cond.methodLink "SpoonCourt$Court" (3 : Nat) ({ cls := "java/lang/Object", name := "<init>", desc := "()V" } : Jvm.MethodName)) ∈ lw_all := lw_g (lw_at lw_m1 40 rfl) rfl
theorem q148 : (Jvm.Cond.fieldLink "SpoonCourt$Court" (49 : Nat) "SpoonCourt$Court" "day" "I") ∈ lw_all := lw_g (lw_at lw_m1 41 rfl) rfl
theorem q151 : (Jvm.Cond.fieldLink "SpoonCourt$Court" (53 : Nat) "SpoonCourt$Court" "owed" "I") ∈ lw_all := lw_g (lw_at lw_m1 44 rfl) rfl
theorem q154 : (Jvm.Cond.fieldLink "SpoonCourt$Court" (56 : Nat) "SpoonCourt$Court" "thingMany" "I") ∈ lw_all := lw_g (lw_at lw_m1 47 rfl) rfl
theorem q157 : (Jvm.Cond.fieldLink "SpoonCourt$Court" (59 : Nat) "SpoonCourt$Court" "personMany" "I") ∈ lw_all := lw_g (lw_at lw_m1 50 rfl) rfl
theorem q160 : (Jvm.Cond.fieldLink "SpoonCourt$Court" (62 : Nat) "SpoonCourt$Court" "noteMany" "I") ∈ lw_all := lw_g (lw_at lw_m1 53 rfl) rfl
theorem q162 : (Jvm.Cond.fieldLink "SpoonCourt$Court" (65 : Nat) "SpoonCourt$Court" "undoMany" "I") ∈ lw_all := lw_g (lw_at lw_m1 55 rfl) rfl
theorem q164 : (Jvm.Cond.fieldLink "SpoonCourt$Court" (68 : Nat) "SpoonCourt$Court" "isTold" "I") ∈ lw_all := lw_g (lw_at lw_m1 57 rfl) rfl
theorem q166 : (Jvm.Cond.fieldLink "SpoonCourt$Court" (81 : Nat) "SpoonCourt$Court" "now" "I") ∈ lw_all := lw_g (lw_at lw_m1 59 rfl) rfl
theorem q168 : (Jvm.Cond.fieldLink "SpoonCourt$Court" (84 : Nat) "SpoonCourt$Court" "last" "I") ∈ lw_all := lw_g (lw_at lw_m1 61 rfl) rfl
theorem q170 : (Jvm.Cond.fieldLink "SpoonCourt$Court" (87 : Nat) "SpoonCourt$Court" "tray" "I") ∈ lw_all := lw_g (lw_at lw_m1 63 rfl) rfl
theorem q172 : (Jvm.Cond.fieldLink "SpoonCourt$Court" (90 : Nat) "SpoonCourt$Court" "gloves" "I") ∈ lw_all := lw_g (lw_at lw_m1 65 rfl) rfl
theorem q174 : (Jvm.Cond.fieldLink "SpoonCourt$Court" (9 : Nat) "SpoonCourt$Court" "rank" "[I") ∈ lw_all := lw_g (lw_at lw_m1 67 rfl) rfl
theorem q177 : (Jvm.Cond.fieldLink "SpoonCourt$Court" (15 : Nat) "SpoonCourt$Court" "usual" "[I") ∈ lw_all := lw_g (lw_at lw_m1 70 rfl) rfl
theorem q180 : (Jvm.Cond.fieldLink "SpoonCourt$Court" (18 : Nat) "SpoonCourt$Court" "quarrels" "[I") ∈ lw_all := lw_g (lw_at lw_m1 73 rfl) rfl
theorem q183 : (Jvm.Cond.fieldLink "SpoonCourt$Court" (21 : Nat) "SpoonCourt$Court" "toldThanks" "[I") ∈ lw_all := lw_g (lw_at lw_m1 76 rfl) rfl
theorem q185 : (Jvm.Cond.fieldLink "SpoonCourt$Court" (24 : Nat) "SpoonCourt$Court" "serves" "[I") ∈ lw_all := lw_g (lw_at lw_m1 78 rfl) rfl
theorem q188 : (Jvm.Cond.fieldLink "SpoonCourt$Court" (27 : Nat) "SpoonCourt$Court" "notes" "[I") ∈ lw_all := lw_g (lw_at lw_m1 81 rfl) rfl
theorem q190 : (Jvm.Cond.fieldLink "SpoonCourt$Court" (30 : Nat) "SpoonCourt$Court" "times" "[I") ∈ lw_all := lw_g (lw_at lw_m1 83 rfl) rfl
theorem q192 : (Jvm.Cond.fieldLink "SpoonCourt$Court" (33 : Nat) "SpoonCourt$Court" "thanks" "[I") ∈ lw_all := lw_g (lw_at lw_m1 85 rfl) rfl
theorem q194 : (Jvm.Cond.fieldLink "SpoonCourt$Court" (36 : Nat) "SpoonCourt$Court" "titles" "[I") ∈ lw_all := lw_g (lw_at lw_m1 87 rfl) rfl
theorem q196 : (Jvm.Cond.fieldLink "SpoonCourt$Court" (39 : Nat) "SpoonCourt$Court" "byHand" "[I") ∈ lw_all := lw_g (lw_at lw_m1 89 rfl) rfl
theorem q198 : (Jvm.Cond.fieldLink "SpoonCourt$Court" (42 : Nat) "SpoonCourt$Court" "undo" "[I") ∈ lw_all := lw_g (lw_at lw_m1 91 rfl) rfl
theorem q200 : (Jvm.Cond.fieldLink "SpoonCourt$Court" (45 : Nat) "SpoonCourt$Court" "words" "[J") ∈ lw_all := lw_g (lw_at lw_m1 93 rfl) rfl
theorem q201 : (Jvm.Cond.lays "SpoonCourt$Court" "SpoonCourt$Court" "day" "I") ∈ lw_all := lw_g (lw_at lw_m1 94 rfl) rfl
theorem q202 : (Jvm.Cond.soleField "SpoonCourt$Court" "day") ∈ lw_all := lw_g (lw_at lw_m1 95 rfl) rfl
theorem q203 : (Jvm.Cond.lays "SpoonCourt$Court" "SpoonCourt$Court" "owed" "I") ∈ lw_all := lw_g (lw_at lw_m1 96 rfl) rfl
theorem q204 : (Jvm.Cond.soleField "SpoonCourt$Court" "owed") ∈ lw_all := lw_g (lw_at lw_m1 97 rfl) rfl
theorem q205 : (Jvm.Cond.lays "SpoonCourt$Court" "SpoonCourt$Court" "thingMany" "I") ∈ lw_all := lw_g (lw_at lw_m1 98 rfl) rfl
theorem q206 : (Jvm.Cond.soleField "SpoonCourt$Court" "thingMany") ∈ lw_all := lw_g (lw_at lw_m1 99 rfl) rfl
theorem q207 : (Jvm.Cond.lays "SpoonCourt$Court" "SpoonCourt$Court" "personMany" "I") ∈ lw_all := lw_g (lw_at lw_m1 100 rfl) rfl
theorem q208 : (Jvm.Cond.soleField "SpoonCourt$Court" "personMany") ∈ lw_all := lw_g (lw_at lw_m1 101 rfl) rfl
theorem q209 : (Jvm.Cond.lays "SpoonCourt$Court" "SpoonCourt$Court" "noteMany" "I") ∈ lw_all := lw_g (lw_at lw_m1 102 rfl) rfl
theorem q210 : (Jvm.Cond.soleField "SpoonCourt$Court" "noteMany") ∈ lw_all := lw_g (lw_at lw_m1 103 rfl) rfl
theorem q211 : (Jvm.Cond.lays "SpoonCourt$Court" "SpoonCourt$Court" "undoMany" "I") ∈ lw_all := lw_g (lw_at lw_m1 104 rfl) rfl
theorem q212 : (Jvm.Cond.soleField "SpoonCourt$Court" "undoMany") ∈ lw_all := lw_g (lw_at lw_m1 105 rfl) rfl
theorem q213 : (Jvm.Cond.lays "SpoonCourt$Court" "SpoonCourt$Court" "isTold" "I") ∈ lw_all := lw_g (lw_at lw_m1 106 rfl) rfl
theorem q214 : (Jvm.Cond.soleField "SpoonCourt$Court" "isTold") ∈ lw_all := lw_g (lw_at lw_m1 107 rfl) rfl
theorem q215 : (Jvm.Cond.lays "SpoonCourt$Court" "SpoonCourt$Court" "now" "I") ∈ lw_all := lw_g (lw_at lw_m1 108 rfl) rfl
theorem q216 : (Jvm.Cond.soleField "SpoonCourt$Court" "now") ∈ lw_all := lw_g (lw_at lw_m1 109 rfl) rfl
theorem q217 : (Jvm.Cond.lays "SpoonCourt$Court" "SpoonCourt$Court" "last" "I") ∈ lw_all := lw_g (lw_at lw_m1 110 rfl) rfl
theorem q218 : (Jvm.Cond.soleField "SpoonCourt$Court" "last") ∈ lw_all := lw_g (lw_at lw_m1 111 rfl) rfl
theorem q219 : (Jvm.Cond.lays "SpoonCourt$Court" "SpoonCourt$Court" "tray" "I") ∈ lw_all := lw_g (lw_at lw_m1 112 rfl) rfl
theorem q220 : (Jvm.Cond.soleField "SpoonCourt$Court" "tray") ∈ lw_all := lw_g (lw_at lw_m1 113 rfl) rfl
theorem q221 : (Jvm.Cond.lays "SpoonCourt$Court" "SpoonCourt$Court" "gloves" "I") ∈ lw_all := lw_g (lw_at lw_m1 114 rfl) rfl
theorem q222 : (Jvm.Cond.soleField "SpoonCourt$Court" "gloves") ∈ lw_all := lw_g (lw_at lw_m1 115 rfl) rfl
theorem q223 : (Jvm.Cond.laysFinal "SpoonCourt$Court" "SpoonCourt$Court" "rank" "[I") ∈ lw_all := lw_g (lw_at lw_m1 116 rfl) rfl
theorem q224 : (Jvm.Cond.soleField "SpoonCourt$Court" "rank") ∈ lw_all := lw_g (lw_at lw_m1 117 rfl) rfl
theorem q225 : (Jvm.Cond.laysFinal "SpoonCourt$Court" "SpoonCourt$Court" "usual" "[I") ∈ lw_all := lw_g (lw_at lw_m1 118 rfl) rfl
theorem q226 : (Jvm.Cond.soleField "SpoonCourt$Court" "usual") ∈ lw_all := lw_g (lw_at lw_m1 119 rfl) rfl
theorem q227 : (Jvm.Cond.laysFinal "SpoonCourt$Court" "SpoonCourt$Court" "quarrels" "[I") ∈ lw_all := lw_g (lw_at lw_m1 120 rfl) rfl
theorem q228 : (Jvm.Cond.soleField "SpoonCourt$Court" "quarrels") ∈ lw_all := lw_g (lw_at lw_m1 121 rfl) rfl
theorem q229 : (Jvm.Cond.laysFinal "SpoonCourt$Court" "SpoonCourt$Court" "toldThanks" "[I") ∈ lw_all := lw_g (lw_at lw_m1 122 rfl) rfl
theorem q230 : (Jvm.Cond.soleField "SpoonCourt$Court" "toldThanks") ∈ lw_all := lw_g (lw_at lw_m1 123 rfl) rfl
theorem q231 : (Jvm.Cond.laysFinal "SpoonCourt$Court" "SpoonCourt$Court" "serves" "[I") ∈ lw_all := lw_g (lw_at lw_m1 124 rfl) rfl
theorem q232 : (Jvm.Cond.soleField "SpoonCourt$Court" "serves") ∈ lw_all := lw_g (lw_at lw_m1 125 rfl) rfl
theorem q233 : (Jvm.Cond.laysFinal "SpoonCourt$Court" "SpoonCourt$Court" "notes" "[I") ∈ lw_all := lw_g (lw_at lw_m1 126 rfl) rfl
theorem q234 : (Jvm.Cond.soleField "SpoonCourt$Court" "notes") ∈ lw_all := lw_g (lw_at lw_m1 127 rfl) rfl
theorem q235 : (Jvm.Cond.laysFinal "SpoonCourt$Court" "SpoonCourt$Court" "times" "[I") ∈ lw_all := lw_g (lw_at lw_m1 128 rfl) rfl
theorem q236 : (Jvm.Cond.soleField "SpoonCourt$Court" "times") ∈ lw_all := lw_g (lw_at lw_m1 129 rfl) rfl
theorem q237 : (Jvm.Cond.laysFinal "SpoonCourt$Court" "SpoonCourt$Court" "thanks" "[I") ∈ lw_all := lw_g (lw_at lw_m1 130 rfl) rfl
theorem q238 : (Jvm.Cond.soleField "SpoonCourt$Court" "thanks") ∈ lw_all := lw_g (lw_at lw_m1 131 rfl) rfl
theorem q239 : (Jvm.Cond.laysFinal "SpoonCourt$Court" "SpoonCourt$Court" "titles" "[I") ∈ lw_all := lw_g (lw_at lw_m1 132 rfl) rfl
theorem q240 : (Jvm.Cond.soleField "SpoonCourt$Court" "titles") ∈ lw_all := lw_g (lw_at lw_m1 133 rfl) rfl
theorem q241 : (Jvm.Cond.laysFinal "SpoonCourt$Court" "SpoonCourt$Court" "byHand" "[I") ∈ lw_all := lw_g (lw_at lw_m1 134 rfl) rfl
theorem q242 : (Jvm.Cond.soleField "SpoonCourt$Court" "byHand") ∈ lw_all := lw_g (lw_at lw_m1 135 rfl) rfl
theorem q243 : (Jvm.Cond.laysFinal "SpoonCourt$Court" "SpoonCourt$Court" "undo" "[I") ∈ lw_all := lw_g (lw_at lw_m1 136 rfl) rfl
theorem q244 : (Jvm.Cond.soleField "SpoonCourt$Court" "undo") ∈ lw_all := lw_g (lw_at lw_m1 137 rfl) rfl
theorem q245 : (Jvm.Cond.laysFinal "SpoonCourt$Court" "SpoonCourt$Court" "words" "[J") ∈ lw_all := lw_g (lw_at lw_m1 138 rfl) rfl
theorem q246 : (Jvm.Cond.soleField "SpoonCourt$Court" "words") ∈ lw_all := lw_g (lw_at lw_m1 139 rfl) rfl
theorem q247 : (Jvm.Cond.superclass "SpoonCourt$Court" "java/lang/Object") ∈ lw_all := lw_g (lw_at lw_m1 140 rfl) rfl
theorem q472 : (Jvm.Cond.instanceMethod ({ cls := "SpoonCourt$Court", name := "copies", desc := "(LSpoonCourt$Court;)LSpoonCourt$Court;" } : Jvm.MethodName)) ∈ lw_all := lw_g (lw_at lw_m2 125 rfl) rfl
theorem q473 : (Jvm.Cond.selects "SpoonCourt$Court" ({ cls := "SpoonCourt$Court", name := "copies", desc := "(LSpoonCourt$Court;)LSpoonCourt$Court;" } : Jvm.MethodName) ({ cls := "SpoonCourt$Court", name := "copies", desc := "(LSpoonCourt$Court;)LSpoonCourt$Court;" } : Jvm.MethodName)) ∈ lw_all := lw_g (lw_at lw_m2 126 rfl) rfl
theorem q474 : (Jvm.Cond.code ({ cls := "SpoonCourt$Court", name := "copies", desc := "(LSpoonCourt$Court;)LSpoonCourt$Court;" } : Jvm.MethodName) prog_5_method_2_code (2 : Nat) (Option.some (Jvm.ClassFile.FieldType.object "SpoonCourt$Court"))) ∈ lw_all := lw_g (lw_at lw_m2 127 rfl) rfl
theorem q475 : (Jvm.Cond.methodLink "SpoonCourt$Court" (71 : Nat) ({ cls := "java/lang/System", name := "arraycopy", desc := "(Ljava/lang/Object;ILjava/lang/Object;II)V" } : Jvm.MethodName)) ∈ lw_all := lw_g (lw_at lw_m2 128 rfl) rfl
theorem q478 : (Jvm.Cond.methodLink "SpoonCourt$Court" (77 : Nat) ({ cls := "SpoonCourt$Court", name := "standsAs", desc := "(LSpoonCourt$Court;)LSpoonCourt$Court;" } : Jvm.MethodName)) ∈ lw_all := lw_g (lw_at lw_m2 131 rfl) rfl
theorem q479 : (Jvm.Cond.instanceMethod ({ cls := "SpoonCourt$Court", name := "standsAs", desc := "(LSpoonCourt$Court;)LSpoonCourt$Court;" } : Jvm.MethodName)) ∈ lw_all := lw_g (lw_at lw_m2 132 rfl) rfl
theorem q480 : (Jvm.Cond.selects "SpoonCourt$Court" ({ cls := "SpoonCourt$Court", name := "standsAs", desc := "(LSpoonCourt$Court;)LSpoonCourt$Court;" } : Jvm.MethodName) ({ cls := "SpoonCourt$Court", name := "standsAs", desc := "(LSpoonCourt$Court;)LSpoonCourt$Court;" } : Jvm.MethodName)) ∈ lw_all := lw_g (lw_at lw_m2 133 rfl) rfl
theorem q481 : (Jvm.Cond.code ({ cls := "SpoonCourt$Court", name := "standsAs", desc := "(LSpoonCourt$Court;)LSpoonCourt$Court;" } : Jvm.MethodName) prog_5_method_3_code (2 : Nat) (Option.some (Jvm.ClassFile.FieldType.object "SpoonCourt$Court"))) ∈ lw_all := lw_g (lw_at lw_m2 134 rfl) rfl
theorem q594 : (Jvm.Cond.instanceMethod ({ cls := "SpoonCourt$Court", name := "begins", desc := "()V" } : Jvm.MethodName)) ∈ lw_all := lw_g (lw_at lw_m3 7 rfl) rfl
theorem q595 : (Jvm.Cond.selects "SpoonCourt$Court" ({ cls := "SpoonCourt$Court", name := "begins", desc := "()V" } : Jvm.MethodName) ({ cls := "SpoonCourt$Court", name := "begins", desc := "()V" } : Jvm.MethodName)) ∈ lw_all := lw_g (lw_at lw_m3 8 rfl) rfl
theorem q596 : (Jvm.Cond.code ({ cls := "SpoonCourt$Court", name := "begins", desc := "()V" } : Jvm.MethodName) prog_5_method_6_code (2 : Nat) (Option.none : Option Jvm.ClassFile.FieldType)) ∈ lw_all := lw_g (lw_at lw_m3 9 rfl) rfl
theorem q788 : (Jvm.Cond.instanceMethod ({ cls := "SpoonCourt$Court", name := "titled", desc := "(I)I" } : Jvm.MethodName)) ∈ lw_all := lw_g (lw_at lw_m3 201 rfl) rfl
theorem q789 : (Jvm.Cond.selects "SpoonCourt$Court" ({ cls := "SpoonCourt$Court", name := "titled", desc := "(I)I" } : Jvm.MethodName) ({ cls := "SpoonCourt$Court", name := "titled", desc := "(I)I" } : Jvm.MethodName)) ∈ lw_all := lw_g (lw_at lw_m3 202 rfl) rfl
theorem q790 : (Jvm.Cond.code ({ cls := "SpoonCourt$Court", name := "titled", desc := "(I)I" } : Jvm.MethodName) prog_5_method_9_code (4 : Nat) (Option.some Jvm.ClassFile.FieldType.int)) ∈ lw_all := lw_g (lw_at lw_m3 203 rfl) rfl
theorem q791 : (Jvm.Cond.methodLinkNest "SpoonCourt$Court" (93 : Nat) ({ cls := "SpoonCourt", name := "has", desc := "(II)Z" } : Jvm.MethodName) "SpoonCourt") ∈ lw_tbl := lw_at lw_m3 204 rfl
theorem q808 : (Jvm.Cond.instanceMethod ({ cls := "SpoonCourt$Court", name := "rankOf", desc := "(I)I" } : Jvm.MethodName)) ∈ lw_all := lw_g (lw_at lw_m3 221 rfl) rfl
theorem q809 : (Jvm.Cond.selects "SpoonCourt$Court" ({ cls := "SpoonCourt$Court", name := "rankOf", desc := "(I)I" } : Jvm.MethodName) ({ cls := "SpoonCourt$Court", name := "rankOf", desc := "(I)I" } : Jvm.MethodName)) ∈ lw_all := lw_g (lw_at lw_m3 222 rfl) rfl
theorem q810 : (Jvm.Cond.code ({ cls := "SpoonCourt$Court", name := "rankOf", desc := "(I)I" } : Jvm.MethodName) prog_5_method_7_code (4 : Nat) (Option.some Jvm.ClassFile.FieldType.int)) ∈ lw_all := lw_g (lw_at lw_m3 223 rfl) rfl
theorem q816 : (Jvm.Cond.instanceMethod ({ cls := "SpoonCourt$Court", name := "takes", desc := "(I)V" } : Jvm.MethodName)) ∈ lw_all := lw_g (lw_at lw_m3 229 rfl) rfl
theorem q817 : (Jvm.Cond.selects "SpoonCourt$Court" ({ cls := "SpoonCourt$Court", name := "takes", desc := "(I)V" } : Jvm.MethodName) ({ cls := "SpoonCourt$Court", name := "takes", desc := "(I)V" } : Jvm.MethodName)) ∈ lw_all := lw_g (lw_at lw_m3 230 rfl) rfl
theorem q818 : (Jvm.Cond.code ({ cls := "SpoonCourt$Court", name := "takes", desc := "(I)V" } : Jvm.MethodName) prog_5_method_5_code (3 : Nat) (Option.none : Option Jvm.ClassFile.FieldType)) ∈ lw_all := lw_g (lw_at lw_m3 231 rfl) rfl
theorem q829 : (Jvm.Cond.instanceMethod ({ cls := "SpoonCourt$Court", name := "lays", desc := "(I)V" } : Jvm.MethodName)) ∈ lw_all := lw_g (lw_at lw_m4 2 rfl) rfl
theorem q830 : (Jvm.Cond.selects "SpoonCourt$Court" ({ cls := "SpoonCourt$Court", name := "lays", desc := "(I)V" } : Jvm.MethodName) ({ cls := "SpoonCourt$Court", name := "lays", desc := "(I)V" } : Jvm.MethodName)) ∈ lw_all := lw_g (lw_at lw_m4 3 rfl) rfl
theorem q831 : (Jvm.Cond.code ({ cls := "SpoonCourt$Court", name := "lays", desc := "(I)V" } : Jvm.MethodName) prog_5_method_4_code (3 : Nat) (Option.none : Option Jvm.ClassFile.FieldType)) ∈ lw_all := lw_g (lw_at lw_m4 4 rfl) rfl
theorem q837 : (Jvm.Cond.instanceMethod ({ cls := "SpoonCourt$Court", name := "passes", desc := "(LSpoonCourt$Rule;)I" } : Jvm.MethodName)) ∈ lw_all := lw_g (lw_at lw_m4 10 rfl) rfl
theorem q838 : (Jvm.Cond.selects "SpoonCourt$Court" ({ cls := "SpoonCourt$Court", name := "passes", desc := "(LSpoonCourt$Rule;)I" } : Jvm.MethodName) ({ cls := "SpoonCourt$Court", name := "passes", desc := "(LSpoonCourt$Rule;)I" } : Jvm.MethodName)) ∈ lw_all := lw_g (lw_at lw_m4 11 rfl) rfl
theorem q839 : (Jvm.Cond.code ({ cls := "SpoonCourt$Court", name := "passes", desc := "(LSpoonCourt$Rule;)I" } : Jvm.MethodName) prog_5_method_15_code (4 : Nat) (Option.some Jvm.ClassFile.FieldType.int)) ∈ lw_all := lw_g (lw_at lw_m4 12 rfl) rfl
theorem q840 : (Jvm.Cond.methodLink "SpoonCourt$Court" (132 : Nat) ({ cls := "SpoonCourt$Court", name := "inHand", desc := "(LSpoonCourt$Rule;)I" } : Jvm.MethodName)) ∈ lw_all := lw_g (lw_at lw_m4 13 rfl) rfl
theorem q841 : (Jvm.Cond.instanceMethod ({ cls := "SpoonCourt$Court", name := "inHand", desc := "(LSpoonCourt$Rule;)I" } : Jvm.MethodName)) ∈ lw_all := lw_g (lw_at lw_m4 14 rfl) rfl
theorem q842 : (Jvm.Cond.selects "SpoonCourt$Court" ({ cls := "SpoonCourt$Court", name := "inHand", desc := "(LSpoonCourt$Rule;)I" } : Jvm.MethodName) ({ cls := "SpoonCourt$Court", name := "inHand", desc := "(LSpoonCourt$Rule;)I" } : Jvm.MethodName)) ∈ lw_all := lw_g (lw_at lw_m4 15 rfl) rfl
theorem q843 : (Jvm.Cond.code ({ cls := "SpoonCourt$Court", name := "inHand", desc := "(LSpoonCourt$Rule;)I" } : Jvm.MethodName) prog_5_method_13_code (8 : Nat) (Option.some Jvm.ClassFile.FieldType.int)) ∈ lw_all := lw_g (lw_at lw_m4 16 rfl) rfl
theorem q844 : (Jvm.Cond.methodLink "SpoonCourt$Court" (128 : Nat) ({ cls := "SpoonCourt$Court", name := "sumOf", desc := "(ILSpoonCourt$Rule;)J" } : Jvm.MethodName)) ∈ lw_all := lw_g (lw_at lw_m4 17 rfl) rfl
theorem q845 : (Jvm.Cond.privateMethod ({ cls := "SpoonCourt$Court", name := "sumOf", desc := "(ILSpoonCourt$Rule;)J" } : Jvm.MethodName)) ∈ lw_tbl := lw_at lw_m4 18 rfl
theorem q846 : (Jvm.Cond.instanceMethod ({ cls := "SpoonCourt$Court", name := "sumOf", desc := "(ILSpoonCourt$Rule;)J" } : Jvm.MethodName)) ∈ lw_all := lw_g (lw_at lw_m4 19 rfl) rfl
theorem q847 : (Jvm.Cond.code ({ cls := "SpoonCourt$Court", name := "sumOf", desc := "(ILSpoonCourt$Rule;)J" } : Jvm.MethodName) prog_5_method_12_code (6 : Nat) (Option.some Jvm.ClassFile.FieldType.long)) ∈ lw_all := lw_g (lw_at lw_m4 20 rfl) rfl
theorem q848 : (Jvm.Cond.methodLink "SpoonCourt$Court" (107 : Nat) ({ cls := "java/lang/Math", name := "max", desc := "(II)I" } : Jvm.MethodName)) ∈ lw_all := lw_g (lw_at lw_m4 21 rfl) rfl
theorem q851 : (Jvm.Cond.methodLink "SpoonCourt$Court" (110 : Nat) ({ cls := "SpoonCourt$Court", name := "titled", desc := "(I)I" } : Jvm.MethodName)) ∈ lw_all := lw_g (lw_at lw_m4 24 rfl) rfl
theorem q852 : (Jvm.Cond.methodLink "SpoonCourt$Court" (113 : Nat) ({ cls := "SpoonCourt$Court", name := "knights", desc := "()I" } : Jvm.MethodName)) ∈ lw_all := lw_g (lw_at lw_m4 25 rfl) rfl
theorem q853 : (Jvm.Cond.instanceMethod ({ cls := "SpoonCourt$Court", name := "knights", desc := "()I" } : Jvm.MethodName)) ∈ lw_all := lw_g (lw_at lw_m4 26 rfl) rfl
theorem q854 : (Jvm.Cond.selects "SpoonCourt$Court" ({ cls := "SpoonCourt$Court", name := "knights", desc := "()I" } : Jvm.MethodName) ({ cls := "SpoonCourt$Court", name := "knights", desc := "()I" } : Jvm.MethodName)) ∈ lw_all := lw_g (lw_at lw_m4 27 rfl) rfl
theorem q855 : (Jvm.Cond.code ({ cls := "SpoonCourt$Court", name := "knights", desc := "()I" } : Jvm.MethodName) prog_5_method_10_code (3 : Nat) (Option.some Jvm.ClassFile.FieldType.int)) ∈ lw_all := lw_g (lw_at lw_m4 28 rfl) rfl
theorem q856 : (Jvm.Cond.methodLink "SpoonCourt$Court" (117 : Nat) ({ cls := "java/lang/Integer", name := "bitCount", desc := "(I)I" } : Jvm.MethodName)) ∈ lw_all := lw_g (lw_at lw_m4 29 rfl) rfl
theorem q862 : (Jvm.Cond.methodLink "SpoonCourt$Court" (122 : Nat) ({ cls := "SpoonCourt$Rule", name := "summed", desc := "([J)J" } : Jvm.MethodName)) ∈ lw_all := lw_g (lw_at lw_m4 35 rfl) rfl
theorem q898 : (Jvm.Cond.methodLink "SpoonCourt$Court" (136 : Nat) ({ cls := "SpoonCourt$Court", name := "thanked", desc := "(II)V" } : Jvm.MethodName)) ∈ lw_all := lw_g (lw_at lw_m4 71 rfl) rfl
theorem q899 : (Jvm.Cond.instanceMethod ({ cls := "SpoonCourt$Court", name := "thanked", desc := "(II)V" } : Jvm.MethodName)) ∈ lw_all := lw_g (lw_at lw_m4 72 rfl) rfl
theorem q900 : (Jvm.Cond.selects "SpoonCourt$Court" ({ cls := "SpoonCourt$Court", name := "thanked", desc := "(II)V" } : Jvm.MethodName) ({ cls := "SpoonCourt$Court", name := "thanked", desc := "(II)V" } : Jvm.MethodName)) ∈ lw_all := lw_g (lw_at lw_m4 73 rfl) rfl
theorem q901 : (Jvm.Cond.code ({ cls := "SpoonCourt$Court", name := "thanked", desc := "(II)V" } : Jvm.MethodName) prog_5_method_11_code (3 : Nat) (Option.none : Option Jvm.ClassFile.FieldType)) ∈ lw_all := lw_g (lw_at lw_m4 74 rfl) rfl
theorem q902 : (Jvm.Cond.methodLink "SpoonCourt$Court" (101 : Nat) ({ cls := "java/lang/Math", name := "min", desc := "(II)I" } : Jvm.MethodName)) ∈ lw_all := lw_g (lw_at lw_m4 75 rfl) rfl
theorem q905 : (Jvm.Cond.methodLink "SpoonCourt$Court" (140 : Nat) ({ cls := "SpoonCourt$Court", name := "dubs", desc := "(I)V" } : Jvm.MethodName)) ∈ lw_all := lw_g (lw_at lw_m4 78 rfl) rfl
theorem q906 : (Jvm.Cond.privateMethod ({ cls := "SpoonCourt$Court", name := "dubs", desc := "(I)V" } : Jvm.MethodName)) ∈ lw_tbl := lw_at lw_m4 79 rfl
theorem q907 : (Jvm.Cond.instanceMethod ({ cls := "SpoonCourt$Court", name := "dubs", desc := "(I)V" } : Jvm.MethodName)) ∈ lw_all := lw_g (lw_at lw_m4 80 rfl) rfl
theorem q908 : (Jvm.Cond.code ({ cls := "SpoonCourt$Court", name := "dubs", desc := "(I)V" } : Jvm.MethodName) prog_5_method_14_code (2 : Nat) (Option.none : Option Jvm.ClassFile.FieldType)) ∈ lw_all := lw_g (lw_at lw_m4 81 rfl) rfl
theorem q940 : (Jvm.Cond.instanceMethod ({ cls := "SpoonCourt$Court", name := "goesOn", desc := "(ILSpoonCourt$Rule;)LSpoonCourt$Court;" } : Jvm.MethodName)) ∈ lw_all := lw_g (lw_at lw_m4 113 rfl) rfl
theorem q941 : (Jvm.Cond.selects "SpoonCourt$Court" ({ cls := "SpoonCourt$Court", name := "goesOn", desc := "(ILSpoonCourt$Rule;)LSpoonCourt$Court;" } : Jvm.MethodName) ({ cls := "SpoonCourt$Court", name := "goesOn", desc := "(ILSpoonCourt$Rule;)LSpoonCourt$Court;" } : Jvm.MethodName)) ∈ lw_all := lw_g (lw_at lw_m4 114 rfl) rfl
theorem q942 : (Jvm.Cond.code ({ cls := "SpoonCourt$Court", name := "goesOn", desc := "(ILSpoonCourt$Rule;)LSpoonCourt$Court;" } : Jvm.MethodName) prog_5_method_16_code (4 : Nat) (Option.some (Jvm.ClassFile.FieldType.object "SpoonCourt$Court"))) ∈ lw_all := lw_g (lw_at lw_m4 115 rfl) rfl
theorem q943 : (Jvm.Cond.methodLink "SpoonCourt$Court" (144 : Nat) ({ cls := "SpoonCourt$Court", name := "passes", desc := "(LSpoonCourt$Rule;)I" } : Jvm.MethodName)) ∈ lw_all := lw_g (lw_at lw_m4 116 rfl) rfl
theorem q999 : (Jvm.Cond.instanceMethod ({ cls := "SpoonCourt$Court", name := "rankAll", desc := "()I" } : Jvm.MethodName)) ∈ lw_all := lw_g (lw_at lw_m4 172 rfl) rfl
theorem q1000 : (Jvm.Cond.selects "SpoonCourt$Court" ({ cls := "SpoonCourt$Court", name := "rankAll", desc := "()I" } : Jvm.MethodName) ({ cls := "SpoonCourt$Court", name := "rankAll", desc := "()I" } : Jvm.MethodName)) ∈ lw_all := lw_g (lw_at lw_m4 173 rfl) rfl
theorem q1001 : (Jvm.Cond.code ({ cls := "SpoonCourt$Court", name := "rankAll", desc := "()I" } : Jvm.MethodName) prog_5_method_8_code (3 : Nat) (Option.some Jvm.ClassFile.FieldType.int)) ∈ lw_all := lw_g (lw_at lw_m4 174 rfl) rfl
theorem q1002 : (Jvm.Cond.methodLink "SpoonCourt$Court" (97 : Nat) ({ cls := "SpoonCourt$Court", name := "rankOf", desc := "(I)I" } : Jvm.MethodName)) ∈ lw_all := lw_g (lw_at lw_m4 175 rfl) rfl
theorem in_X1 : ∀ w ∈ wsX10, w ∈ lw_all := lw_in wsX10 [201, 203, 205, 207, 209, 211, 213, 215, 217, 219, 221, 223, 225, 227, 229, 231, 233, 235, 237, 239, 241, 243, 245] (by decide +kernel) (by decide +kernel)
-- J0.java_lang_Throwable.lean.txt
def RJ0 : String := "java/lang/Throwable"
def TJ0 : u_T := fun k => match k with
  | 0 => ("java/lang/Throwable", "cause", "Ljava/lang/Throwable;", false)
  | 1 => ("java/lang/Throwable", "stackTrace", "[Ljava/lang/StackTraceElement;", false)
  | 2 => ("java/lang/Throwable", "suppressedExceptions", "Ljava/util/List;", false)
  | 3 => ("java/lang/Throwable", "detailMessage", "Ljava/lang/String;", false)
  | _ => ("java/lang/Throwable", "backtrace", "Ljava/lang/Object;", false)
def tyJ0 : Nat → FieldType := fun k => match k with
  | 0 => .object "java/lang/Throwable"
  | 1 => .array (.object "java/lang/StackTraceElement")
  | 2 => .object "java/util/List"
  | 3 => .object "java/lang/String"
  | _ => .object "java/lang/Object"
abbrev wsJ00 : List Cond := u_ws RJ0 TJ0 5
theorem nmJ0 : ∀ a, a < 5 → ∀ b, b < 5 → a ≠ b → (TJ0 a).2.1 ≠ (TJ0 b).2.1 := by decide +kernel
theorem tyJ0_ok : ∀ k, k < 5 → parseFieldDescriptor (TJ0 k).2.2.1 = some (tyJ0 k) := by decide +kernel
abbrev cJ0_init : ByteArray := prog_26_method_1_code
def yJ0_init : MethodName := ⟨RJ0, "<init>", "()V"⟩
abbrev cJ0_init_2 : ByteArray := prog_26_method_5_code
def yJ0_init_2 : MethodName := ⟨RJ0, "<init>", "(Ljava/lang/String;Ljava/lang/Throwable;ZZ)V"⟩
theorem q110 : (Jvm.Cond.initialized "java/lang/Throwable") ∈ lw_all := lw_g (lw_at lw_m1 3 rfl) rfl
theorem q257 : (Jvm.Cond.declares ({ cls := "java/lang/Throwable", name := "<init>", desc := "()V" } : Jvm.MethodName)) ∈ lw_tbl := lw_at lw_m1 150 rfl
theorem q258 : (Jvm.Cond.declares ({ cls := "java/lang/Throwable", name := "<init>", desc := "(Ljava/lang/String;)V" } : Jvm.MethodName)) ∈ lw_tbl := lw_at lw_m1 151 rfl
theorem q262 : (Jvm.Cond.lays "java/lang/Throwable" "java/lang/Throwable" "cause" "Ljava/lang/Throwable;") ∈ lw_all := lw_g (lw_at lw_m1 155 rfl) rfl
theorem q264 : (Jvm.Cond.lays "java/lang/Throwable" "java/lang/Throwable" "stackTrace" "[Ljava/lang/StackTraceElement;") ∈ lw_all := lw_g (lw_at lw_m1 157 rfl) rfl
theorem q266 : (Jvm.Cond.lays "java/lang/Throwable" "java/lang/Throwable" "suppressedExceptions" "Ljava/util/List;") ∈ lw_all := lw_g (lw_at lw_m1 159 rfl) rfl
theorem q268 : (Jvm.Cond.lays "java/lang/Throwable" "java/lang/Throwable" "detailMessage" "Ljava/lang/String;") ∈ lw_all := lw_g (lw_at lw_m1 161 rfl) rfl
theorem q270 : (Jvm.Cond.lays "java/lang/Throwable" "java/lang/Throwable" "backtrace" "Ljava/lang/Object;") ∈ lw_all := lw_g (lw_at lw_m1 163 rfl) rfl
theorem q271 : (Jvm.Cond.fieldLink "java/lang/Throwable" (198 : Nat) "java/lang/Throwable" "backtrace" "Ljava/lang/Object;") ∈ lw_all := lw_g (lw_at lw_m1 164 rfl) rfl
theorem q272 : (Jvm.Cond.superclass "java/lang/Throwable" "java/lang/Object") ∈ lw_all := lw_g (lw_at lw_m1 165 rfl) rfl
theorem q273 : (Jvm.Cond.instanceMethod ({ cls := "java/lang/Throwable", name := "<init>", desc := "()V" } : Jvm.MethodName)) ∈ lw_all := lw_g (lw_at lw_m1 166 rfl) rfl
theorem q274 : (Jvm.Cond.code ({ cls := "java/lang/Throwable", name := "<init>", desc := "()V" } : Jvm.MethodName) prog_26_method_1_code (1 : Nat) (Option.none : Option Jvm.ClassFile.FieldType)) ∈ lw_all := lw_g (lw_at lw_m1 167 rfl) rfl
theorem q275 : (Jvm.Cond.methodLink "java/lang/Throwable" (1 : Nat) ({ cls := "java/lang/Object", name := "<init>", desc := "()V" } : Jvm.MethodName)) ∈ lw_all := lw_g (lw_at lw_m1 168 rfl) rfl
theorem q276 : (Jvm.Cond.fieldLink "java/lang/Throwable" (13 : Nat) "java/lang/Throwable" "UNASSIGNED_STACK" "[Ljava/lang/StackTraceElement;") ∈ lw_all := lw_g (lw_at lw_m1 169 rfl) rfl
theorem q277 : (Jvm.Cond.laysStatic "java/lang/Throwable" "UNASSIGNED_STACK" "[Ljava/lang/StackTraceElement;") ∈ lw_tbl := lw_at lw_m1 170 rfl
theorem q278 : (Jvm.Cond.fieldLink "java/lang/Throwable" (20 : Nat) "java/lang/Throwable" "SUPPRESSED_SENTINEL" "Ljava/util/List;") ∈ lw_all := lw_g (lw_at lw_m1 171 rfl) rfl
theorem q279 : (Jvm.Cond.laysStatic "java/lang/Throwable" "SUPPRESSED_SENTINEL" "Ljava/util/List;") ∈ lw_tbl := lw_at lw_m1 172 rfl
theorem q280 : (Jvm.Cond.methodLink "java/lang/Throwable" (27 : Nat) ({ cls := "java/lang/Throwable", name := "fillInStackTrace", desc := "()Ljava/lang/Throwable;" } : Jvm.MethodName)) ∈ lw_all := lw_g (lw_at lw_m1 173 rfl) rfl
theorem q281 : (Jvm.Cond.instanceMethod ({ cls := "java/lang/Throwable", name := "fillInStackTrace", desc := "()Ljava/lang/Throwable;" } : Jvm.MethodName)) ∈ lw_all := lw_g (lw_at lw_m1 174 rfl) rfl
theorem q282 : (Jvm.Cond.sameMethod "java/lang/Throwable" "java/lang/Throwable" "fillInStackTrace" "()Ljava/lang/Throwable;") ∈ lw_all := lw_g (lw_at lw_m1 175 rfl) rfl
theorem q283 : (Jvm.Cond.codeSync ({ cls := "java/lang/Throwable", name := "fillInStackTrace", desc := "()Ljava/lang/Throwable;" } : Jvm.MethodName) prog_26_method_18_code (1 : Nat) (Option.some (Jvm.ClassFile.FieldType.object "java/lang/Throwable"))) ∈ lw_all := lw_g (lw_at lw_m1 176 rfl) rfl
theorem q284 : (Jvm.Cond.methodLink "java/lang/Throwable" (202 : Nat) ({ cls := "java/lang/Throwable", name := "fillInStackTrace", desc := "(I)Ljava/lang/Throwable;" } : Jvm.MethodName)) ∈ lw_all := lw_g (lw_at lw_m1 177 rfl) rfl
theorem q285 : (Jvm.Cond.privateMethod ({ cls := "java/lang/Throwable", name := "fillInStackTrace", desc := "(I)Ljava/lang/Throwable;" } : Jvm.MethodName)) ∈ lw_tbl := lw_at lw_m1 178 rfl
theorem q286 : (Jvm.Cond.instanceMethod ({ cls := "java/lang/Throwable", name := "fillInStackTrace", desc := "(I)Ljava/lang/Throwable;" } : Jvm.MethodName)) ∈ lw_all := lw_g (lw_at lw_m1 179 rfl) rfl
theorem q287 : (Jvm.Cond.instantiable "java/lang/Throwable" (6 : Nat)) ∈ lw_all := lw_g (lw_at lw_m1 180 rfl) rfl
theorem q288 : (Jvm.Cond.native ({ cls := "java/lang/Throwable", name := "fillInStackTrace", desc := "(I)Ljava/lang/Throwable;" } : Jvm.MethodName)) ∈ lw_all := lw_g (lw_at lw_m1 181 rfl) rfl
theorem q300 : (Jvm.Cond.instanceMethod ({ cls := "java/lang/Throwable", name := "<init>", desc := "(Ljava/lang/String;Ljava/lang/Throwable;ZZ)V" } : Jvm.MethodName)) ∈ lw_all := lw_g (lw_at lw_m1 193 rfl) rfl
theorem q301 : (Jvm.Cond.code ({ cls := "java/lang/Throwable", name := "<init>", desc := "(Ljava/lang/String;Ljava/lang/Throwable;ZZ)V" } : Jvm.MethodName) prog_26_method_5_code (5 : Nat) (Option.none : Option Jvm.ClassFile.FieldType)) ∈ lw_all := lw_g (lw_at lw_m1 194 rfl) rfl
theorem q306 : (Jvm.Cond.fieldLink "java/lang/Throwable" (198 : Nat) "java/lang/Throwable" "backtrace" "Ljava/lang/Object;") ∈ lw_all := lw_g (lw_at lw_m1 199 rfl) rfl
theorem q307 : (Jvm.Cond.fieldLink "java/lang/Throwable" (31 : Nat) "java/lang/Throwable" "detailMessage" "Ljava/lang/String;") ∈ lw_all := lw_g (lw_at lw_m1 200 rfl) rfl
theorem q308 : (Jvm.Cond.fieldLink "java/lang/Throwable" (7 : Nat) "java/lang/Throwable" "cause" "Ljava/lang/Throwable;") ∈ lw_all := lw_g (lw_at lw_m1 201 rfl) rfl
theorem q309 : (Jvm.Cond.fieldLink "java/lang/Throwable" (17 : Nat) "java/lang/Throwable" "stackTrace" "[Ljava/lang/StackTraceElement;") ∈ lw_all := lw_g (lw_at lw_m1 202 rfl) rfl
theorem q310 : (Jvm.Cond.fieldLink "java/lang/Throwable" (24 : Nat) "java/lang/Throwable" "suppressedExceptions" "Ljava/util/List;") ∈ lw_all := lw_g (lw_at lw_m1 203 rfl) rfl
theorem q315 : (Jvm.Cond.soleField "java/lang/Throwable" "backtrace") ∈ lw_all := lw_g (lw_at lw_m1 208 rfl) rfl
theorem q316 : (Jvm.Cond.soleField "java/lang/Throwable" "detailMessage") ∈ lw_all := lw_g (lw_at lw_m1 209 rfl) rfl
theorem q317 : (Jvm.Cond.soleField "java/lang/Throwable" "cause") ∈ lw_all := lw_g (lw_at lw_m1 210 rfl) rfl
theorem q318 : (Jvm.Cond.soleField "java/lang/Throwable" "stackTrace") ∈ lw_all := lw_g (lw_at lw_m1 211 rfl) rfl
theorem q320 : (Jvm.Cond.soleField "java/lang/Throwable" "depth") ∈ lw_all := lw_g (lw_at lw_m1 213 rfl) rfl
theorem q321 : (Jvm.Cond.soleField "java/lang/Throwable" "suppressedExceptions") ∈ lw_all := lw_g (lw_at lw_m1 214 rfl) rfl
theorem q1716 : (Jvm.Cond.sameMethod "java/lang/Throwable" "java/lang/Throwable" "fillInStackTrace" "(I)Ljava/lang/Throwable;") ∈ lw_all := lw_g (lw_at lw_m7 169 rfl) rfl
theorem in_J0 : ∀ w ∈ wsJ00, w ∈ lw_all := lw_in wsJ00 [262, 264, 266, 268, 270] (by decide +kernel) (by decide +kernel)
-- J1.java_lang_Exception.lean.txt
def RJ1 : String := "java/lang/Exception"
abbrev cJ1_init : ByteArray := prog_18_method_5_code
def yJ1_init : MethodName := ⟨RJ1, "<init>", "(Ljava/lang/String;Ljava/lang/Throwable;ZZ)V"⟩
theorem q111 : (Jvm.Cond.initialized "java/lang/Exception") ∈ lw_all := lw_g (lw_at lw_m1 4 rfl) rfl
theorem q255 : (Jvm.Cond.declares ({ cls := "java/lang/Exception", name := "<init>", desc := "()V" } : Jvm.MethodName)) ∈ lw_tbl := lw_at lw_m1 148 rfl
theorem q256 : (Jvm.Cond.declares ({ cls := "java/lang/Exception", name := "<init>", desc := "(Ljava/lang/String;)V" } : Jvm.MethodName)) ∈ lw_tbl := lw_at lw_m1 149 rfl
theorem q297 : (Jvm.Cond.instanceMethod ({ cls := "java/lang/Exception", name := "<init>", desc := "(Ljava/lang/String;Ljava/lang/Throwable;ZZ)V" } : Jvm.MethodName)) ∈ lw_all := lw_g (lw_at lw_m1 190 rfl) rfl
theorem q298 : (Jvm.Cond.code ({ cls := "java/lang/Exception", name := "<init>", desc := "(Ljava/lang/String;Ljava/lang/Throwable;ZZ)V" } : Jvm.MethodName) prog_18_method_5_code (5 : Nat) (Option.none : Option Jvm.ClassFile.FieldType)) ∈ lw_all := lw_g (lw_at lw_m1 191 rfl) rfl
theorem q299 : (Jvm.Cond.methodLink "java/lang/Exception" (16 : Nat) ({ cls := "java/lang/Throwable", name := "<init>", desc := "(Ljava/lang/String;Ljava/lang/Throwable;ZZ)V" } : Jvm.MethodName)) ∈ lw_all := lw_g (lw_at lw_m1 192 rfl) rfl
-- J2.java_lang_RuntimeException.lean.txt
def RJ2 : String := "java/lang/RuntimeException"
abbrev cJ2_init : ByteArray := prog_21_method_5_code
def yJ2_init : MethodName := ⟨RJ2, "<init>", "(Ljava/lang/String;Ljava/lang/Throwable;ZZ)V"⟩
theorem q112 : (Jvm.Cond.initialized "java/lang/RuntimeException") ∈ lw_all := lw_g (lw_at lw_m1 5 rfl) rfl
theorem q253 : (Jvm.Cond.declares ({ cls := "java/lang/RuntimeException", name := "<init>", desc := "()V" } : Jvm.MethodName)) ∈ lw_tbl := lw_at lw_m1 146 rfl
theorem q254 : (Jvm.Cond.declares ({ cls := "java/lang/RuntimeException", name := "<init>", desc := "(Ljava/lang/String;)V" } : Jvm.MethodName)) ∈ lw_tbl := lw_at lw_m1 147 rfl
theorem q294 : (Jvm.Cond.instanceMethod ({ cls := "java/lang/RuntimeException", name := "<init>", desc := "(Ljava/lang/String;Ljava/lang/Throwable;ZZ)V" } : Jvm.MethodName)) ∈ lw_all := lw_g (lw_at lw_m1 187 rfl) rfl
theorem q295 : (Jvm.Cond.code ({ cls := "java/lang/RuntimeException", name := "<init>", desc := "(Ljava/lang/String;Ljava/lang/Throwable;ZZ)V" } : Jvm.MethodName) prog_21_method_5_code (5 : Nat) (Option.none : Option Jvm.ClassFile.FieldType)) ∈ lw_all := lw_g (lw_at lw_m1 188 rfl) rfl
theorem q296 : (Jvm.Cond.methodLink "java/lang/RuntimeException" (16 : Nat) ({ cls := "java/lang/Exception", name := "<init>", desc := "(Ljava/lang/String;Ljava/lang/Throwable;ZZ)V" } : Jvm.MethodName)) ∈ lw_all := lw_g (lw_at lw_m1 189 rfl) rfl
-- X2.SpoonCourt_Fault.lean.txt
def RX2 : String := "SpoonCourt$Fault"
def TX2 : u_T := fun k => match k with
  | 0 => ("java/lang/Throwable", "cause", "Ljava/lang/Throwable;", false)
  | 1 => ("java/lang/Throwable", "stackTrace", "[Ljava/lang/StackTraceElement;", false)
  | 2 => ("java/lang/Throwable", "suppressedExceptions", "Ljava/util/List;", false)
  | 3 => ("java/lang/Throwable", "detailMessage", "Ljava/lang/String;", false)
  | 4 => ("java/lang/Throwable", "backtrace", "Ljava/lang/Object;", false)
  | 5 => ("java/lang/Throwable", "depth", "I", false)
  | 6 => ("SpoonCourt$Fault", "kind", "I", false)
  | _ => ("SpoonCourt$Fault", "place", "I", false)
def tyX2 : Nat → FieldType := fun k => match k with
  | 0 => .object "java/lang/Throwable"
  | 1 => .array (.object "java/lang/StackTraceElement")
  | 2 => .object "java/util/List"
  | 3 => .object "java/lang/String"
  | 4 => .object "java/lang/Object"
  | 5 => .int
  | 6 => .int
  | _ => .int
abbrev wsX20 : List Cond := u_ws RX2 TX2 8
theorem nmX2 : ∀ a, a < 8 → ∀ b, b < 8 → a ≠ b → (TX2 a).2.1 ≠ (TX2 b).2.1 := by decide +kernel
theorem tyX2_ok : ∀ k, k < 8 → parseFieldDescriptor (TX2 k).2.2.1 = some (tyX2 k) := by decide +kernel
abbrev cX2_init : ByteArray := prog_6_method_1_code
def yX2_init : MethodName := ⟨RX2, "<init>", "()V"⟩
theorem q113 : (Jvm.Cond.initialized "SpoonCourt$Fault") ∈ lw_all := lw_g (lw_at lw_m1 6 rfl) rfl
theorem q251 : (Jvm.Cond.instantiable "SpoonCourt$Fault" (8 : Nat)) ∈ lw_all := lw_g (lw_at lw_m1 144 rfl) rfl
theorem q252 : (Jvm.Cond.castable "SpoonCourt$Fault" "SpoonCourt$Fault") ∈ lw_tbl := lw_at lw_m1 145 rfl
theorem q259 : (Jvm.Cond.selects "SpoonCourt$Fault" ({ cls := "java/lang/Throwable", name := "fillInStackTrace", desc := "(I)Ljava/lang/Throwable;" } : Jvm.MethodName) ({ cls := "java/lang/Throwable", name := "fillInStackTrace", desc := "(I)Ljava/lang/Throwable;" } : Jvm.MethodName)) ∈ lw_all := lw_g (lw_at lw_m1 152 rfl) rfl
theorem q260 : (Jvm.Cond.selects "SpoonCourt$Fault" ({ cls := "java/lang/Throwable", name := "fillInStackTrace", desc := "()Ljava/lang/Throwable;" } : Jvm.MethodName) ({ cls := "java/lang/Throwable", name := "fillInStackTrace", desc := "()Ljava/lang/Throwable;" } : Jvm.MethodName)) ∈ lw_all := lw_g (lw_at lw_m1 153 rfl) rfl
theorem q261 : (Jvm.Cond.lays "SpoonCourt$Fault" "java/lang/Throwable" "cause" "Ljava/lang/Throwable;") ∈ lw_all := lw_g (lw_at lw_m1 154 rfl) rfl
theorem q263 : (Jvm.Cond.lays "SpoonCourt$Fault" "java/lang/Throwable" "stackTrace" "[Ljava/lang/StackTraceElement;") ∈ lw_all := lw_g (lw_at lw_m1 156 rfl) rfl
theorem q265 : (Jvm.Cond.lays "SpoonCourt$Fault" "java/lang/Throwable" "suppressedExceptions" "Ljava/util/List;") ∈ lw_all := lw_g (lw_at lw_m1 158 rfl) rfl
theorem q267 : (Jvm.Cond.lays "SpoonCourt$Fault" "java/lang/Throwable" "detailMessage" "Ljava/lang/String;") ∈ lw_all := lw_g (lw_at lw_m1 160 rfl) rfl
theorem q269 : (Jvm.Cond.lays "SpoonCourt$Fault" "java/lang/Throwable" "backtrace" "Ljava/lang/Object;") ∈ lw_all := lw_g (lw_at lw_m1 162 rfl) rfl
theorem q290 : (Jvm.Cond.instanceMethod ({ cls := "SpoonCourt$Fault", name := "<init>", desc := "()V" } : Jvm.MethodName)) ∈ lw_all := lw_g (lw_at lw_m1 183 rfl) rfl
theorem q291 : (Jvm.Cond.code ({ cls := "SpoonCourt$Fault", name := "<init>", desc := "()V" } : Jvm.MethodName) prog_6_method_1_code (1 : Nat) (Option.none : Option Jvm.ClassFile.FieldType)) ∈ lw_all := lw_g (lw_at lw_m1 184 rfl) rfl
theorem q292 : (Jvm.Cond.stringRef "SpoonCourt$Fault" (1 : Nat) "fault") ∈ lw_tbl := lw_at lw_m1 185 rfl
theorem q293 : (Jvm.Cond.methodLink "SpoonCourt$Fault" (3 : Nat) ({ cls := "java/lang/RuntimeException", name := "<init>", desc := "(Ljava/lang/String;Ljava/lang/Throwable;ZZ)V" } : Jvm.MethodName)) ∈ lw_all := lw_g (lw_at lw_m1 186 rfl) rfl
theorem q311 : (Jvm.Cond.lays "SpoonCourt$Fault" "SpoonCourt$Fault" "kind" "I") ∈ lw_all := lw_g (lw_at lw_m1 204 rfl) rfl
theorem q312 : (Jvm.Cond.soleField "SpoonCourt$Fault" "kind") ∈ lw_all := lw_g (lw_at lw_m1 205 rfl) rfl
theorem q313 : (Jvm.Cond.lays "SpoonCourt$Fault" "SpoonCourt$Fault" "place" "I") ∈ lw_all := lw_g (lw_at lw_m1 206 rfl) rfl
theorem q314 : (Jvm.Cond.soleField "SpoonCourt$Fault" "place") ∈ lw_all := lw_g (lw_at lw_m1 207 rfl) rfl
theorem q319 : (Jvm.Cond.lays "SpoonCourt$Fault" "java/lang/Throwable" "depth" "I") ∈ lw_all := lw_g (lw_at lw_m1 212 rfl) rfl
theorem q322 : (Jvm.Cond.superclass "SpoonCourt$Fault" "java/lang/RuntimeException") ∈ lw_all := lw_g (lw_at lw_m1 215 rfl) rfl
theorem in_X2 : ∀ w ∈ wsX20, w ∈ lw_all := lw_in wsX20 [261, 263, 265, 267, 269, 319, 311, 313] (by decide +kernel) (by decide +kernel)
-- X3.SpoonCourtModel.lean.txt
def RX3 : String := "SpoonCourtModel"
def TX3 : u_T := fun k => match k with
  | 0 => ("SpoonCourtModel", "thrown", "I", false)
  | 1 => ("SpoonCourtModel", "scalar", "[I", true)
  | 2 => ("SpoonCourtModel", "rank", "[I", true)
  | 3 => ("SpoonCourtModel", "quarrels", "[I", true)
  | 4 => ("SpoonCourtModel", "times", "[I", true)
  | 5 => ("SpoonCourtModel", "told", "[I", true)
  | 6 => ("SpoonCourtModel", "thanks", "[I", true)
  | 7 => ("SpoonCourtModel", "serves", "[I", true)
  | 8 => ("SpoonCourtModel", "titles", "[I", true)
  | 9 => ("SpoonCourtModel", "byHand", "[I", true)
  | 10 => ("SpoonCourtModel", "noteHour", "[I", true)
  | 11 => ("SpoonCourtModel", "noteThing", "[I", true)
  | 12 => ("SpoonCourtModel", "toldThanks", "[I", true)
  | 13 => ("SpoonCourtModel", "newScalar", "[I", true)
  | 14 => ("SpoonCourtModel", "newRank", "[I", true)
  | 15 => ("SpoonCourtModel", "newQuarrels", "[I", true)
  | 16 => ("SpoonCourtModel", "newTold", "[I", true)
  | 17 => ("SpoonCourtModel", "newThanks", "[I", true)
  | 18 => ("SpoonCourtModel", "newServes", "[I", true)
  | 19 => ("SpoonCourtModel", "taped", "I", false)
  | 20 => ("SpoonCourtModel", "p", "I", false)
  | 21 => ("SpoonCourtModel", "fault", "I", false)
  | 22 => ("SpoonCourtModel", "slot", "I", false)
  | 23 => ("SpoonCourtModel", "rules", "I", false)
  | 24 => ("SpoonCourtModel", "entries", "I", false)
  | 25 => ("SpoonCourtModel", "deep", "I", false)
  | 26 => ("SpoonCourtModel", "counted", "I", false)
  | 27 => ("SpoonCourtModel", "opened", "I", false)
  | 28 => ("SpoonCourtModel", "words", "I", false)
  | 29 => ("SpoonCourtModel", "tape", "[B", true)
  | 30 => ("SpoonCourtModel", "sort", "[I", true)
  | 31 => ("SpoonCourtModel", "number", "[I", true)
  | 32 => ("SpoonCourtModel", "clauses", "[I", true)
  | 33 => ("SpoonCourtModel", "sumAt", "[I", true)
  | 34 => ("SpoonCourtModel", "testAt", "[I", true)
  | 35 => ("SpoonCourtModel", "endAt", "[I", true)
  | 36 => ("SpoonCourtModel", "open", "[I", true)
  | 37 => ("SpoonCourtModel", "asked", "[J", true)
  | 38 => ("SpoonCourtModel", "stack", "[J", true)
  | 39 => ("SpoonCourtModel", "past", "[I", true)
  | 40 => ("SpoonCourtModel", "pastOf", "[I", true)
  | 41 => ("SpoonCourtModel", "pastMany", "I", false)
  | 42 => ("SpoonCourtModel", "pastAt", "I", false)
  | 43 => ("SpoonCourtModel", "takesBack", "Z", false)
  | 44 => ("SpoonCourtModel", "heldOf", "[I", true)
  | 45 => ("SpoonCourtModel", "firstHas", "[I", true)
  | 46 => ("SpoonCourtModel", "secondHas", "[I", true)
  | 47 => ("SpoonCourtModel", "course", "[I", true)
  | 48 => ("SpoonCourtModel", "shows", "[I", true)
  | 49 => ("SpoonCourtModel", "images", "[I", true)
  | 50 => ("SpoonCourtModel", "isMade", "[Z", true)
  | 51 => ("SpoonCourtModel", "imageAt", "I", false)
  | _ => ("SpoonCourtModel", "goesBack", "Z", false)
def tyX3 : Nat → FieldType := fun k => match k with
  | 0 => .int
  | 1 => .array .int
  | 2 => .array .int
  | 3 => .array .int
  | 4 => .array .int
  | 5 => .array .int
  | 6 => .array .int
  | 7 => .array .int
  | 8 => .array .int
  | 9 => .array .int
  | 10 => .array .int
  | 11 => .array .int
  | 12 => .array .int
  | 13 => .array .int
  | 14 => .array .int
  | 15 => .array .int
  | 16 => .array .int
  | 17 => .array .int
  | 18 => .array .int
  | 19 => .int
  | 20 => .int
  | 21 => .int
  | 22 => .int
  | 23 => .int
  | 24 => .int
  | 25 => .int
  | 26 => .int
  | 27 => .int
  | 28 => .int
  | 29 => .array .byte
  | 30 => .array .int
  | 31 => .array .int
  | 32 => .array .int
  | 33 => .array .int
  | 34 => .array .int
  | 35 => .array .int
  | 36 => .array .int
  | 37 => .array .long
  | 38 => .array .long
  | 39 => .array .int
  | 40 => .array .int
  | 41 => .int
  | 42 => .int
  | 43 => .boolean
  | 44 => .array .int
  | 45 => .array .int
  | 46 => .array .int
  | 47 => .array .int
  | 48 => .array .int
  | 49 => .array .int
  | 50 => .array .boolean
  | 51 => .int
  | _ => .boolean
abbrev wsX30 : List Cond := u_ws RX3 TX3 53
set_option maxRecDepth 100000 in
theorem nmX3 : ∀ a, a < 53 → ∀ b, b < 53 → a ≠ b → (TX3 a).2.1 ≠ (TX3 b).2.1 := by decide +kernel
set_option maxRecDepth 100000 in
theorem tyX3_ok : ∀ k, k < 53 → parseFieldDescriptor (TX3 k).2.2.1 = some (tyX3 k) := by decide +kernel
abbrev cX3_init : ByteArray := prog_17_method_1_code
def yX3_init : MethodName := ⟨RX3, "<init>", "()V"⟩
abbrev cX3_feed : ByteArray := prog_17_method_9_code
def yX3_feed : MethodName := ⟨RX3, "feed", "(IIIII)I"⟩
abbrev cX3_put : ByteArray := prog_17_method_10_code
def yX3_put : MethodName := ⟨RX3, "put", "(I)V"⟩
abbrev cX3_end : ByteArray := prog_17_method_11_code
def yX3_end : MethodName := ⟨RX3, "end", "(I)I"⟩
abbrev cX3_court : ByteArray := prog_17_method_42_code
def yX3_court : MethodName := ⟨RX3, "court", "()I"⟩
abbrev cX3_readsAll : ByteArray := prog_17_method_40_code
def yX3_readsAll : MethodName := ⟨RX3, "readsAll", "()V"⟩
abbrev cX3_starts : ByteArray := prog_17_method_39_code
def yX3_starts : MethodName := ⟨RX3, "starts", "()V"⟩
abbrev cX3_courtClause : ByteArray := prog_17_method_36_code
def yX3_courtClause : MethodName := ⟨RX3, "courtClause", "(I)V"⟩
abbrev cX3_blanks : ByteArray := prog_17_method_15_code
def yX3_blanks : MethodName := ⟨RX3, "blanks", "()V"⟩
abbrev cX3_sign : ByteArray := prog_17_method_14_code
def yX3_sign : MethodName := ⟨RX3, "sign", "()I"⟩
abbrev cX3_courtWord : ByteArray := prog_17_method_32_code
def yX3_courtWord : MethodName := ⟨RX3, "courtWord", "(I)Ljava/lang/String;"⟩
abbrev cX3_stood : ByteArray := prog_17_method_17_code
def yX3_stood : MethodName := ⟨RX3, "stood", "(Ljava/lang/String;)Z"⟩
abbrev cX3_fails : ByteArray := prog_17_method_13_code
def yX3_fails : MethodName := ⟨RX3, "fails", "(II)V"⟩
abbrev cX3_isFull : ByteArray := prog_17_method_35_code
def yX3_isFull : MethodName := ⟨RX3, "isFull", "(II)Z"⟩
abbrev cX3_courtPart : ByteArray := prog_17_method_34_code
def yX3_courtPart : MethodName := ⟨RX3, "courtPart", "(I)V"⟩
abbrev cX3_amount : ByteArray := prog_17_method_31_code
def yX3_amount : MethodName := ⟨RX3, "amount", "(II)I"⟩
abbrev cX3_digits : ByteArray := prog_17_method_21_code
def yX3_digits : MethodName := ⟨RX3, "digits", "(I)I"⟩
abbrev cX3_isDigit : ByteArray := prog_17_method_16_code
def yX3_isDigit : MethodName := ⟨RX3, "isDigit", "()Z"⟩
abbrev cX3_in : ByteArray := prog_17_method_3_code
def yX3_in : MethodName := ⟨RX3, "in", "(JJJ)Z"⟩
abbrev cX3_quarrelPart : ByteArray := prog_17_method_33_code
def yX3_quarrelPart : MethodName := ⟨RX3, "quarrelPart", "()V"⟩
abbrev cX3_goesOn : ByteArray := prog_17_method_38_code
def yX3_goesOn : MethodName := ⟨RX3, "goesOn", "()Z"⟩
abbrev cX3_copies : ByteArray := prog_17_method_37_code
def yX3_copies : MethodName := ⟨RX3, "copies", "([I[I)V"⟩
abbrev cX3_begins : ByteArray := prog_17_method_41_code
def yX3_begins : MethodName := ⟨RX3, "begins", "()V"⟩
abbrev cX3_rule : ByteArray := prog_17_method_44_code
def yX3_rule : MethodName := ⟨RX3, "rule", "()I"⟩
abbrev cX3_ruleClause : ByteArray := prog_17_method_43_code
def yX3_ruleClause : MethodName := ⟨RX3, "ruleClause", "(I)V"⟩
abbrev cX3_sum : ByteArray := prog_17_method_24_code
def yX3_sum : MethodName := ⟨RX3, "sum", "()V"⟩
abbrev cX3_term : ByteArray := prog_17_method_23_code
def yX3_term : MethodName := ⟨RX3, "term", "()V"⟩
abbrev cX3_value : ByteArray := prog_17_method_22_code
def yX3_value : MethodName := ⟨RX3, "value", "()V"⟩
abbrev cX3_isCounted : ByteArray := prog_17_method_20_code
def yX3_isCounted : MethodName := ⟨RX3, "isCounted", "(I)V"⟩
abbrev cX3_entry : ByteArray := prog_17_method_19_code
def yX3_entry : MethodName := ⟨RX3, "entry", "(II)V"⟩
abbrev cX3_wordOf : ByteArray := prog_17_method_12_code
def yX3_wordOf : MethodName := ⟨RX3, "wordOf", "(I)Ljava/lang/String;"⟩
abbrev cX3_takes : ByteArray := prog_17_method_18_code
def yX3_takes : MethodName := ⟨RX3, "takes", "(Ljava/lang/String;)Z"⟩
abbrev cX3_test : ByteArray := prog_17_method_30_code
def yX3_test : MethodName := ⟨RX3, "test", "()V"⟩
abbrev cX3_fact : ByteArray := prog_17_method_29_code
def yX3_fact : MethodName := ⟨RX3, "fact", "()Z"⟩
abbrev cX3_opens : ByteArray := prog_17_method_27_code
def yX3_opens : MethodName := ⟨RX3, "opens", "(I)V"⟩
abbrev cX3_compared : ByteArray := prog_17_method_25_code
def yX3_compared : MethodName := ⟨RX3, "compared", "()V"⟩
abbrev cX3_answers : ByteArray := prog_17_method_28_code
def yX3_answers : MethodName := ⟨RX3, "answers", "(I)V"⟩
abbrev cX3_top : ByteArray := prog_17_method_26_code
def yX3_top : MethodName := ⟨RX3, "top", "()I"⟩
abbrev cX3_force : ByteArray := prog_17_method_45_code
def yX3_force : MethodName := ⟨RX3, "force", "(I)I"⟩
abbrev cX3_thing : ByteArray := prog_17_method_51_code
def yX3_thing : MethodName := ⟨RX3, "thing", "(II)I"⟩
abbrev cX3_isThing : ByteArray := prog_17_method_7_code
def yX3_isThing : MethodName := ⟨RX3, "isThing", "(I)Z"⟩
abbrev cX3_knightsOf : ByteArray := prog_17_method_50_code
def yX3_knightsOf : MethodName := ⟨RX3, "knightsOf", "(I)I"⟩
abbrev cX3_usual : ByteArray := prog_17_method_52_code
def yX3_usual : MethodName := ⟨RX3, "usual", "(I)I"⟩
abbrev cX3_isCourt : ByteArray := prog_17_method_6_code
def yX3_isCourt : MethodName := ⟨RX3, "isCourt", "()Z"⟩
abbrev cX3_person : ByteArray := prog_17_method_54_code
def yX3_person : MethodName := ⟨RX3, "person", "(II)I"⟩
abbrev cX3_isPerson : ByteArray := prog_17_method_8_code
def yX3_isPerson : MethodName := ⟨RX3, "isPerson", "(I)Z"⟩
abbrev cX3_rankOf : ByteArray := prog_17_method_53_code
def yX3_rankOf : MethodName := ⟨RX3, "rankOf", "(I)I"⟩
abbrev cX3_has : ByteArray := prog_17_method_5_code
def yX3_has : MethodName := ⟨RX3, "has", "(II)Z"⟩
abbrev cX3_undo : ByteArray := prog_17_method_65_code
def yX3_undo : MethodName := ⟨RX3, "undo", "()I"⟩
abbrev cX3_movesAll : ByteArray := prog_17_method_63_code
def yX3_movesAll : MethodName := ⟨RX3, "movesAll", "(IZ)V"⟩
abbrev cX3_moves : ByteArray := prog_17_method_61_code
def yX3_moves : MethodName := ⟨RX3, "moves", "(I)I"⟩
abbrev cX3_movesRow : ByteArray := prog_17_method_62_code
def yX3_movesRow : MethodName := ⟨RX3, "movesRow", "([I)V"⟩
abbrev cX3_hour : ByteArray := prog_17_method_66_code
def yX3_hour : MethodName := ⟨RX3, "hour", "()I"⟩
abbrev cX3_keepsAct : ByteArray := prog_17_method_64_code
def yX3_keepsAct : MethodName := ⟨RX3, "keepsAct", "()V"⟩
abbrev cX3_goes : ByteArray := prog_17_method_59_code
def yX3_goes : MethodName := ⟨RX3, "goes", "()I"⟩
abbrev cX3_holds : ByteArray := prog_17_method_57_code
def yX3_holds : MethodName := ⟨RX3, "holds", "()I"⟩
abbrev cX3_sumOf : ByteArray := prog_17_method_56_code
def yX3_sumOf : MethodName := ⟨RX3, "sumOf", "(I)J"⟩
abbrev cX3_knights : ByteArray := prog_17_method_55_code
def yX3_knights : MethodName := ⟨RX3, "knights", "()I"⟩
abbrev cX3_bits : ByteArray := prog_17_method_4_code
def yX3_bits : MethodName := ⟨RX3, "bits", "(I)I"⟩
abbrev cX3_wanted : ByteArray := prog_17_method_46_code
def yX3_wanted : MethodName := ⟨RX3, "wanted", "()J"⟩
abbrev cX3_answer : ByteArray := prog_17_method_49_code
def yX3_answer : MethodName := ⟨RX3, "answer", "(III)J"⟩
abbrev cX3_both : ByteArray := prog_17_method_48_code
def yX3_both : MethodName := ⟨RX3, "both", "(IJJ)J"⟩
abbrev cX3_truth : ByteArray := prog_17_method_47_code
def yX3_truth : MethodName := ⟨RX3, "truth", "(Z)J"⟩
abbrev cX3_upTo : ByteArray := prog_17_method_58_code
def yX3_upTo : MethodName := ⟨RX3, "upTo", "(II)I"⟩
abbrev cX3_deed : ByteArray := prog_17_method_67_code
def yX3_deed : MethodName := ⟨RX3, "deed", "(II)I"⟩
abbrev cX3_slight : ByteArray := prog_17_method_68_code
def yX3_slight : MethodName := ⟨RX3, "slight", "(II)I"⟩
abbrev cX3_tray : ByteArray := prog_17_method_69_code
def yX3_tray : MethodName := ⟨RX3, "tray", "(I)I"⟩
abbrev cX3_gloves : ByteArray := prog_17_method_70_code
def yX3_gloves : MethodName := ⟨RX3, "gloves", "(I)I"⟩
abbrev cX3_strip : ByteArray := prog_17_method_71_code
def yX3_strip : MethodName := ⟨RX3, "strip", "(II)I"⟩
abbrev cX3_ahead : ByteArray := prog_17_method_74_code
def yX3_ahead : MethodName := ⟨RX3, "ahead", "(III)I"⟩
abbrev cX3_keepsAll : ByteArray := prog_17_method_72_code
def yX3_keepsAll : MethodName := ⟨RX3, "keepsAll", "()V"⟩
abbrev cX3_carriesAll : ByteArray := prog_17_method_103_code
def yX3_carriesAll : MethodName := ⟨RX3, "carriesAll", "(IZ)V"⟩
abbrev cX3_carryRow : ByteArray := prog_17_method_102_code
def yX3_carryRow : MethodName := ⟨RX3, "carryRow", "([I)V"⟩
abbrev cX3_goFor : ByteArray := prog_17_method_60_code
def yX3_goFor : MethodName := ⟨RX3, "goFor", "(I)V"⟩
abbrev cX3_laysBack : ByteArray := prog_17_method_73_code
def yX3_laysBack : MethodName := ⟨RX3, "laysBack", "()V"⟩
abbrev cX3_dubbed : ByteArray := prog_17_method_75_code
def yX3_dubbed : MethodName := ⟨RX3, "dubbed", "(II)I"⟩
abbrev cX3_least : ByteArray := prog_17_method_76_code
def yX3_least : MethodName := ⟨RX3, "least", "(III)I"⟩
abbrev cX3_spare : ByteArray := prog_17_method_78_code
def yX3_spare : MethodName := ⟨RX3, "spare", "(III)I"⟩
abbrev cX3_isSpared : ByteArray := prog_17_method_77_code
def yX3_isSpared : MethodName := ⟨RX3, "isSpared", "(III)Z"⟩
abbrev cX3_lay : ByteArray := prog_17_method_79_code
def yX3_lay : MethodName := ⟨RX3, "lay", "(III)I"⟩
abbrev cX3_held : ByteArray := prog_17_method_80_code
def yX3_held : MethodName := ⟨RX3, "held", "(II)I"⟩
abbrev cX3_place : ByteArray := prog_17_method_81_code
def yX3_place : MethodName := ⟨RX3, "place", "(I)I"⟩
abbrev cX3_stripped : ByteArray := prog_17_method_84_code
def yX3_stripped : MethodName := ⟨RX3, "stripped", "(I)I"⟩
abbrev cX3_isPeace : ByteArray := prog_17_method_83_code
def yX3_isPeace : MethodName := ⟨RX3, "isPeace", "(I)Z"⟩
abbrev cX3_quarrel : ByteArray := prog_17_method_82_code
def yX3_quarrel : MethodName := ⟨RX3, "quarrel", "(II)Z"⟩
abbrev cX3_gold : ByteArray := prog_17_method_85_code
def yX3_gold : MethodName := ⟨RX3, "gold", "(II)I"⟩
abbrev cX3_rests : ByteArray := prog_17_method_88_code
def yX3_rests : MethodName := ⟨RX3, "rests", "(IIII)I"⟩
abbrev cX3_laysDeeds : ByteArray := prog_17_method_86_code
def yX3_laysDeeds : MethodName := ⟨RX3, "laysDeeds", "(III)V"⟩
abbrev cX3_isRest : ByteArray := prog_17_method_87_code
def yX3_isRest : MethodName := ⟨RX3, "isRest", "(I)Z"⟩
abbrev cX3_ring : ByteArray := prog_17_method_91_code
def yX3_ring : MethodName := ⟨RX3, "ring", "(I)I"⟩
abbrev cX3_laysCourse : ByteArray := prog_17_method_89_code
def yX3_laysCourse : MethodName := ⟨RX3, "laysCourse", "()V"⟩
abbrev cX3_areAlike : ByteArray := prog_17_method_90_code
def yX3_areAlike : MethodName := ⟨RX3, "areAlike", "(II)Z"⟩
abbrev cX3_note : ByteArray := prog_17_method_92_code
def yX3_note : MethodName := ⟨RX3, "note", "(II)I"⟩
abbrev cX3_ruled : ByteArray := prog_17_method_94_code
def yX3_ruled : MethodName := ⟨RX3, "ruled", "(I)I"⟩
abbrev cX3_couldRule : ByteArray := prog_17_method_93_code
def yX3_couldRule : MethodName := ⟨RX3, "couldRule", "(I)Z"⟩
abbrev cX3_look : ByteArray := prog_17_method_96_code
def yX3_look : MethodName := ⟨RX3, "look", "(I)I"⟩
abbrev cX3_mostAlike : ByteArray := prog_17_method_95_code
def yX3_mostAlike : MethodName := ⟨RX3, "mostAlike", "(II)I"⟩
abbrev cX3_seed : ByteArray := prog_17_method_97_code
def yX3_seed : MethodName := ⟨RX3, "seed", "(I)I"⟩
abbrev cX3_years : ByteArray := prog_17_method_100_code
def yX3_years : MethodName := ⟨RX3, "years", "(IIII)I"⟩
abbrev cX3_draws : ByteArray := prog_17_method_98_code
def yX3_draws : MethodName := ⟨RX3, "draws", "(I)I"⟩
abbrev cX3_allRank : ByteArray := prog_17_method_99_code
def yX3_allRank : MethodName := ⟨RX3, "allRank", "()I"⟩
abbrev cX3_count : ByteArray := prog_17_method_101_code
def yX3_count : MethodName := ⟨RX3, "count", "(I)I"⟩
abbrev cX3_image : ByteArray := prog_17_method_104_code
def yX3_image : MethodName := ⟨RX3, "image", "(I)I"⟩
abbrev cX3_back : ByteArray := prog_17_method_105_code
def yX3_back : MethodName := ⟨RX3, "back", "(I)I"⟩
theorem q114 : (Jvm.Cond.initialized "SpoonCourtModel") ∈ lw_all := lw_g (lw_at lw_m1 7 rfl) rfl
theorem q1108 : (Jvm.Cond.instantiable "SpoonCourtModel" (53 : Nat)) ∈ lw_all := lw_g (lw_at lw_m5 41 rfl) rfl
theorem q1110 : (Jvm.Cond.instanceMethod ({ cls := "SpoonCourtModel", name := "<init>", desc := "()V" } : Jvm.MethodName)) ∈ lw_all := lw_g (lw_at lw_m5 43 rfl) rfl
theorem q1111 : (Jvm.Cond.code ({ cls := "SpoonCourtModel", name := "<init>", desc := "()V" } : Jvm.MethodName) prog_17_method_1_code (1 : Nat) (Option.none : Option Jvm.ClassFile.FieldType)) ∈ lw_all := lw_g (lw_at lw_m5 44 rfl) rfl
theorem q1112 : (Jvm.Cond.methodLink "SpoonCourtModel" (3 : Nat) ({ cls := "java/lang/Object", name := "<init>", desc := "()V" } : Jvm.MethodName)) ∈ lw_all := lw_g (lw_at lw_m5 45 rfl) rfl
theorem q1113 : (Jvm.Cond.fieldLink "SpoonCourtModel" (9 : Nat) "SpoonCourtModel" "scalar" "[I") ∈ lw_all := lw_g (lw_at lw_m5 46 rfl) rfl
theorem q1114 : (Jvm.Cond.fieldLink "SpoonCourtModel" (13 : Nat) "SpoonCourtModel" "rank" "[I") ∈ lw_all := lw_g (lw_at lw_m5 47 rfl) rfl
theorem q1115 : (Jvm.Cond.fieldLink "SpoonCourtModel" (16 : Nat) "SpoonCourtModel" "quarrels" "[I") ∈ lw_all := lw_g (lw_at lw_m5 48 rfl) rfl
theorem q1116 : (Jvm.Cond.fieldLink "SpoonCourtModel" (19 : Nat) "SpoonCourtModel" "times" "[I") ∈ lw_all := lw_g (lw_at lw_m5 49 rfl) rfl
theorem q1117 : (Jvm.Cond.fieldLink "SpoonCourtModel" (22 : Nat) "SpoonCourtModel" "told" "[I") ∈ lw_all := lw_g (lw_at lw_m5 50 rfl) rfl
theorem q1118 : (Jvm.Cond.fieldLink "SpoonCourtModel" (25 : Nat) "SpoonCourtModel" "thanks" "[I") ∈ lw_all := lw_g (lw_at lw_m5 51 rfl) rfl
theorem q1119 : (Jvm.Cond.fieldLink "SpoonCourtModel" (28 : Nat) "SpoonCourtModel" "serves" "[I") ∈ lw_all := lw_g (lw_at lw_m5 52 rfl) rfl
theorem q1120 : (Jvm.Cond.fieldLink "SpoonCourtModel" (31 : Nat) "SpoonCourtModel" "titles" "[I") ∈ lw_all := lw_g (lw_at lw_m5 53 rfl) rfl
theorem q1121 : (Jvm.Cond.fieldLink "SpoonCourtModel" (34 : Nat) "SpoonCourtModel" "byHand" "[I") ∈ lw_all := lw_g (lw_at lw_m5 54 rfl) rfl
theorem q1122 : (Jvm.Cond.fieldLink "SpoonCourtModel" (37 : Nat) "SpoonCourtModel" "noteHour" "[I") ∈ lw_all := lw_g (lw_at lw_m5 55 rfl) rfl
theorem q1123 : (Jvm.Cond.fieldLink "SpoonCourtModel" (40 : Nat) "SpoonCourtModel" "noteThing" "[I") ∈ lw_all := lw_g (lw_at lw_m5 56 rfl) rfl
theorem q1124 : (Jvm.Cond.fieldLink "SpoonCourtModel" (43 : Nat) "SpoonCourtModel" "toldThanks" "[I") ∈ lw_all := lw_g (lw_at lw_m5 57 rfl) rfl
theorem q1125 : (Jvm.Cond.fieldLink "SpoonCourtModel" (46 : Nat) "SpoonCourtModel" "newScalar" "[I") ∈ lw_all := lw_g (lw_at lw_m5 58 rfl) rfl
theorem q1126 : (Jvm.Cond.fieldLink "SpoonCourtModel" (49 : Nat) "SpoonCourtModel" "newRank" "[I") ∈ lw_all := lw_g (lw_at lw_m5 59 rfl) rfl
theorem q1127 : (Jvm.Cond.fieldLink "SpoonCourtModel" (52 : Nat) "SpoonCourtModel" "newQuarrels" "[I") ∈ lw_all := lw_g (lw_at lw_m5 60 rfl) rfl
theorem q1128 : (Jvm.Cond.fieldLink "SpoonCourtModel" (55 : Nat) "SpoonCourtModel" "newTold" "[I") ∈ lw_all := lw_g (lw_at lw_m5 61 rfl) rfl
theorem q1129 : (Jvm.Cond.fieldLink "SpoonCourtModel" (58 : Nat) "SpoonCourtModel" "newThanks" "[I") ∈ lw_all := lw_g (lw_at lw_m5 62 rfl) rfl
theorem q1130 : (Jvm.Cond.fieldLink "SpoonCourtModel" (61 : Nat) "SpoonCourtModel" "newServes" "[I") ∈ lw_all := lw_g (lw_at lw_m5 63 rfl) rfl
theorem q1131 : (Jvm.Cond.fieldLink "SpoonCourtModel" (135 : Nat) "SpoonCourtModel" "taped" "I") ∈ lw_all := lw_g (lw_at lw_m5 64 rfl) rfl
theorem q1132 : (Jvm.Cond.fieldLink "SpoonCourtModel" (166 : Nat) "SpoonCourtModel" "p" "I") ∈ lw_all := lw_g (lw_at lw_m5 65 rfl) rfl
theorem q1133 : (Jvm.Cond.fieldLink "SpoonCourtModel" (163 : Nat) "SpoonCourtModel" "fault" "I") ∈ lw_all := lw_g (lw_at lw_m5 66 rfl) rfl
theorem q1134 : (Jvm.Cond.fieldLink "SpoonCourtModel" (193 : Nat) "SpoonCourtModel" "slot" "I") ∈ lw_all := lw_g (lw_at lw_m5 67 rfl) rfl
theorem q1135 : (Jvm.Cond.fieldLink "SpoonCourtModel" (318 : Nat) "SpoonCourtModel" "rules" "I") ∈ lw_all := lw_g (lw_at lw_m5 68 rfl) rfl
theorem q1136 : (Jvm.Cond.fieldLink "SpoonCourtModel" (196 : Nat) "SpoonCourtModel" "entries" "I") ∈ lw_all := lw_g (lw_at lw_m5 69 rfl) rfl
theorem q1137 : (Jvm.Cond.fieldLink "SpoonCourtModel" (237 : Nat) "SpoonCourtModel" "deep" "I") ∈ lw_all := lw_g (lw_at lw_m5 70 rfl) rfl
theorem q1138 : (Jvm.Cond.fieldLink "SpoonCourtModel" (199 : Nat) "SpoonCourtModel" "counted" "I") ∈ lw_all := lw_g (lw_at lw_m5 71 rfl) rfl
theorem q1139 : (Jvm.Cond.fieldLink "SpoonCourtModel" (234 : Nat) "SpoonCourtModel" "opened" "I") ∈ lw_all := lw_g (lw_at lw_m5 72 rfl) rfl
theorem q1140 : (Jvm.Cond.fieldLink "SpoonCourtModel" (64 : Nat) "SpoonCourtModel" "words" "I") ∈ lw_all := lw_g (lw_at lw_m5 73 rfl) rfl
theorem q1141 : (Jvm.Cond.fieldLink "SpoonCourtModel" (68 : Nat) "SpoonCourtModel" "tape" "[B") ∈ lw_all := lw_g (lw_at lw_m5 74 rfl) rfl
theorem q1142 : (Jvm.Cond.fieldLink "SpoonCourtModel" (72 : Nat) "SpoonCourtModel" "sort" "[I") ∈ lw_all := lw_g (lw_at lw_m5 75 rfl) rfl
theorem q1143 : (Jvm.Cond.fieldLink "SpoonCourtModel" (75 : Nat) "SpoonCourtModel" "number" "[I") ∈ lw_all := lw_g (lw_at lw_m5 76 rfl) rfl
theorem q1144 : (Jvm.Cond.fieldLink "SpoonCourtModel" (78 : Nat) "SpoonCourtModel" "clauses" "[I") ∈ lw_all := lw_g (lw_at lw_m5 77 rfl) rfl
theorem q1145 : (Jvm.Cond.fieldLink "SpoonCourtModel" (81 : Nat) "SpoonCourtModel" "sumAt" "[I") ∈ lw_all := lw_g (lw_at lw_m5 78 rfl) rfl
theorem q1146 : (Jvm.Cond.fieldLink "SpoonCourtModel" (84 : Nat) "SpoonCourtModel" "testAt" "[I") ∈ lw_all := lw_g (lw_at lw_m5 79 rfl) rfl
theorem q1147 : (Jvm.Cond.fieldLink "SpoonCourtModel" (87 : Nat) "SpoonCourtModel" "endAt" "[I") ∈ lw_all := lw_g (lw_at lw_m5 80 rfl) rfl
theorem q1148 : (Jvm.Cond.fieldLink "SpoonCourtModel" (90 : Nat) "SpoonCourtModel" "open" "[I") ∈ lw_all := lw_g (lw_at lw_m5 81 rfl) rfl
theorem q1149 : (Jvm.Cond.fieldLink "SpoonCourtModel" (93 : Nat) "SpoonCourtModel" "asked" "[J") ∈ lw_all := lw_g (lw_at lw_m5 82 rfl) rfl
theorem q1150 : (Jvm.Cond.fieldLink "SpoonCourtModel" (97 : Nat) "SpoonCourtModel" "stack" "[J") ∈ lw_all := lw_g (lw_at lw_m5 83 rfl) rfl
theorem q1151 : (Jvm.Cond.fieldLink "SpoonCourtModel" (100 : Nat) "SpoonCourtModel" "past" "[I") ∈ lw_all := lw_g (lw_at lw_m5 84 rfl) rfl
theorem q1152 : (Jvm.Cond.fieldLink "SpoonCourtModel" (103 : Nat) "SpoonCourtModel" "pastOf" "[I") ∈ lw_all := lw_g (lw_at lw_m5 85 rfl) rfl
theorem q1153 : (Jvm.Cond.fieldLink "SpoonCourtModel" (305 : Nat) "SpoonCourtModel" "pastMany" "I") ∈ lw_all := lw_g (lw_at lw_m5 86 rfl) rfl
theorem q1154 : (Jvm.Cond.fieldLink "SpoonCourtModel" (382 : Nat) "SpoonCourtModel" "pastAt" "I") ∈ lw_all := lw_g (lw_at lw_m5 87 rfl) rfl
theorem q1155 : (Jvm.Cond.fieldLink "SpoonCourtModel" (378 : Nat) "SpoonCourtModel" "takesBack" "Z") ∈ lw_all := lw_g (lw_at lw_m5 88 rfl) rfl
theorem q1156 : (Jvm.Cond.fieldLink "SpoonCourtModel" (106 : Nat) "SpoonCourtModel" "heldOf" "[I") ∈ lw_all := lw_g (lw_at lw_m5 89 rfl) rfl
theorem q1157 : (Jvm.Cond.fieldLink "SpoonCourtModel" (109 : Nat) "SpoonCourtModel" "firstHas" "[I") ∈ lw_all := lw_g (lw_at lw_m5 90 rfl) rfl
theorem q1158 : (Jvm.Cond.fieldLink "SpoonCourtModel" (112 : Nat) "SpoonCourtModel" "secondHas" "[I") ∈ lw_all := lw_g (lw_at lw_m5 91 rfl) rfl
theorem q1159 : (Jvm.Cond.fieldLink "SpoonCourtModel" (115 : Nat) "SpoonCourtModel" "course" "[I") ∈ lw_all := lw_g (lw_at lw_m5 92 rfl) rfl
theorem q1160 : (Jvm.Cond.fieldLink "SpoonCourtModel" (118 : Nat) "SpoonCourtModel" "shows" "[I") ∈ lw_all := lw_g (lw_at lw_m5 93 rfl) rfl
theorem q1161 : (Jvm.Cond.fieldLink "SpoonCourtModel" (121 : Nat) "SpoonCourtModel" "images" "[I") ∈ lw_all := lw_g (lw_at lw_m5 94 rfl) rfl
theorem q1162 : (Jvm.Cond.fieldLink "SpoonCourtModel" (124 : Nat) "SpoonCourtModel" "isMade" "[Z") ∈ lw_all := lw_g (lw_at lw_m5 95 rfl) rfl
theorem q1163 : (Jvm.Cond.fieldLink "SpoonCourtModel" (473 : Nat) "SpoonCourtModel" "imageAt" "I") ∈ lw_all := lw_g (lw_at lw_m5 96 rfl) rfl
theorem q1164 : (Jvm.Cond.fieldLink "SpoonCourtModel" (470 : Nat) "SpoonCourtModel" "goesBack" "Z") ∈ lw_all := lw_g (lw_at lw_m5 97 rfl) rfl
theorem q1165 : (Jvm.Cond.lays "SpoonCourtModel" "SpoonCourtModel" "thrown" "I") ∈ lw_all := lw_g (lw_at lw_m5 98 rfl) rfl
theorem q1166 : (Jvm.Cond.soleField "SpoonCourtModel" "thrown") ∈ lw_all := lw_g (lw_at lw_m5 99 rfl) rfl
theorem q1167 : (Jvm.Cond.laysFinal "SpoonCourtModel" "SpoonCourtModel" "scalar" "[I") ∈ lw_all := lw_g (lw_at lw_m5 100 rfl) rfl
theorem q1168 : (Jvm.Cond.soleField "SpoonCourtModel" "scalar") ∈ lw_all := lw_g (lw_at lw_m5 101 rfl) rfl
theorem q1169 : (Jvm.Cond.laysFinal "SpoonCourtModel" "SpoonCourtModel" "rank" "[I") ∈ lw_all := lw_g (lw_at lw_m5 102 rfl) rfl
theorem q1170 : (Jvm.Cond.soleField "SpoonCourtModel" "rank") ∈ lw_all := lw_g (lw_at lw_m5 103 rfl) rfl
theorem q1171 : (Jvm.Cond.laysFinal "SpoonCourtModel" "SpoonCourtModel" "quarrels" "[I") ∈ lw_all := lw_g (lw_at lw_m5 104 rfl) rfl
theorem q1172 : (Jvm.Cond.soleField "SpoonCourtModel" "quarrels") ∈ lw_all := lw_g (lw_at lw_m5 105 rfl) rfl
theorem q1173 : (Jvm.Cond.laysFinal "SpoonCourtModel" "SpoonCourtModel" "times" "[I") ∈ lw_all := lw_g (lw_at lw_m5 106 rfl) rfl
theorem q1174 : (Jvm.Cond.soleField "SpoonCourtModel" "times") ∈ lw_all := lw_g (lw_at lw_m5 107 rfl) rfl
theorem q1175 : (Jvm.Cond.laysFinal "SpoonCourtModel" "SpoonCourtModel" "told" "[I") ∈ lw_all := lw_g (lw_at lw_m5 108 rfl) rfl
theorem q1176 : (Jvm.Cond.soleField "SpoonCourtModel" "told") ∈ lw_all := lw_g (lw_at lw_m5 109 rfl) rfl
theorem q1177 : (Jvm.Cond.laysFinal "SpoonCourtModel" "SpoonCourtModel" "thanks" "[I") ∈ lw_all := lw_g (lw_at lw_m5 110 rfl) rfl
theorem q1178 : (Jvm.Cond.soleField "SpoonCourtModel" "thanks") ∈ lw_all := lw_g (lw_at lw_m5 111 rfl) rfl
theorem q1179 : (Jvm.Cond.laysFinal "SpoonCourtModel" "SpoonCourtModel" "serves" "[I") ∈ lw_all := lw_g (lw_at lw_m5 112 rfl) rfl
theorem q1180 : (Jvm.Cond.soleField "SpoonCourtModel" "serves") ∈ lw_all := lw_g (lw_at lw_m5 113 rfl) rfl
theorem q1181 : (Jvm.Cond.laysFinal "SpoonCourtModel" "SpoonCourtModel" "titles" "[I") ∈ lw_all := lw_g (lw_at lw_m5 114 rfl) rfl
theorem q1182 : (Jvm.Cond.soleField "SpoonCourtModel" "titles") ∈ lw_all := lw_g (lw_at lw_m5 115 rfl) rfl
theorem q1183 : (Jvm.Cond.laysFinal "SpoonCourtModel" "SpoonCourtModel" "byHand" "[I") ∈ lw_all := lw_g (lw_at lw_m5 116 rfl) rfl
theorem q1184 : (Jvm.Cond.soleField "SpoonCourtModel" "byHand") ∈ lw_all := lw_g (lw_at lw_m5 117 rfl) rfl
theorem q1185 : (Jvm.Cond.laysFinal "SpoonCourtModel" "SpoonCourtModel" "noteHour" "[I") ∈ lw_all := lw_g (lw_at lw_m5 118 rfl) rfl
theorem q1186 : (Jvm.Cond.soleField "SpoonCourtModel" "noteHour") ∈ lw_all := lw_g (lw_at lw_m5 119 rfl) rfl
theorem q1187 : (Jvm.Cond.laysFinal "SpoonCourtModel" "SpoonCourtModel" "noteThing" "[I") ∈ lw_all := lw_g (lw_at lw_m5 120 rfl) rfl
theorem q1188 : (Jvm.Cond.soleField "SpoonCourtModel" "noteThing") ∈ lw_all := lw_g (lw_at lw_m5 121 rfl) rfl
theorem q1189 : (Jvm.Cond.laysFinal "SpoonCourtModel" "SpoonCourtModel" "toldThanks" "[I") ∈ lw_all := lw_g (lw_at lw_m5 122 rfl) rfl
theorem q1190 : (Jvm.Cond.soleField "SpoonCourtModel" "toldThanks") ∈ lw_all := lw_g (lw_at lw_m5 123 rfl) rfl
theorem q1191 : (Jvm.Cond.laysFinal "SpoonCourtModel" "SpoonCourtModel" "newScalar" "[I") ∈ lw_all := lw_g (lw_at lw_m5 124 rfl) rfl
theorem q1192 : (Jvm.Cond.soleField "SpoonCourtModel" "newScalar") ∈ lw_all := lw_g (lw_at lw_m5 125 rfl) rfl
theorem q1193 : (Jvm.Cond.laysFinal "SpoonCourtModel" "SpoonCourtModel" "newRank" "[I") ∈ lw_all := lw_g (lw_at lw_m5 126 rfl) rfl
theorem q1194 : (Jvm.Cond.soleField "SpoonCourtModel" "newRank") ∈ lw_all := lw_g (lw_at lw_m5 127 rfl) rfl
theorem q1195 : (Jvm.Cond.laysFinal "SpoonCourtModel" "SpoonCourtModel" "newQuarrels" "[I") ∈ lw_all := lw_g (lw_at lw_m5 128 rfl) rfl
theorem q1196 : (Jvm.Cond.soleField "SpoonCourtModel" "newQuarrels") ∈ lw_all := lw_g (lw_at lw_m5 129 rfl) rfl
theorem q1197 : (Jvm.Cond.laysFinal "SpoonCourtModel" "SpoonCourtModel" "newTold" "[I") ∈ lw_all := lw_g (lw_at lw_m5 130 rfl) rfl
theorem q1198 : (Jvm.Cond.soleField "SpoonCourtModel" "newTold") ∈ lw_all := lw_g (lw_at lw_m5 131 rfl) rfl
theorem q1199 : (Jvm.Cond.laysFinal "SpoonCourtModel" "SpoonCourtModel" "newThanks" "[I") ∈ lw_all := lw_g (lw_at lw_m5 132 rfl) rfl
theorem q1200 : (Jvm.Cond.soleField "SpoonCourtModel" "newThanks") ∈ lw_all := lw_g (lw_at lw_m5 133 rfl) rfl
theorem q1201 : (Jvm.Cond.laysFinal "SpoonCourtModel" "SpoonCourtModel" "newServes" "[I") ∈ lw_all := lw_g (lw_at lw_m5 134 rfl) rfl
theorem q1202 : (Jvm.Cond.soleField "SpoonCourtModel" "newServes") ∈ lw_all := lw_g (lw_at lw_m5 135 rfl) rfl
theorem q1203 : (Jvm.Cond.lays "SpoonCourtModel" "SpoonCourtModel" "taped" "I") ∈ lw_all := lw_g (lw_at lw_m5 136 rfl) rfl
theorem q1204 : (Jvm.Cond.soleField "SpoonCourtModel" "taped") ∈ lw_all := lw_g (lw_at lw_m5 137 rfl) rfl
theorem q1205 : (Jvm.Cond.lays "SpoonCourtModel" "SpoonCourtModel" "p" "I") ∈ lw_all := lw_g (lw_at lw_m5 138 rfl) rfl
theorem q1206 : (Jvm.Cond.soleField "SpoonCourtModel" "p") ∈ lw_all := lw_g (lw_at lw_m5 139 rfl) rfl
theorem q1207 : (Jvm.Cond.lays "SpoonCourtModel" "SpoonCourtModel" "fault" "I") ∈ lw_all := lw_g (lw_at lw_m5 140 rfl) rfl
theorem q1208 : (Jvm.Cond.soleField "SpoonCourtModel" "fault") ∈ lw_all := lw_g (lw_at lw_m5 141 rfl) rfl
theorem q1209 : (Jvm.Cond.lays "SpoonCourtModel" "SpoonCourtModel" "slot" "I") ∈ lw_all := lw_g (lw_at lw_m5 142 rfl) rfl
theorem q1210 : (Jvm.Cond.soleField "SpoonCourtModel" "slot") ∈ lw_all := lw_g (lw_at lw_m5 143 rfl) rfl
theorem q1211 : (Jvm.Cond.lays "SpoonCourtModel" "SpoonCourtModel" "rules" "I") ∈ lw_all := lw_g (lw_at lw_m5 144 rfl) rfl
theorem q1212 : (Jvm.Cond.soleField "SpoonCourtModel" "rules") ∈ lw_all := lw_g (lw_at lw_m5 145 rfl) rfl
theorem q1213 : (Jvm.Cond.lays "SpoonCourtModel" "SpoonCourtModel" "entries" "I") ∈ lw_all := lw_g (lw_at lw_m5 146 rfl) rfl
theorem q1214 : (Jvm.Cond.soleField "SpoonCourtModel" "entries") ∈ lw_all := lw_g (lw_at lw_m5 147 rfl) rfl
theorem q1215 : (Jvm.Cond.lays "SpoonCourtModel" "SpoonCourtModel" "deep" "I") ∈ lw_all := lw_g (lw_at lw_m5 148 rfl) rfl
theorem q1216 : (Jvm.Cond.soleField "SpoonCourtModel" "deep") ∈ lw_all := lw_g (lw_at lw_m5 149 rfl) rfl
theorem q1217 : (Jvm.Cond.lays "SpoonCourtModel" "SpoonCourtModel" "counted" "I") ∈ lw_all := lw_g (lw_at lw_m5 150 rfl) rfl
theorem q1218 : (Jvm.Cond.soleField "SpoonCourtModel" "counted") ∈ lw_all := lw_g (lw_at lw_m5 151 rfl) rfl
theorem q1219 : (Jvm.Cond.lays "SpoonCourtModel" "SpoonCourtModel" "opened" "I") ∈ lw_all := lw_g (lw_at lw_m5 152 rfl) rfl
theorem q1220 : (Jvm.Cond.soleField "SpoonCourtModel" "opened") ∈ lw_all := lw_g (lw_at lw_m5 153 rfl) rfl
theorem q1221 : (Jvm.Cond.lays "SpoonCourtModel" "SpoonCourtModel" "words" "I") ∈ lw_all := lw_g (lw_at lw_m5 154 rfl) rfl
theorem q1222 : (Jvm.Cond.soleField "SpoonCourtModel" "words") ∈ lw_all := lw_g (lw_at lw_m5 155 rfl) rfl
theorem q1223 : (Jvm.Cond.laysFinal "SpoonCourtModel" "SpoonCourtModel" "tape" "[B") ∈ lw_all := lw_g (lw_at lw_m5 156 rfl) rfl
theorem q1224 : (Jvm.Cond.soleField "SpoonCourtModel" "tape") ∈ lw_all := lw_g (lw_at lw_m5 157 rfl) rfl
theorem q1225 : (Jvm.Cond.laysFinal "SpoonCourtModel" "SpoonCourtModel" "sort" "[I") ∈ lw_all := lw_g (lw_at lw_m5 158 rfl) rfl
theorem q1226 : (Jvm.Cond.soleField "SpoonCourtModel" "sort") ∈ lw_all := lw_g (lw_at lw_m5 159 rfl) rfl
theorem q1227 : (Jvm.Cond.laysFinal "SpoonCourtModel" "SpoonCourtModel" "number" "[I") ∈ lw_all := lw_g (lw_at lw_m5 160 rfl) rfl
theorem q1228 : (Jvm.Cond.soleField "SpoonCourtModel" "number") ∈ lw_all := lw_g (lw_at lw_m5 161 rfl) rfl
theorem q1229 : (Jvm.Cond.laysFinal "SpoonCourtModel" "SpoonCourtModel" "clauses" "[I") ∈ lw_all := lw_g (lw_at lw_m5 162 rfl) rfl
theorem q1230 : (Jvm.Cond.soleField "SpoonCourtModel" "clauses") ∈ lw_all := lw_g (lw_at lw_m5 163 rfl) rfl
theorem q1231 : (Jvm.Cond.laysFinal "SpoonCourtModel" "SpoonCourtModel" "sumAt" "[I") ∈ lw_all := lw_g (lw_at lw_m5 164 rfl) rfl
theorem q1232 : (Jvm.Cond.soleField "SpoonCourtModel" "sumAt") ∈ lw_all := lw_g (lw_at lw_m5 165 rfl) rfl
theorem q1233 : (Jvm.Cond.laysFinal "SpoonCourtModel" "SpoonCourtModel" "testAt" "[I") ∈ lw_all := lw_g (lw_at lw_m5 166 rfl) rfl
theorem q1234 : (Jvm.Cond.soleField "SpoonCourtModel" "testAt") ∈ lw_all := lw_g (lw_at lw_m5 167 rfl) rfl
theorem q1235 : (Jvm.Cond.laysFinal "SpoonCourtModel" "SpoonCourtModel" "endAt" "[I") ∈ lw_all := lw_g (lw_at lw_m5 168 rfl) rfl
theorem q1236 : (Jvm.Cond.soleField "SpoonCourtModel" "endAt") ∈ lw_all := lw_g (lw_at lw_m5 169 rfl) rfl
theorem q1237 : (Jvm.Cond.laysFinal "SpoonCourtModel" "SpoonCourtModel" "open" "[I") ∈ lw_all := lw_g (lw_at lw_m5 170 rfl) rfl
theorem q1238 : (Jvm.Cond.soleField "SpoonCourtModel" "open") ∈ lw_all := lw_g (lw_at lw_m5 171 rfl) rfl
theorem q1239 : (Jvm.Cond.laysFinal "SpoonCourtModel" "SpoonCourtModel" "asked" "[J") ∈ lw_all := lw_g (lw_at lw_m5 172 rfl) rfl
theorem q1240 : (Jvm.Cond.soleField "SpoonCourtModel" "asked") ∈ lw_all := lw_g (lw_at lw_m5 173 rfl) rfl
theorem q1241 : (Jvm.Cond.laysFinal "SpoonCourtModel" "SpoonCourtModel" "stack" "[J") ∈ lw_all := lw_g (lw_at lw_m5 174 rfl) rfl
theorem q1242 : (Jvm.Cond.soleField "SpoonCourtModel" "stack") ∈ lw_all := lw_g (lw_at lw_m5 175 rfl) rfl
theorem q1243 : (Jvm.Cond.laysFinal "SpoonCourtModel" "SpoonCourtModel" "past" "[I") ∈ lw_all := lw_g (lw_at lw_m5 176 rfl) rfl
theorem q1244 : (Jvm.Cond.soleField "SpoonCourtModel" "past") ∈ lw_all := lw_g (lw_at lw_m5 177 rfl) rfl
theorem q1245 : (Jvm.Cond.laysFinal "SpoonCourtModel" "SpoonCourtModel" "pastOf" "[I") ∈ lw_all := lw_g (lw_at lw_m5 178 rfl) rfl
theorem q1246 : (Jvm.Cond.soleField "SpoonCourtModel" "pastOf") ∈ lw_all := lw_g (lw_at lw_m5 179 rfl) rfl
theorem q1247 : (Jvm.Cond.lays "SpoonCourtModel" "SpoonCourtModel" "pastMany" "I") ∈ lw_all := lw_g (lw_at lw_m5 180 rfl) rfl
theorem q1248 : (Jvm.Cond.soleField "SpoonCourtModel" "pastMany") ∈ lw_all := lw_g (lw_at lw_m5 181 rfl) rfl
theorem q1249 : (Jvm.Cond.lays "SpoonCourtModel" "SpoonCourtModel" "pastAt" "I") ∈ lw_all := lw_g (lw_at lw_m5 182 rfl) rfl
theorem q1250 : (Jvm.Cond.soleField "SpoonCourtModel" "pastAt") ∈ lw_all := lw_g (lw_at lw_m5 183 rfl) rfl
theorem q1251 : (Jvm.Cond.lays "SpoonCourtModel" "SpoonCourtModel" "takesBack" "Z") ∈ lw_all := lw_g (lw_at lw_m5 184 rfl) rfl
theorem q1252 : (Jvm.Cond.soleField "SpoonCourtModel" "takesBack") ∈ lw_all := lw_g (lw_at lw_m5 185 rfl) rfl
theorem q1253 : (Jvm.Cond.laysFinal "SpoonCourtModel" "SpoonCourtModel" "heldOf" "[I") ∈ lw_all := lw_g (lw_at lw_m5 186 rfl) rfl
theorem q1254 : (Jvm.Cond.soleField "SpoonCourtModel" "heldOf") ∈ lw_all := lw_g (lw_at lw_m5 187 rfl) rfl
theorem q1255 : (Jvm.Cond.laysFinal "SpoonCourtModel" "SpoonCourtModel" "firstHas" "[I") ∈ lw_all := lw_g (lw_at lw_m5 188 rfl) rfl
theorem q1256 : (Jvm.Cond.soleField "SpoonCourtModel" "firstHas") ∈ lw_all := lw_g (lw_at lw_m5 189 rfl) rfl
theorem q1257 : (Jvm.Cond.laysFinal "SpoonCourtModel" "SpoonCourtModel" "secondHas" "[I") ∈ lw_all := lw_g (lw_at lw_m5 190 rfl) rfl
theorem q1258 : (Jvm.Cond.soleField "SpoonCourtModel" "secondHas") ∈ lw_all := lw_g (lw_at lw_m5 191 rfl) rfl
theorem q1259 : (Jvm.Cond.laysFinal "SpoonCourtModel" "SpoonCourtModel" "course" "[I") ∈ lw_all := lw_g (lw_at lw_m5 192 rfl) rfl
theorem q1260 : (Jvm.Cond.soleField "SpoonCourtModel" "course") ∈ lw_all := lw_g (lw_at lw_m5 193 rfl) rfl
theorem q1261 : (Jvm.Cond.laysFinal "SpoonCourtModel" "SpoonCourtModel" "shows" "[I") ∈ lw_all := lw_g (lw_at lw_m5 194 rfl) rfl
theorem q1262 : (Jvm.Cond.soleField "SpoonCourtModel" "shows") ∈ lw_all := lw_g (lw_at lw_m5 195 rfl) rfl
theorem q1263 : (Jvm.Cond.laysFinal "SpoonCourtModel" "SpoonCourtModel" "images" "[I") ∈ lw_all := lw_g (lw_at lw_m5 196 rfl) rfl
theorem q1264 : (Jvm.Cond.soleField "SpoonCourtModel" "images") ∈ lw_all := lw_g (lw_at lw_m5 197 rfl) rfl
theorem q1265 : (Jvm.Cond.laysFinal "SpoonCourtModel" "SpoonCourtModel" "isMade" "[Z") ∈ lw_all := lw_g (lw_at lw_m5 198 rfl) rfl
theorem q1266 : (Jvm.Cond.soleField "SpoonCourtModel" "isMade") ∈ lw_all := lw_g (lw_at lw_m5 199 rfl) rfl
theorem q1267 : (Jvm.Cond.lays "SpoonCourtModel" "SpoonCourtModel" "imageAt" "I") ∈ lw_all := lw_g (lw_at lw_m5 200 rfl) rfl
theorem q1268 : (Jvm.Cond.soleField "SpoonCourtModel" "imageAt") ∈ lw_all := lw_g (lw_at lw_m5 201 rfl) rfl
theorem q1269 : (Jvm.Cond.lays "SpoonCourtModel" "SpoonCourtModel" "goesBack" "Z") ∈ lw_all := lw_g (lw_at lw_m5 202 rfl) rfl
theorem q1270 : (Jvm.Cond.soleField "SpoonCourtModel" "goesBack") ∈ lw_all := lw_g (lw_at lw_m5 203 rfl) rfl
theorem q1271 : (Jvm.Cond.superclass "SpoonCourtModel" "java/lang/Object") ∈ lw_all := lw_g (lw_at lw_m5 204 rfl) rfl
theorem q1273 : (Jvm.Cond.instanceMethod ({ cls := "SpoonCourtModel", name := "feed", desc := "(IIIII)I" } : Jvm.MethodName)) ∈ lw_all := lw_g (lw_at lw_m5 206 rfl) rfl
theorem q1274 : (Jvm.Cond.selects "SpoonCourtModel" ({ cls := "SpoonCourtModel", name := "feed", desc := "(IIIII)I" } : Jvm.MethodName) ({ cls := "SpoonCourtModel", name := "feed", desc := "(IIIII)I" } : Jvm.MethodName)) ∈ lw_all := lw_g (lw_at lw_m5 207 rfl) rfl
theorem q1275 : (Jvm.Cond.code ({ cls := "SpoonCourtModel", name := "feed", desc := "(IIIII)I" } : Jvm.MethodName) prog_17_method_9_code (6 : Nat) (Option.some Jvm.ClassFile.FieldType.int)) ∈ lw_all := lw_g (lw_at lw_m5 208 rfl) rfl
theorem q1276 : (Jvm.Cond.methodLink "SpoonCourtModel" (138 : Nat) ({ cls := "SpoonCourtModel", name := "put", desc := "(I)V" } : Jvm.MethodName)) ∈ lw_all := lw_g (lw_at lw_m5 209 rfl) rfl
theorem q1277 : (Jvm.Cond.privateMethod ({ cls := "SpoonCourtModel", name := "put", desc := "(I)V" } : Jvm.MethodName)) ∈ lw_tbl := lw_at lw_m5 210 rfl
theorem q1278 : (Jvm.Cond.instanceMethod ({ cls := "SpoonCourtModel", name := "put", desc := "(I)V" } : Jvm.MethodName)) ∈ lw_all := lw_g (lw_at lw_m5 211 rfl) rfl
theorem q1279 : (Jvm.Cond.code ({ cls := "SpoonCourtModel", name := "put", desc := "(I)V" } : Jvm.MethodName) prog_17_method_10_code (3 : Nat) (Option.none : Option Jvm.ClassFile.FieldType)) ∈ lw_all := lw_g (lw_at lw_m5 212 rfl) rfl
theorem q1281 : (Jvm.Cond.instanceMethod ({ cls := "SpoonCourtModel", name := "end", desc := "(I)I" } : Jvm.MethodName)) ∈ lw_all := lw_g (lw_at lw_m5 214 rfl) rfl
theorem q1282 : (Jvm.Cond.selects "SpoonCourtModel" ({ cls := "SpoonCourtModel", name := "end", desc := "(I)I" } : Jvm.MethodName) ({ cls := "SpoonCourtModel", name := "end", desc := "(I)I" } : Jvm.MethodName)) ∈ lw_all := lw_g (lw_at lw_m5 215 rfl) rfl
theorem q1283 : (Jvm.Cond.code ({ cls := "SpoonCourtModel", name := "end", desc := "(I)I" } : Jvm.MethodName) prog_17_method_11_code (2 : Nat) (Option.some Jvm.ClassFile.FieldType.int)) ∈ lw_all := lw_g (lw_at lw_m5 216 rfl) rfl
theorem q1285 : (Jvm.Cond.instanceMethod ({ cls := "SpoonCourtModel", name := "court", desc := "()I" } : Jvm.MethodName)) ∈ lw_all := lw_g (lw_at lw_m5 218 rfl) rfl
theorem q1286 : (Jvm.Cond.selects "SpoonCourtModel" ({ cls := "SpoonCourtModel", name := "court", desc := "()I" } : Jvm.MethodName) ({ cls := "SpoonCourtModel", name := "court", desc := "()I" } : Jvm.MethodName)) ∈ lw_all := lw_g (lw_at lw_m5 219 rfl) rfl
theorem q1287 : (Jvm.Cond.code ({ cls := "SpoonCourtModel", name := "court", desc := "()I" } : Jvm.MethodName) prog_17_method_42_code (2 : Nat) (Option.some Jvm.ClassFile.FieldType.int)) ∈ lw_all := lw_g (lw_at lw_m5 220 rfl) rfl
theorem q1288 : (Jvm.Cond.methodLink "SpoonCourtModel" (299 : Nat) ({ cls := "SpoonCourtModel", name := "readsAll", desc := "()V" } : Jvm.MethodName)) ∈ lw_all := lw_g (lw_at lw_m5 221 rfl) rfl
theorem q1289 : (Jvm.Cond.privateMethod ({ cls := "SpoonCourtModel", name := "readsAll", desc := "()V" } : Jvm.MethodName)) ∈ lw_tbl := lw_at lw_m5 222 rfl
theorem q1290 : (Jvm.Cond.instanceMethod ({ cls := "SpoonCourtModel", name := "readsAll", desc := "()V" } : Jvm.MethodName)) ∈ lw_all := lw_g (lw_at lw_m5 223 rfl) rfl
theorem q1291 : (Jvm.Cond.code ({ cls := "SpoonCourtModel", name := "readsAll", desc := "()V" } : Jvm.MethodName) prog_17_method_40_code (3 : Nat) (Option.none : Option Jvm.ClassFile.FieldType)) ∈ lw_all := lw_g (lw_at lw_m5 224 rfl) rfl
theorem q1292 : (Jvm.Cond.methodLink "SpoonCourtModel" (286 : Nat) ({ cls := "SpoonCourtModel", name := "starts", desc := "()V" } : Jvm.MethodName)) ∈ lw_all := lw_g (lw_at lw_m5 225 rfl) rfl
theorem q1293 : (Jvm.Cond.privateMethod ({ cls := "SpoonCourtModel", name := "starts", desc := "()V" } : Jvm.MethodName)) ∈ lw_tbl := lw_at lw_m5 226 rfl
theorem q1294 : (Jvm.Cond.instanceMethod ({ cls := "SpoonCourtModel", name := "starts", desc := "()V" } : Jvm.MethodName)) ∈ lw_all := lw_g (lw_at lw_m5 227 rfl) rfl
theorem q1295 : (Jvm.Cond.code ({ cls := "SpoonCourtModel", name := "starts", desc := "()V" } : Jvm.MethodName) prog_17_method_39_code (1 : Nat) (Option.none : Option Jvm.ClassFile.FieldType)) ∈ lw_all := lw_g (lw_at lw_m5 228 rfl) rfl
theorem q1296 : (Jvm.Cond.methodLink "SpoonCourtModel" (289 : Nat) ({ cls := "SpoonCourtModel", name := "courtClause", desc := "(I)V" } : Jvm.MethodName)) ∈ lw_all := lw_g (lw_at lw_m5 229 rfl) rfl
theorem q1297 : (Jvm.Cond.privateMethod ({ cls := "SpoonCourtModel", name := "courtClause", desc := "(I)V" } : Jvm.MethodName)) ∈ lw_tbl := lw_at lw_m5 230 rfl
theorem q1298 : (Jvm.Cond.instanceMethod ({ cls := "SpoonCourtModel", name := "courtClause", desc := "(I)V" } : Jvm.MethodName)) ∈ lw_all := lw_g (lw_at lw_m5 231 rfl) rfl
theorem q1299 : (Jvm.Cond.code ({ cls := "SpoonCourtModel", name := "courtClause", desc := "(I)V" } : Jvm.MethodName) prog_17_method_36_code (4 : Nat) (Option.none : Option Jvm.ClassFile.FieldType)) ∈ lw_all := lw_g (lw_at lw_m5 232 rfl) rfl
theorem q1300 : (Jvm.Cond.methodLink "SpoonCourtModel" (186 : Nat) ({ cls := "SpoonCourtModel", name := "blanks", desc := "()V" } : Jvm.MethodName)) ∈ lw_all := lw_g (lw_at lw_m5 233 rfl) rfl
theorem q1301 : (Jvm.Cond.privateMethod ({ cls := "SpoonCourtModel", name := "blanks", desc := "()V" } : Jvm.MethodName)) ∈ lw_tbl := lw_at lw_m5 234 rfl
theorem q1302 : (Jvm.Cond.instanceMethod ({ cls := "SpoonCourtModel", name := "blanks", desc := "()V" } : Jvm.MethodName)) ∈ lw_all := lw_g (lw_at lw_m5 235 rfl) rfl
theorem q1303 : (Jvm.Cond.code ({ cls := "SpoonCourtModel", name := "blanks", desc := "()V" } : Jvm.MethodName) prog_17_method_15_code (1 : Nat) (Option.none : Option Jvm.ClassFile.FieldType)) ∈ lw_all := lw_g (lw_at lw_m5 236 rfl) rfl
theorem q1304 : (Jvm.Cond.methodLink "SpoonCourtModel" (169 : Nat) ({ cls := "SpoonCourtModel", name := "sign", desc := "()I" } : Jvm.MethodName)) ∈ lw_all := lw_g (lw_at lw_m5 237 rfl) rfl
theorem q1305 : (Jvm.Cond.privateMethod ({ cls := "SpoonCourtModel", name := "sign", desc := "()I" } : Jvm.MethodName)) ∈ lw_tbl := lw_at lw_m5 238 rfl
theorem q1306 : (Jvm.Cond.instanceMethod ({ cls := "SpoonCourtModel", name := "sign", desc := "()I" } : Jvm.MethodName)) ∈ lw_all := lw_g (lw_at lw_m5 239 rfl) rfl
theorem q1307 : (Jvm.Cond.code ({ cls := "SpoonCourtModel", name := "sign", desc := "()I" } : Jvm.MethodName) prog_17_method_14_code (1 : Nat) (Option.some Jvm.ClassFile.FieldType.int)) ∈ lw_all := lw_g (lw_at lw_m6 0 rfl) rfl
theorem q1308 : (Jvm.Cond.methodLink "SpoonCourtModel" (276 : Nat) ({ cls := "SpoonCourtModel", name := "courtWord", desc := "(I)Ljava/lang/String;" } : Jvm.MethodName)) ∈ lw_all := lw_g (lw_at lw_m6 1 rfl) rfl
theorem q1309 : (Jvm.Cond.static ({ cls := "SpoonCourtModel", name := "courtWord", desc := "(I)Ljava/lang/String;" } : Jvm.MethodName)) ∈ lw_all := lw_g (lw_at lw_m6 2 rfl) rfl
theorem q1310 : (Jvm.Cond.code ({ cls := "SpoonCourtModel", name := "courtWord", desc := "(I)Ljava/lang/String;" } : Jvm.MethodName) prog_17_method_32_code (1 : Nat) (Option.some (Jvm.ClassFile.FieldType.object "java/lang/String"))) ∈ lw_all := lw_g (lw_at lw_m6 3 rfl) rfl
theorem q1311 : (Jvm.Cond.stringRef "SpoonCourtModel" (261 : Nat) "court") ∈ lw_tbl := lw_at lw_m6 4 rfl
theorem q1312 : (Jvm.Cond.stringRef "SpoonCourtModel" (142 : Nat) "thing") ∈ lw_tbl := lw_at lw_m6 5 rfl
theorem q1313 : (Jvm.Cond.stringRef "SpoonCourtModel" (263 : Nat) "holds") ∈ lw_tbl := lw_at lw_m6 6 rfl
theorem q1314 : (Jvm.Cond.stringRef "SpoonCourtModel" (265 : Nat) "person") ∈ lw_tbl := lw_at lw_m6 7 rfl
theorem q1315 : (Jvm.Cond.stringRef "SpoonCourtModel" (267 : Nat) "quarrel") ∈ lw_tbl := lw_at lw_m6 8 rfl
theorem q1316 : (Jvm.Cond.methodLink "SpoonCourtModel" (189 : Nat) ({ cls := "SpoonCourtModel", name := "stood", desc := "(Ljava/lang/String;)Z" } : Jvm.MethodName)) ∈ lw_all := lw_g (lw_at lw_m6 9 rfl) rfl
theorem q1317 : (Jvm.Cond.privateMethod ({ cls := "SpoonCourtModel", name := "stood", desc := "(Ljava/lang/String;)Z" } : Jvm.MethodName)) ∈ lw_tbl := lw_at lw_m6 10 rfl
theorem q1318 : (Jvm.Cond.instanceMethod ({ cls := "SpoonCourtModel", name := "stood", desc := "(Ljava/lang/String;)Z" } : Jvm.MethodName)) ∈ lw_all := lw_g (lw_at lw_m6 11 rfl) rfl
theorem q1319 : (Jvm.Cond.code ({ cls := "SpoonCourtModel", name := "stood", desc := "(Ljava/lang/String;)Z" } : Jvm.MethodName) prog_17_method_17_code (5 : Nat) (Option.some Jvm.ClassFile.FieldType.boolean)) ∈ lw_all := lw_g (lw_at lw_m6 12 rfl) rfl
theorem q1320 : (Jvm.Cond.methodLink "SpoonCourtModel" (177 : Nat) ({ cls := "java/lang/String", name := "length", desc := "()I" } : Jvm.MethodName)) ∈ lw_all := lw_g (lw_at lw_m6 13 rfl) rfl
theorem q1321 : (Jvm.Cond.methodLink "SpoonCourtModel" (182 : Nat) ({ cls := "java/lang/String", name := "charAt", desc := "(I)C" } : Jvm.MethodName)) ∈ lw_all := lw_g (lw_at lw_m6 14 rfl) rfl
theorem q1322 : (Jvm.Cond.methodLink "SpoonCourtModel" (202 : Nat) ({ cls := "SpoonCourtModel", name := "fails", desc := "(II)V" } : Jvm.MethodName)) ∈ lw_all := lw_g (lw_at lw_m6 15 rfl) rfl
theorem q1323 : (Jvm.Cond.privateMethod ({ cls := "SpoonCourtModel", name := "fails", desc := "(II)V" } : Jvm.MethodName)) ∈ lw_tbl := lw_at lw_m6 16 rfl
theorem q1324 : (Jvm.Cond.instanceMethod ({ cls := "SpoonCourtModel", name := "fails", desc := "(II)V" } : Jvm.MethodName)) ∈ lw_all := lw_g (lw_at lw_m6 17 rfl) rfl
theorem q1325 : (Jvm.Cond.code ({ cls := "SpoonCourtModel", name := "fails", desc := "(II)V" } : Jvm.MethodName) prog_17_method_13_code (3 : Nat) (Option.none : Option Jvm.ClassFile.FieldType)) ∈ lw_all := lw_g (lw_at lw_m6 18 rfl) rfl
theorem q1326 : (Jvm.Cond.methodLink "SpoonCourtModel" (279 : Nat) ({ cls := "SpoonCourtModel", name := "isFull", desc := "(II)Z" } : Jvm.MethodName)) ∈ lw_all := lw_g (lw_at lw_m6 19 rfl) rfl
theorem q1327 : (Jvm.Cond.privateMethod ({ cls := "SpoonCourtModel", name := "isFull", desc := "(II)Z" } : Jvm.MethodName)) ∈ lw_tbl := lw_at lw_m6 20 rfl
theorem q1328 : (Jvm.Cond.instanceMethod ({ cls := "SpoonCourtModel", name := "isFull", desc := "(II)Z" } : Jvm.MethodName)) ∈ lw_all := lw_g (lw_at lw_m6 21 rfl) rfl
theorem q1329 : (Jvm.Cond.code ({ cls := "SpoonCourtModel", name := "isFull", desc := "(II)Z" } : Jvm.MethodName) prog_17_method_35_code (3 : Nat) (Option.some Jvm.ClassFile.FieldType.boolean)) ∈ lw_all := lw_g (lw_at lw_m6 22 rfl) rfl
theorem q1330 : (Jvm.Cond.methodLink "SpoonCourtModel" (283 : Nat) ({ cls := "SpoonCourtModel", name := "courtPart", desc := "(I)V" } : Jvm.MethodName)) ∈ lw_all := lw_g (lw_at lw_m6 23 rfl) rfl
theorem q1331 : (Jvm.Cond.privateMethod ({ cls := "SpoonCourtModel", name := "courtPart", desc := "(I)V" } : Jvm.MethodName)) ∈ lw_tbl := lw_at lw_m6 24 rfl
theorem q1332 : (Jvm.Cond.instanceMethod ({ cls := "SpoonCourtModel", name := "courtPart", desc := "(I)V" } : Jvm.MethodName)) ∈ lw_all := lw_g (lw_at lw_m6 25 rfl) rfl
theorem q1333 : (Jvm.Cond.code ({ cls := "SpoonCourtModel", name := "courtPart", desc := "(I)V" } : Jvm.MethodName) prog_17_method_34_code (4 : Nat) (Option.none : Option Jvm.ClassFile.FieldType)) ∈ lw_all := lw_g (lw_at lw_m6 26 rfl) rfl
theorem q1334 : (Jvm.Cond.methodLink "SpoonCourtModel" (269 : Nat) ({ cls := "SpoonCourtModel", name := "amount", desc := "(II)I" } : Jvm.MethodName)) ∈ lw_all := lw_g (lw_at lw_m6 27 rfl) rfl
theorem q1335 : (Jvm.Cond.privateMethod ({ cls := "SpoonCourtModel", name := "amount", desc := "(II)I" } : Jvm.MethodName)) ∈ lw_tbl := lw_at lw_m6 28 rfl
theorem q1336 : (Jvm.Cond.instanceMethod ({ cls := "SpoonCourtModel", name := "amount", desc := "(II)I" } : Jvm.MethodName)) ∈ lw_all := lw_g (lw_at lw_m6 29 rfl) rfl
theorem q1337 : (Jvm.Cond.code ({ cls := "SpoonCourtModel", name := "amount", desc := "(II)I" } : Jvm.MethodName) prog_17_method_31_code (5 : Nat) (Option.some Jvm.ClassFile.FieldType.int)) ∈ lw_all := lw_g (lw_at lw_m6 30 rfl) rfl
theorem q1338 : (Jvm.Cond.constant "SpoonCourtModel" (210 : Nat) (99999 : Int32)) ∈ lw_all := lw_g (lw_at lw_m6 31 rfl) rfl
theorem q1339 : (Jvm.Cond.methodLink "SpoonCourtModel" (211 : Nat) ({ cls := "SpoonCourtModel", name := "digits", desc := "(I)I" } : Jvm.MethodName)) ∈ lw_all := lw_g (lw_at lw_m6 32 rfl) rfl
theorem q1340 : (Jvm.Cond.privateMethod ({ cls := "SpoonCourtModel", name := "digits", desc := "(I)I" } : Jvm.MethodName)) ∈ lw_tbl := lw_at lw_m6 33 rfl
theorem q1341 : (Jvm.Cond.instanceMethod ({ cls := "SpoonCourtModel", name := "digits", desc := "(I)I" } : Jvm.MethodName)) ∈ lw_all := lw_g (lw_at lw_m6 34 rfl) rfl
theorem q1342 : (Jvm.Cond.code ({ cls := "SpoonCourtModel", name := "digits", desc := "(I)I" } : Jvm.MethodName) prog_17_method_21_code (4 : Nat) (Option.some Jvm.ClassFile.FieldType.int)) ∈ lw_all := lw_g (lw_at lw_m6 35 rfl) rfl
theorem q1343 : (Jvm.Cond.methodLink "SpoonCourtModel" (206 : Nat) ({ cls := "SpoonCourtModel", name := "isDigit", desc := "()Z" } : Jvm.MethodName)) ∈ lw_all := lw_g (lw_at lw_m6 36 rfl) rfl
theorem q1344 : (Jvm.Cond.privateMethod ({ cls := "SpoonCourtModel", name := "isDigit", desc := "()Z" } : Jvm.MethodName)) ∈ lw_tbl := lw_at lw_m6 37 rfl
theorem q1345 : (Jvm.Cond.instanceMethod ({ cls := "SpoonCourtModel", name := "isDigit", desc := "()Z" } : Jvm.MethodName)) ∈ lw_all := lw_g (lw_at lw_m6 38 rfl) rfl
theorem q1346 : (Jvm.Cond.code ({ cls := "SpoonCourtModel", name := "isDigit", desc := "()Z" } : Jvm.MethodName) prog_17_method_16_code (1 : Nat) (Option.some Jvm.ClassFile.FieldType.boolean)) ∈ lw_all := lw_g (lw_at lw_m6 39 rfl) rfl
theorem q1347 : (Jvm.Cond.constantLong "SpoonCourtModel" (173 : Nat) (48 : Int64)) ∈ lw_all := lw_g (lw_at lw_m6 40 rfl) rfl
theorem q1348 : (Jvm.Cond.constantLong "SpoonCourtModel" (175 : Nat) (57 : Int64)) ∈ lw_all := lw_g (lw_at lw_m6 41 rfl) rfl
theorem q1349 : (Jvm.Cond.methodLink "SpoonCourtModel" (131 : Nat) ({ cls := "SpoonCourtModel", name := "in", desc := "(JJJ)Z" } : Jvm.MethodName)) ∈ lw_all := lw_g (lw_at lw_m6 42 rfl) rfl
theorem q1350 : (Jvm.Cond.static ({ cls := "SpoonCourtModel", name := "in", desc := "(JJJ)Z" } : Jvm.MethodName)) ∈ lw_all := lw_g (lw_at lw_m6 43 rfl) rfl
theorem q1351 : (Jvm.Cond.code ({ cls := "SpoonCourtModel", name := "in", desc := "(JJJ)Z" } : Jvm.MethodName) prog_17_method_3_code (6 : Nat) (Option.some Jvm.ClassFile.FieldType.boolean)) ∈ lw_all := lw_g (lw_at lw_m6 44 rfl) rfl
theorem q1352 : (Jvm.Cond.methodLink "SpoonCourtModel" (273 : Nat) ({ cls := "SpoonCourtModel", name := "quarrelPart", desc := "()V" } : Jvm.MethodName)) ∈ lw_all := lw_g (lw_at lw_m6 45 rfl) rfl
theorem q1353 : (Jvm.Cond.privateMethod ({ cls := "SpoonCourtModel", name := "quarrelPart", desc := "()V" } : Jvm.MethodName)) ∈ lw_tbl := lw_at lw_m6 46 rfl
theorem q1354 : (Jvm.Cond.instanceMethod ({ cls := "SpoonCourtModel", name := "quarrelPart", desc := "()V" } : Jvm.MethodName)) ∈ lw_all := lw_g (lw_at lw_m6 47 rfl) rfl
theorem q1355 : (Jvm.Cond.code ({ cls := "SpoonCourtModel", name := "quarrelPart", desc := "()V" } : Jvm.MethodName) prog_17_method_33_code (4 : Nat) (Option.none : Option Jvm.ClassFile.FieldType)) ∈ lw_all := lw_g (lw_at lw_m6 48 rfl) rfl
theorem q1356 : (Jvm.Cond.methodLink "SpoonCourtModel" (292 : Nat) ({ cls := "SpoonCourtModel", name := "goesOn", desc := "()Z" } : Jvm.MethodName)) ∈ lw_all := lw_g (lw_at lw_m6 49 rfl) rfl
theorem q1357 : (Jvm.Cond.privateMethod ({ cls := "SpoonCourtModel", name := "goesOn", desc := "()Z" } : Jvm.MethodName)) ∈ lw_tbl := lw_at lw_m6 50 rfl
theorem q1358 : (Jvm.Cond.instanceMethod ({ cls := "SpoonCourtModel", name := "goesOn", desc := "()Z" } : Jvm.MethodName)) ∈ lw_all := lw_g (lw_at lw_m6 51 rfl) rfl
theorem q1359 : (Jvm.Cond.code ({ cls := "SpoonCourtModel", name := "goesOn", desc := "()Z" } : Jvm.MethodName) prog_17_method_38_code (2 : Nat) (Option.some Jvm.ClassFile.FieldType.boolean)) ∈ lw_all := lw_g (lw_at lw_m6 52 rfl) rfl
theorem q1360 : (Jvm.Cond.methodLink "SpoonCourtModel" (295 : Nat) ({ cls := "SpoonCourtModel", name := "copies", desc := "([I[I)V" } : Jvm.MethodName)) ∈ lw_all := lw_g (lw_at lw_m6 53 rfl) rfl
theorem q1361 : (Jvm.Cond.static ({ cls := "SpoonCourtModel", name := "copies", desc := "([I[I)V" } : Jvm.MethodName)) ∈ lw_all := lw_g (lw_at lw_m6 54 rfl) rfl
theorem q1362 : (Jvm.Cond.code ({ cls := "SpoonCourtModel", name := "copies", desc := "([I[I)V" } : Jvm.MethodName) prog_17_method_37_code (3 : Nat) (Option.none : Option Jvm.ClassFile.FieldType)) ∈ lw_all := lw_g (lw_at lw_m6 55 rfl) rfl
theorem q1363 : (Jvm.Cond.methodLink "SpoonCourtModel" (302 : Nat) ({ cls := "SpoonCourtModel", name := "begins", desc := "()V" } : Jvm.MethodName)) ∈ lw_all := lw_g (lw_at lw_m6 56 rfl) rfl
theorem q1364 : (Jvm.Cond.privateMethod ({ cls := "SpoonCourtModel", name := "begins", desc := "()V" } : Jvm.MethodName)) ∈ lw_tbl := lw_at lw_m6 57 rfl
theorem q1365 : (Jvm.Cond.instanceMethod ({ cls := "SpoonCourtModel", name := "begins", desc := "()V" } : Jvm.MethodName)) ∈ lw_all := lw_g (lw_at lw_m6 58 rfl) rfl
theorem q1366 : (Jvm.Cond.code ({ cls := "SpoonCourtModel", name := "begins", desc := "()V" } : Jvm.MethodName) prog_17_method_41_code (2 : Nat) (Option.none : Option Jvm.ClassFile.FieldType)) ∈ lw_all := lw_g (lw_at lw_m6 59 rfl) rfl
theorem q1368 : (Jvm.Cond.instanceMethod ({ cls := "SpoonCourtModel", name := "rule", desc := "()I" } : Jvm.MethodName)) ∈ lw_all := lw_g (lw_at lw_m6 61 rfl) rfl
theorem q1369 : (Jvm.Cond.selects "SpoonCourtModel" ({ cls := "SpoonCourtModel", name := "rule", desc := "()I" } : Jvm.MethodName) ({ cls := "SpoonCourtModel", name := "rule", desc := "()I" } : Jvm.MethodName)) ∈ lw_all := lw_g (lw_at lw_m6 62 rfl) rfl
theorem q1370 : (Jvm.Cond.code ({ cls := "SpoonCourtModel", name := "rule", desc := "()I" } : Jvm.MethodName) prog_17_method_44_code (3 : Nat) (Option.some Jvm.ClassFile.FieldType.int)) ∈ lw_all := lw_g (lw_at lw_m6 63 rfl) rfl
theorem q1371 : (Jvm.Cond.methodLink "SpoonCourtModel" (321 : Nat) ({ cls := "SpoonCourtModel", name := "ruleClause", desc := "(I)V" } : Jvm.MethodName)) ∈ lw_all := lw_g (lw_at lw_m6 64 rfl) rfl
theorem q1372 : (Jvm.Cond.privateMethod ({ cls := "SpoonCourtModel", name := "ruleClause", desc := "(I)V" } : Jvm.MethodName)) ∈ lw_tbl := lw_at lw_m6 65 rfl
theorem q1373 : (Jvm.Cond.instanceMethod ({ cls := "SpoonCourtModel", name := "ruleClause", desc := "(I)V" } : Jvm.MethodName)) ∈ lw_all := lw_g (lw_at lw_m6 66 rfl) rfl
theorem q1374 : (Jvm.Cond.code ({ cls := "SpoonCourtModel", name := "ruleClause", desc := "(I)V" } : Jvm.MethodName) prog_17_method_43_code (4 : Nat) (Option.none : Option Jvm.ClassFile.FieldType)) ∈ lw_all := lw_g (lw_at lw_m6 67 rfl) rfl
theorem q1375 : (Jvm.Cond.stringRef "SpoonCourtModel" (308 : Nat) "hold") ∈ lw_tbl := lw_at lw_m6 68 rfl
theorem q1376 : (Jvm.Cond.methodLink "SpoonCourtModel" (231 : Nat) ({ cls := "SpoonCourtModel", name := "sum", desc := "()V" } : Jvm.MethodName)) ∈ lw_all := lw_g (lw_at lw_m6 69 rfl) rfl
theorem q1377 : (Jvm.Cond.privateMethod ({ cls := "SpoonCourtModel", name := "sum", desc := "()V" } : Jvm.MethodName)) ∈ lw_tbl := lw_at lw_m6 70 rfl
theorem q1378 : (Jvm.Cond.instanceMethod ({ cls := "SpoonCourtModel", name := "sum", desc := "()V" } : Jvm.MethodName)) ∈ lw_all := lw_g (lw_at lw_m6 71 rfl) rfl
theorem q1379 : (Jvm.Cond.code ({ cls := "SpoonCourtModel", name := "sum", desc := "()V" } : Jvm.MethodName) prog_17_method_24_code (2 : Nat) (Option.none : Option Jvm.ClassFile.FieldType)) ∈ lw_all := lw_g (lw_at lw_m6 72 rfl) rfl
theorem q1380 : (Jvm.Cond.methodLink "SpoonCourtModel" (228 : Nat) ({ cls := "SpoonCourtModel", name := "term", desc := "()V" } : Jvm.MethodName)) ∈ lw_all := lw_g (lw_at lw_m6 73 rfl) rfl
theorem q1381 : (Jvm.Cond.privateMethod ({ cls := "SpoonCourtModel", name := "term", desc := "()V" } : Jvm.MethodName)) ∈ lw_tbl := lw_at lw_m6 74 rfl
theorem q1382 : (Jvm.Cond.instanceMethod ({ cls := "SpoonCourtModel", name := "term", desc := "()V" } : Jvm.MethodName)) ∈ lw_all := lw_g (lw_at lw_m6 75 rfl) rfl
theorem q1383 : (Jvm.Cond.code ({ cls := "SpoonCourtModel", name := "term", desc := "()V" } : Jvm.MethodName) prog_17_method_23_code (2 : Nat) (Option.none : Option Jvm.ClassFile.FieldType)) ∈ lw_all := lw_g (lw_at lw_m6 76 rfl) rfl
theorem q1384 : (Jvm.Cond.methodLink "SpoonCourtModel" (225 : Nat) ({ cls := "SpoonCourtModel", name := "value", desc := "()V" } : Jvm.MethodName)) ∈ lw_all := lw_g (lw_at lw_m6 77 rfl) rfl
theorem q1385 : (Jvm.Cond.privateMethod ({ cls := "SpoonCourtModel", name := "value", desc := "()V" } : Jvm.MethodName)) ∈ lw_tbl := lw_at lw_m6 78 rfl
theorem q1386 : (Jvm.Cond.instanceMethod ({ cls := "SpoonCourtModel", name := "value", desc := "()V" } : Jvm.MethodName)) ∈ lw_all := lw_g (lw_at lw_m6 79 rfl) rfl
theorem q1387 : (Jvm.Cond.code ({ cls := "SpoonCourtModel", name := "value", desc := "()V" } : Jvm.MethodName) prog_17_method_22_code (3 : Nat) (Option.none : Option Jvm.ClassFile.FieldType)) ∈ lw_all := lw_g (lw_at lw_m6 80 rfl) rfl
theorem q1388 : (Jvm.Cond.methodLink "SpoonCourtModel" (215 : Nat) ({ cls := "SpoonCourtModel", name := "isCounted", desc := "(I)V" } : Jvm.MethodName)) ∈ lw_all := lw_g (lw_at lw_m6 81 rfl) rfl
theorem q1389 : (Jvm.Cond.privateMethod ({ cls := "SpoonCourtModel", name := "isCounted", desc := "(I)V" } : Jvm.MethodName)) ∈ lw_tbl := lw_at lw_m6 82 rfl
theorem q1390 : (Jvm.Cond.instanceMethod ({ cls := "SpoonCourtModel", name := "isCounted", desc := "(I)V" } : Jvm.MethodName)) ∈ lw_all := lw_g (lw_at lw_m6 83 rfl) rfl
theorem q1391 : (Jvm.Cond.code ({ cls := "SpoonCourtModel", name := "isCounted", desc := "(I)V" } : Jvm.MethodName) prog_17_method_20_code (2 : Nat) (Option.none : Option Jvm.ClassFile.FieldType)) ∈ lw_all := lw_g (lw_at lw_m6 84 rfl) rfl
theorem q1392 : (Jvm.Cond.methodLink "SpoonCourtModel" (218 : Nat) ({ cls := "SpoonCourtModel", name := "entry", desc := "(II)V" } : Jvm.MethodName)) ∈ lw_all := lw_g (lw_at lw_m6 85 rfl) rfl
theorem q1393 : (Jvm.Cond.privateMethod ({ cls := "SpoonCourtModel", name := "entry", desc := "(II)V" } : Jvm.MethodName)) ∈ lw_tbl := lw_at lw_m6 86 rfl
theorem q1394 : (Jvm.Cond.instanceMethod ({ cls := "SpoonCourtModel", name := "entry", desc := "(II)V" } : Jvm.MethodName)) ∈ lw_all := lw_g (lw_at lw_m6 87 rfl) rfl
theorem q1395 : (Jvm.Cond.code ({ cls := "SpoonCourtModel", name := "entry", desc := "(II)V" } : Jvm.MethodName) prog_17_method_19_code (3 : Nat) (Option.none : Option Jvm.ClassFile.FieldType)) ∈ lw_all := lw_g (lw_at lw_m6 88 rfl) rfl
theorem q1396 : (Jvm.Cond.methodLink "SpoonCourtModel" (221 : Nat) ({ cls := "SpoonCourtModel", name := "wordOf", desc := "(I)Ljava/lang/String;" } : Jvm.MethodName)) ∈ lw_all := lw_g (lw_at lw_m6 89 rfl) rfl
theorem q1397 : (Jvm.Cond.static ({ cls := "SpoonCourtModel", name := "wordOf", desc := "(I)Ljava/lang/String;" } : Jvm.MethodName)) ∈ lw_all := lw_g (lw_at lw_m6 90 rfl) rfl
theorem q1398 : (Jvm.Cond.code ({ cls := "SpoonCourtModel", name := "wordOf", desc := "(I)Ljava/lang/String;" } : Jvm.MethodName) prog_17_method_12_code (1 : Nat) (Option.some (Jvm.ClassFile.FieldType.object "java/lang/String"))) ∈ lw_all := lw_g (lw_at lw_m6 91 rfl) rfl
theorem q1399 : (Jvm.Cond.stringRef "SpoonCourtModel" (144 : Nat) "rank") ∈ lw_tbl := lw_at lw_m6 92 rfl
theorem q1400 : (Jvm.Cond.stringRef "SpoonCourtModel" (145 : Nat) "clock") ∈ lw_tbl := lw_at lw_m6 93 rfl
theorem q1401 : (Jvm.Cond.stringRef "SpoonCourtModel" (147 : Nat) "usual") ∈ lw_tbl := lw_at lw_m6 94 rfl
theorem q1402 : (Jvm.Cond.stringRef "SpoonCourtModel" (149 : Nat) "last") ∈ lw_tbl := lw_at lw_m6 95 rfl
theorem q1403 : (Jvm.Cond.stringRef "SpoonCourtModel" (151 : Nat) "times") ∈ lw_tbl := lw_at lw_m6 96 rfl
theorem q1404 : (Jvm.Cond.stringRef "SpoonCourtModel" (152 : Nat) "titles") ∈ lw_tbl := lw_at lw_m6 97 rfl
theorem q1405 : (Jvm.Cond.stringRef "SpoonCourtModel" (153 : Nat) "due") ∈ lw_tbl := lw_at lw_m6 98 rfl
theorem q1406 : (Jvm.Cond.stringRef "SpoonCourtModel" (155 : Nat) "knights") ∈ lw_tbl := lw_at lw_m6 99 rfl
theorem q1407 : (Jvm.Cond.stringRef "SpoonCourtModel" (157 : Nat) "most") ∈ lw_tbl := lw_at lw_m6 100 rfl
theorem q1408 : (Jvm.Cond.stringRef "SpoonCourtModel" (159 : Nat) "people") ∈ lw_tbl := lw_at lw_m6 101 rfl
theorem q1409 : (Jvm.Cond.stringRef "SpoonCourtModel" (161 : Nat) "hour") ∈ lw_tbl := lw_at lw_m6 102 rfl
theorem q1410 : (Jvm.Cond.stringRef "SpoonCourtModel" (310 : Nat) "if") ∈ lw_tbl := lw_at lw_m6 103 rfl
theorem q1411 : (Jvm.Cond.methodLink "SpoonCourtModel" (312 : Nat) ({ cls := "SpoonCourtModel", name := "takes", desc := "(Ljava/lang/String;)Z" } : Jvm.MethodName)) ∈ lw_all := lw_g (lw_at lw_m6 104 rfl) rfl
theorem q1412 : (Jvm.Cond.privateMethod ({ cls := "SpoonCourtModel", name := "takes", desc := "(Ljava/lang/String;)Z" } : Jvm.MethodName)) ∈ lw_tbl := lw_at lw_m6 105 rfl
theorem q1413 : (Jvm.Cond.instanceMethod ({ cls := "SpoonCourtModel", name := "takes", desc := "(Ljava/lang/String;)Z" } : Jvm.MethodName)) ∈ lw_all := lw_g (lw_at lw_m6 106 rfl) rfl
theorem q1414 : (Jvm.Cond.code ({ cls := "SpoonCourtModel", name := "takes", desc := "(Ljava/lang/String;)Z" } : Jvm.MethodName) prog_17_method_18_code (3 : Nat) (Option.some Jvm.ClassFile.FieldType.boolean)) ∈ lw_all := lw_g (lw_at lw_m6 107 rfl) rfl
theorem q1415 : (Jvm.Cond.methodLink "SpoonCourtModel" (315 : Nat) ({ cls := "SpoonCourtModel", name := "test", desc := "()V" } : Jvm.MethodName)) ∈ lw_all := lw_g (lw_at lw_m6 108 rfl) rfl
theorem q1416 : (Jvm.Cond.privateMethod ({ cls := "SpoonCourtModel", name := "test", desc := "()V" } : Jvm.MethodName)) ∈ lw_tbl := lw_at lw_m6 109 rfl
theorem q1417 : (Jvm.Cond.instanceMethod ({ cls := "SpoonCourtModel", name := "test", desc := "()V" } : Jvm.MethodName)) ∈ lw_all := lw_g (lw_at lw_m6 110 rfl) rfl
theorem q1418 : (Jvm.Cond.code ({ cls := "SpoonCourtModel", name := "test", desc := "()V" } : Jvm.MethodName) prog_17_method_30_code (5 : Nat) (Option.none : Option Jvm.ClassFile.FieldType)) ∈ lw_all := lw_g (lw_at lw_m6 111 rfl) rfl
theorem q1419 : (Jvm.Cond.methodLink "SpoonCourtModel" (251 : Nat) ({ cls := "SpoonCourtModel", name := "fact", desc := "()Z" } : Jvm.MethodName)) ∈ lw_all := lw_g (lw_at lw_m6 112 rfl) rfl
theorem q1420 : (Jvm.Cond.privateMethod ({ cls := "SpoonCourtModel", name := "fact", desc := "()Z" } : Jvm.MethodName)) ∈ lw_tbl := lw_at lw_m6 113 rfl
theorem q1421 : (Jvm.Cond.instanceMethod ({ cls := "SpoonCourtModel", name := "fact", desc := "()Z" } : Jvm.MethodName)) ∈ lw_all := lw_g (lw_at lw_m6 114 rfl) rfl
theorem q1422 : (Jvm.Cond.code ({ cls := "SpoonCourtModel", name := "fact", desc := "()Z" } : Jvm.MethodName) prog_17_method_29_code (1 : Nat) (Option.some Jvm.ClassFile.FieldType.boolean)) ∈ lw_all := lw_g (lw_at lw_m6 115 rfl) rfl
theorem q1423 : (Jvm.Cond.stringRef "SpoonCourtModel" (243 : Nat) "not") ∈ lw_tbl := lw_at lw_m6 116 rfl
theorem q1424 : (Jvm.Cond.methodLink "SpoonCourtModel" (245 : Nat) ({ cls := "SpoonCourtModel", name := "opens", desc := "(I)V" } : Jvm.MethodName)) ∈ lw_all := lw_g (lw_at lw_m6 117 rfl) rfl
theorem q1425 : (Jvm.Cond.privateMethod ({ cls := "SpoonCourtModel", name := "opens", desc := "(I)V" } : Jvm.MethodName)) ∈ lw_tbl := lw_at lw_m6 118 rfl
theorem q1426 : (Jvm.Cond.instanceMethod ({ cls := "SpoonCourtModel", name := "opens", desc := "(I)V" } : Jvm.MethodName)) ∈ lw_all := lw_g (lw_at lw_m6 119 rfl) rfl
theorem q1427 : (Jvm.Cond.code ({ cls := "SpoonCourtModel", name := "opens", desc := "(I)V" } : Jvm.MethodName) prog_17_method_27_code (2 : Nat) (Option.none : Option Jvm.ClassFile.FieldType)) ∈ lw_all := lw_g (lw_at lw_m6 120 rfl) rfl
theorem q1428 : (Jvm.Cond.methodLink "SpoonCourtModel" (248 : Nat) ({ cls := "SpoonCourtModel", name := "compared", desc := "()V" } : Jvm.MethodName)) ∈ lw_all := lw_g (lw_at lw_m6 121 rfl) rfl
theorem q1429 : (Jvm.Cond.privateMethod ({ cls := "SpoonCourtModel", name := "compared", desc := "()V" } : Jvm.MethodName)) ∈ lw_tbl := lw_at lw_m6 122 rfl
theorem q1430 : (Jvm.Cond.instanceMethod ({ cls := "SpoonCourtModel", name := "compared", desc := "()V" } : Jvm.MethodName)) ∈ lw_all := lw_g (lw_at lw_m6 123 rfl) rfl
theorem q1431 : (Jvm.Cond.code ({ cls := "SpoonCourtModel", name := "compared", desc := "()V" } : Jvm.MethodName) prog_17_method_25_code (3 : Nat) (Option.none : Option Jvm.ClassFile.FieldType)) ∈ lw_all := lw_g (lw_at lw_m6 124 rfl) rfl
theorem q1432 : (Jvm.Cond.methodLink "SpoonCourtModel" (254 : Nat) ({ cls := "SpoonCourtModel", name := "answers", desc := "(I)V" } : Jvm.MethodName)) ∈ lw_all := lw_g (lw_at lw_m6 125 rfl) rfl
theorem q1433 : (Jvm.Cond.privateMethod ({ cls := "SpoonCourtModel", name := "answers", desc := "(I)V" } : Jvm.MethodName)) ∈ lw_tbl := lw_at lw_m6 126 rfl
theorem q1434 : (Jvm.Cond.instanceMethod ({ cls := "SpoonCourtModel", name := "answers", desc := "(I)V" } : Jvm.MethodName)) ∈ lw_all := lw_g (lw_at lw_m6 127 rfl) rfl
theorem q1435 : (Jvm.Cond.code ({ cls := "SpoonCourtModel", name := "answers", desc := "(I)V" } : Jvm.MethodName) prog_17_method_28_code (2 : Nat) (Option.none : Option Jvm.ClassFile.FieldType)) ∈ lw_all := lw_g (lw_at lw_m6 128 rfl) rfl
theorem q1436 : (Jvm.Cond.methodLink "SpoonCourtModel" (240 : Nat) ({ cls := "SpoonCourtModel", name := "top", desc := "()I" } : Jvm.MethodName)) ∈ lw_all := lw_g (lw_at lw_m6 129 rfl) rfl
theorem q1437 : (Jvm.Cond.privateMethod ({ cls := "SpoonCourtModel", name := "top", desc := "()I" } : Jvm.MethodName)) ∈ lw_tbl := lw_at lw_m6 130 rfl
theorem q1438 : (Jvm.Cond.instanceMethod ({ cls := "SpoonCourtModel", name := "top", desc := "()I" } : Jvm.MethodName)) ∈ lw_all := lw_g (lw_at lw_m6 131 rfl) rfl
theorem q1439 : (Jvm.Cond.code ({ cls := "SpoonCourtModel", name := "top", desc := "()I" } : Jvm.MethodName) prog_17_method_26_code (1 : Nat) (Option.some Jvm.ClassFile.FieldType.int)) ∈ lw_all := lw_g (lw_at lw_m6 132 rfl) rfl
theorem q1440 : (Jvm.Cond.stringRef "SpoonCourtModel" (257 : Nat) "and") ∈ lw_tbl := lw_at lw_m6 133 rfl
theorem q1441 : (Jvm.Cond.stringRef "SpoonCourtModel" (259 : Nat) "or") ∈ lw_tbl := lw_at lw_m6 134 rfl
theorem q1443 : (Jvm.Cond.instanceMethod ({ cls := "SpoonCourtModel", name := "force", desc := "(I)I" } : Jvm.MethodName)) ∈ lw_all := lw_g (lw_at lw_m6 136 rfl) rfl
theorem q1444 : (Jvm.Cond.selects "SpoonCourtModel" ({ cls := "SpoonCourtModel", name := "force", desc := "(I)I" } : Jvm.MethodName) ({ cls := "SpoonCourtModel", name := "force", desc := "(I)I" } : Jvm.MethodName)) ∈ lw_all := lw_g (lw_at lw_m6 137 rfl) rfl
theorem q1445 : (Jvm.Cond.code ({ cls := "SpoonCourtModel", name := "force", desc := "(I)I" } : Jvm.MethodName) prog_17_method_45_code (3 : Nat) (Option.some Jvm.ClassFile.FieldType.int)) ∈ lw_all := lw_g (lw_at lw_m6 138 rfl) rfl
theorem q1446 : (Jvm.Cond.constantLong "SpoonCourtModel" (324 : Nat) (-1 : Int64)) ∈ lw_all := lw_g (lw_at lw_m6 139 rfl) rfl
theorem q1448 : (Jvm.Cond.instanceMethod ({ cls := "SpoonCourtModel", name := "thing", desc := "(II)I" } : Jvm.MethodName)) ∈ lw_all := lw_g (lw_at lw_m6 141 rfl) rfl
theorem q1449 : (Jvm.Cond.selects "SpoonCourtModel" ({ cls := "SpoonCourtModel", name := "thing", desc := "(II)I" } : Jvm.MethodName) ({ cls := "SpoonCourtModel", name := "thing", desc := "(II)I" } : Jvm.MethodName)) ∈ lw_all := lw_g (lw_at lw_m6 142 rfl) rfl
theorem q1450 : (Jvm.Cond.code ({ cls := "SpoonCourtModel", name := "thing", desc := "(II)I" } : Jvm.MethodName) prog_17_method_51_code (3 : Nat) (Option.some Jvm.ClassFile.FieldType.int)) ∈ lw_all := lw_g (lw_at lw_m6 143 rfl) rfl
theorem q1451 : (Jvm.Cond.methodLink "SpoonCourtModel" (338 : Nat) ({ cls := "SpoonCourtModel", name := "isThing", desc := "(I)Z" } : Jvm.MethodName)) ∈ lw_all := lw_g (lw_at lw_m6 144 rfl) rfl
theorem q1452 : (Jvm.Cond.privateMethod ({ cls := "SpoonCourtModel", name := "isThing", desc := "(I)Z" } : Jvm.MethodName)) ∈ lw_tbl := lw_at lw_m6 145 rfl
theorem q1453 : (Jvm.Cond.instanceMethod ({ cls := "SpoonCourtModel", name := "isThing", desc := "(I)Z" } : Jvm.MethodName)) ∈ lw_all := lw_g (lw_at lw_m6 146 rfl) rfl
theorem q1454 : (Jvm.Cond.code ({ cls := "SpoonCourtModel", name := "isThing", desc := "(I)Z" } : Jvm.MethodName) prog_17_method_7_code (2 : Nat) (Option.some Jvm.ClassFile.FieldType.boolean)) ∈ lw_all := lw_g (lw_at lw_m6 147 rfl) rfl
theorem q1455 : (Jvm.Cond.methodLink "SpoonCourtModel" (342 : Nat) ({ cls := "SpoonCourtModel", name := "knightsOf", desc := "(I)I" } : Jvm.MethodName)) ∈ lw_all := lw_g (lw_at lw_m6 148 rfl) rfl
theorem q1456 : (Jvm.Cond.privateMethod ({ cls := "SpoonCourtModel", name := "knightsOf", desc := "(I)I" } : Jvm.MethodName)) ∈ lw_tbl := lw_at lw_m6 149 rfl
theorem q1457 : (Jvm.Cond.instanceMethod ({ cls := "SpoonCourtModel", name := "knightsOf", desc := "(I)I" } : Jvm.MethodName)) ∈ lw_all := lw_g (lw_at lw_m6 150 rfl) rfl
theorem q1458 : (Jvm.Cond.code ({ cls := "SpoonCourtModel", name := "knightsOf", desc := "(I)I" } : Jvm.MethodName) prog_17_method_50_code (4 : Nat) (Option.some Jvm.ClassFile.FieldType.int)) ∈ lw_all := lw_g (lw_at lw_m6 151 rfl) rfl
theorem q1460 : (Jvm.Cond.instanceMethod ({ cls := "SpoonCourtModel", name := "usual", desc := "(I)I" } : Jvm.MethodName)) ∈ lw_all := lw_g (lw_at lw_m6 153 rfl) rfl
theorem q1461 : (Jvm.Cond.selects "SpoonCourtModel" ({ cls := "SpoonCourtModel", name := "usual", desc := "(I)I" } : Jvm.MethodName) ({ cls := "SpoonCourtModel", name := "usual", desc := "(I)I" } : Jvm.MethodName)) ∈ lw_all := lw_g (lw_at lw_m6 154 rfl) rfl
theorem q1462 : (Jvm.Cond.code ({ cls := "SpoonCourtModel", name := "usual", desc := "(I)I" } : Jvm.MethodName) prog_17_method_52_code (2 : Nat) (Option.some Jvm.ClassFile.FieldType.int)) ∈ lw_all := lw_g (lw_at lw_m6 155 rfl) rfl
theorem q1463 : (Jvm.Cond.methodLink "SpoonCourtModel" (345 : Nat) ({ cls := "SpoonCourtModel", name := "isCourt", desc := "()Z" } : Jvm.MethodName)) ∈ lw_all := lw_g (lw_at lw_m6 156 rfl) rfl
theorem q1464 : (Jvm.Cond.privateMethod ({ cls := "SpoonCourtModel", name := "isCourt", desc := "()Z" } : Jvm.MethodName)) ∈ lw_tbl := lw_at lw_m6 157 rfl
theorem q1465 : (Jvm.Cond.instanceMethod ({ cls := "SpoonCourtModel", name := "isCourt", desc := "()Z" } : Jvm.MethodName)) ∈ lw_all := lw_g (lw_at lw_m6 158 rfl) rfl
theorem q1466 : (Jvm.Cond.code ({ cls := "SpoonCourtModel", name := "isCourt", desc := "()Z" } : Jvm.MethodName) prog_17_method_6_code (1 : Nat) (Option.some Jvm.ClassFile.FieldType.boolean)) ∈ lw_all := lw_g (lw_at lw_m6 159 rfl) rfl
theorem q1468 : (Jvm.Cond.instanceMethod ({ cls := "SpoonCourtModel", name := "person", desc := "(II)I" } : Jvm.MethodName)) ∈ lw_all := lw_g (lw_at lw_m6 161 rfl) rfl
theorem q1469 : (Jvm.Cond.selects "SpoonCourtModel" ({ cls := "SpoonCourtModel", name := "person", desc := "(II)I" } : Jvm.MethodName) ({ cls := "SpoonCourtModel", name := "person", desc := "(II)I" } : Jvm.MethodName)) ∈ lw_all := lw_g (lw_at lw_m6 162 rfl) rfl
theorem q1470 : (Jvm.Cond.code ({ cls := "SpoonCourtModel", name := "person", desc := "(II)I" } : Jvm.MethodName) prog_17_method_54_code (3 : Nat) (Option.some Jvm.ClassFile.FieldType.int)) ∈ lw_all := lw_g (lw_at lw_m6 163 rfl) rfl
theorem q1471 : (Jvm.Cond.methodLink "SpoonCourtModel" (351 : Nat) ({ cls := "SpoonCourtModel", name := "isPerson", desc := "(I)Z" } : Jvm.MethodName)) ∈ lw_all := lw_g (lw_at lw_m6 164 rfl) rfl
theorem q1472 : (Jvm.Cond.privateMethod ({ cls := "SpoonCourtModel", name := "isPerson", desc := "(I)Z" } : Jvm.MethodName)) ∈ lw_tbl := lw_at lw_m6 165 rfl
theorem q1473 : (Jvm.Cond.instanceMethod ({ cls := "SpoonCourtModel", name := "isPerson", desc := "(I)Z" } : Jvm.MethodName)) ∈ lw_all := lw_g (lw_at lw_m6 166 rfl) rfl
theorem q1474 : (Jvm.Cond.code ({ cls := "SpoonCourtModel", name := "isPerson", desc := "(I)Z" } : Jvm.MethodName) prog_17_method_8_code (2 : Nat) (Option.some Jvm.ClassFile.FieldType.boolean)) ∈ lw_all := lw_g (lw_at lw_m6 167 rfl) rfl
theorem q1475 : (Jvm.Cond.methodLink "SpoonCourtModel" (354 : Nat) ({ cls := "SpoonCourtModel", name := "rankOf", desc := "(I)I" } : Jvm.MethodName)) ∈ lw_all := lw_g (lw_at lw_m6 168 rfl) rfl
theorem q1476 : (Jvm.Cond.privateMethod ({ cls := "SpoonCourtModel", name := "rankOf", desc := "(I)I" } : Jvm.MethodName)) ∈ lw_tbl := lw_at lw_m6 169 rfl
theorem q1477 : (Jvm.Cond.instanceMethod ({ cls := "SpoonCourtModel", name := "rankOf", desc := "(I)I" } : Jvm.MethodName)) ∈ lw_all := lw_g (lw_at lw_m6 170 rfl) rfl
theorem q1478 : (Jvm.Cond.code ({ cls := "SpoonCourtModel", name := "rankOf", desc := "(I)I" } : Jvm.MethodName) prog_17_method_53_code (4 : Nat) (Option.some Jvm.ClassFile.FieldType.int)) ∈ lw_all := lw_g (lw_at lw_m6 171 rfl) rfl
theorem q1479 : (Jvm.Cond.methodLink "SpoonCourtModel" (348 : Nat) ({ cls := "SpoonCourtModel", name := "has", desc := "(II)Z" } : Jvm.MethodName)) ∈ lw_all := lw_g (lw_at lw_m6 172 rfl) rfl
theorem q1480 : (Jvm.Cond.static ({ cls := "SpoonCourtModel", name := "has", desc := "(II)Z" } : Jvm.MethodName)) ∈ lw_all := lw_g (lw_at lw_m6 173 rfl) rfl
theorem q1481 : (Jvm.Cond.code ({ cls := "SpoonCourtModel", name := "has", desc := "(II)Z" } : Jvm.MethodName) prog_17_method_5_code (2 : Nat) (Option.some Jvm.ClassFile.FieldType.boolean)) ∈ lw_all := lw_g (lw_at lw_m6 174 rfl) rfl
theorem q1483 : (Jvm.Cond.instanceMethod ({ cls := "SpoonCourtModel", name := "undo", desc := "()I" } : Jvm.MethodName)) ∈ lw_all := lw_g (lw_at lw_m6 176 rfl) rfl
theorem q1484 : (Jvm.Cond.selects "SpoonCourtModel" ({ cls := "SpoonCourtModel", name := "undo", desc := "()I" } : Jvm.MethodName) ({ cls := "SpoonCourtModel", name := "undo", desc := "()I" } : Jvm.MethodName)) ∈ lw_all := lw_g (lw_at lw_m6 177 rfl) rfl
theorem q1485 : (Jvm.Cond.code ({ cls := "SpoonCourtModel", name := "undo", desc := "()I" } : Jvm.MethodName) prog_17_method_65_code (1 : Nat) (Option.some Jvm.ClassFile.FieldType.int)) ∈ lw_all := lw_g (lw_at lw_m6 178 rfl) rfl
theorem q1486 : (Jvm.Cond.methodLink "SpoonCourtModel" (392 : Nat) ({ cls := "SpoonCourtModel", name := "movesAll", desc := "(IZ)V" } : Jvm.MethodName)) ∈ lw_all := lw_g (lw_at lw_m6 179 rfl) rfl
theorem q1487 : (Jvm.Cond.privateMethod ({ cls := "SpoonCourtModel", name := "movesAll", desc := "(IZ)V" } : Jvm.MethodName)) ∈ lw_tbl := lw_at lw_m6 180 rfl
theorem q1488 : (Jvm.Cond.instanceMethod ({ cls := "SpoonCourtModel", name := "movesAll", desc := "(IZ)V" } : Jvm.MethodName)) ∈ lw_all := lw_g (lw_at lw_m6 181 rfl) rfl
theorem q1489 : (Jvm.Cond.code ({ cls := "SpoonCourtModel", name := "movesAll", desc := "(IZ)V" } : Jvm.MethodName) prog_17_method_63_code (4 : Nat) (Option.none : Option Jvm.ClassFile.FieldType)) ∈ lw_all := lw_g (lw_at lw_m6 182 rfl) rfl
theorem q1490 : (Jvm.Cond.methodLink "SpoonCourtModel" (385 : Nat) ({ cls := "SpoonCourtModel", name := "moves", desc := "(I)I" } : Jvm.MethodName)) ∈ lw_all := lw_g (lw_at lw_m6 183 rfl) rfl
theorem q1491 : (Jvm.Cond.privateMethod ({ cls := "SpoonCourtModel", name := "moves", desc := "(I)I" } : Jvm.MethodName)) ∈ lw_tbl := lw_at lw_m6 184 rfl
theorem q1492 : (Jvm.Cond.instanceMethod ({ cls := "SpoonCourtModel", name := "moves", desc := "(I)I" } : Jvm.MethodName)) ∈ lw_all := lw_g (lw_at lw_m6 185 rfl) rfl
theorem q1493 : (Jvm.Cond.code ({ cls := "SpoonCourtModel", name := "moves", desc := "(I)I" } : Jvm.MethodName) prog_17_method_61_code (3 : Nat) (Option.some Jvm.ClassFile.FieldType.int)) ∈ lw_all := lw_g (lw_at lw_m6 186 rfl) rfl
theorem q1494 : (Jvm.Cond.methodLink "SpoonCourtModel" (388 : Nat) ({ cls := "SpoonCourtModel", name := "movesRow", desc := "([I)V" } : Jvm.MethodName)) ∈ lw_all := lw_g (lw_at lw_m6 187 rfl) rfl
theorem q1495 : (Jvm.Cond.privateMethod ({ cls := "SpoonCourtModel", name := "movesRow", desc := "([I)V" } : Jvm.MethodName)) ∈ lw_tbl := lw_at lw_m6 188 rfl
theorem q1496 : (Jvm.Cond.instanceMethod ({ cls := "SpoonCourtModel", name := "movesRow", desc := "([I)V" } : Jvm.MethodName)) ∈ lw_all := lw_g (lw_at lw_m6 189 rfl) rfl
theorem q1497 : (Jvm.Cond.code ({ cls := "SpoonCourtModel", name := "movesRow", desc := "([I)V" } : Jvm.MethodName) prog_17_method_62_code (3 : Nat) (Option.none : Option Jvm.ClassFile.FieldType)) ∈ lw_all := lw_g (lw_at lw_m6 190 rfl) rfl
theorem q1499 : (Jvm.Cond.instanceMethod ({ cls := "SpoonCourtModel", name := "hour", desc := "()I" } : Jvm.MethodName)) ∈ lw_all := lw_g (lw_at lw_m6 192 rfl) rfl
theorem q1500 : (Jvm.Cond.selects "SpoonCourtModel" ({ cls := "SpoonCourtModel", name := "hour", desc := "()I" } : Jvm.MethodName) ({ cls := "SpoonCourtModel", name := "hour", desc := "()I" } : Jvm.MethodName)) ∈ lw_all := lw_g (lw_at lw_m6 193 rfl) rfl
theorem q1501 : (Jvm.Cond.code ({ cls := "SpoonCourtModel", name := "hour", desc := "()I" } : Jvm.MethodName) prog_17_method_66_code (1 : Nat) (Option.some Jvm.ClassFile.FieldType.int)) ∈ lw_all := lw_g (lw_at lw_m6 194 rfl) rfl
theorem q1502 : (Jvm.Cond.methodLink "SpoonCourtModel" (396 : Nat) ({ cls := "SpoonCourtModel", name := "keepsAct", desc := "()V" } : Jvm.MethodName)) ∈ lw_all := lw_g (lw_at lw_m6 195 rfl) rfl
theorem q1503 : (Jvm.Cond.privateMethod ({ cls := "SpoonCourtModel", name := "keepsAct", desc := "()V" } : Jvm.MethodName)) ∈ lw_tbl := lw_at lw_m6 196 rfl
theorem q1504 : (Jvm.Cond.instanceMethod ({ cls := "SpoonCourtModel", name := "keepsAct", desc := "()V" } : Jvm.MethodName)) ∈ lw_all := lw_g (lw_at lw_m6 197 rfl) rfl
theorem q1505 : (Jvm.Cond.code ({ cls := "SpoonCourtModel", name := "keepsAct", desc := "()V" } : Jvm.MethodName) prog_17_method_64_code (2 : Nat) (Option.none : Option Jvm.ClassFile.FieldType)) ∈ lw_all := lw_g (lw_at lw_m6 198 rfl) rfl
theorem q1506 : (Jvm.Cond.methodLink "SpoonCourtModel" (375 : Nat) ({ cls := "SpoonCourtModel", name := "goes", desc := "()I" } : Jvm.MethodName)) ∈ lw_all := lw_g (lw_at lw_m6 199 rfl) rfl
theorem q1507 : (Jvm.Cond.privateMethod ({ cls := "SpoonCourtModel", name := "goes", desc := "()I" } : Jvm.MethodName)) ∈ lw_tbl := lw_at lw_m6 200 rfl
theorem q1508 : (Jvm.Cond.instanceMethod ({ cls := "SpoonCourtModel", name := "goes", desc := "()I" } : Jvm.MethodName)) ∈ lw_all := lw_g (lw_at lw_m6 201 rfl) rfl
theorem q1509 : (Jvm.Cond.code ({ cls := "SpoonCourtModel", name := "goes", desc := "()I" } : Jvm.MethodName) prog_17_method_59_code (4 : Nat) (Option.some Jvm.ClassFile.FieldType.int)) ∈ lw_all := lw_g (lw_at lw_m6 202 rfl) rfl
theorem q1510 : (Jvm.Cond.methodLink "SpoonCourtModel" (370 : Nat) ({ cls := "SpoonCourtModel", name := "holds", desc := "()I" } : Jvm.MethodName)) ∈ lw_all := lw_g (lw_at lw_m6 203 rfl) rfl
theorem q1511 : (Jvm.Cond.privateMethod ({ cls := "SpoonCourtModel", name := "holds", desc := "()I" } : Jvm.MethodName)) ∈ lw_tbl := lw_at lw_m6 204 rfl
theorem q1512 : (Jvm.Cond.instanceMethod ({ cls := "SpoonCourtModel", name := "holds", desc := "()I" } : Jvm.MethodName)) ∈ lw_all := lw_g (lw_at lw_m6 205 rfl) rfl
theorem q1513 : (Jvm.Cond.code ({ cls := "SpoonCourtModel", name := "holds", desc := "()I" } : Jvm.MethodName) prog_17_method_57_code (7 : Nat) (Option.some Jvm.ClassFile.FieldType.int)) ∈ lw_all := lw_g (lw_at lw_m6 206 rfl) rfl
theorem q1514 : (Jvm.Cond.methodLink "SpoonCourtModel" (366 : Nat) ({ cls := "SpoonCourtModel", name := "sumOf", desc := "(I)J" } : Jvm.MethodName)) ∈ lw_all := lw_g (lw_at lw_m6 207 rfl) rfl
theorem q1515 : (Jvm.Cond.privateMethod ({ cls := "SpoonCourtModel", name := "sumOf", desc := "(I)J" } : Jvm.MethodName)) ∈ lw_tbl := lw_at lw_m6 208 rfl
theorem q1516 : (Jvm.Cond.instanceMethod ({ cls := "SpoonCourtModel", name := "sumOf", desc := "(I)J" } : Jvm.MethodName)) ∈ lw_all := lw_g (lw_at lw_m6 209 rfl) rfl
theorem q1517 : (Jvm.Cond.code ({ cls := "SpoonCourtModel", name := "sumOf", desc := "(I)J" } : Jvm.MethodName) prog_17_method_56_code (5 : Nat) (Option.some Jvm.ClassFile.FieldType.long)) ∈ lw_all := lw_g (lw_at lw_m6 210 rfl) rfl
theorem q1518 : (Jvm.Cond.methodLink "SpoonCourtModel" (357 : Nat) ({ cls := "SpoonCourtModel", name := "knights", desc := "()I" } : Jvm.MethodName)) ∈ lw_all := lw_g (lw_at lw_m6 211 rfl) rfl
theorem q1519 : (Jvm.Cond.privateMethod ({ cls := "SpoonCourtModel", name := "knights", desc := "()I" } : Jvm.MethodName)) ∈ lw_tbl := lw_at lw_m6 212 rfl
theorem q1520 : (Jvm.Cond.instanceMethod ({ cls := "SpoonCourtModel", name := "knights", desc := "()I" } : Jvm.MethodName)) ∈ lw_all := lw_g (lw_at lw_m6 213 rfl) rfl
theorem q1521 : (Jvm.Cond.code ({ cls := "SpoonCourtModel", name := "knights", desc := "()I" } : Jvm.MethodName) prog_17_method_55_code (3 : Nat) (Option.some Jvm.ClassFile.FieldType.int)) ∈ lw_all := lw_g (lw_at lw_m6 214 rfl) rfl
theorem q1522 : (Jvm.Cond.methodLink "SpoonCourtModel" (359 : Nat) ({ cls := "SpoonCourtModel", name := "bits", desc := "(I)I" } : Jvm.MethodName)) ∈ lw_all := lw_g (lw_at lw_m6 215 rfl) rfl
theorem q1523 : (Jvm.Cond.static ({ cls := "SpoonCourtModel", name := "bits", desc := "(I)I" } : Jvm.MethodName)) ∈ lw_all := lw_g (lw_at lw_m6 216 rfl) rfl
theorem q1524 : (Jvm.Cond.code ({ cls := "SpoonCourtModel", name := "bits", desc := "(I)I" } : Jvm.MethodName) prog_17_method_4_code (3 : Nat) (Option.some Jvm.ClassFile.FieldType.int)) ∈ lw_all := lw_g (lw_at lw_m6 217 rfl) rfl
theorem q1525 : (Jvm.Cond.methodLink "SpoonCourtModel" (362 : Nat) ({ cls := "SpoonCourtModel", name := "wanted", desc := "()J" } : Jvm.MethodName)) ∈ lw_all := lw_g (lw_at lw_m6 218 rfl) rfl
theorem q1526 : (Jvm.Cond.privateMethod ({ cls := "SpoonCourtModel", name := "wanted", desc := "()J" } : Jvm.MethodName)) ∈ lw_tbl := lw_at lw_m6 219 rfl
theorem q1527 : (Jvm.Cond.instanceMethod ({ cls := "SpoonCourtModel", name := "wanted", desc := "()J" } : Jvm.MethodName)) ∈ lw_all := lw_g (lw_at lw_m6 220 rfl) rfl
theorem q1528 : (Jvm.Cond.code ({ cls := "SpoonCourtModel", name := "wanted", desc := "()J" } : Jvm.MethodName) prog_17_method_46_code (3 : Nat) (Option.some Jvm.ClassFile.FieldType.long)) ∈ lw_all := lw_g (lw_at lw_m6 221 rfl) rfl
theorem q1529 : (Jvm.Cond.methodLink "SpoonCourtModel" (326 : Nat) ({ cls := "SpoonCourtModel", name := "answer", desc := "(III)J" } : Jvm.MethodName)) ∈ lw_all := lw_g (lw_at lw_m6 222 rfl) rfl
theorem q1530 : (Jvm.Cond.privateMethod ({ cls := "SpoonCourtModel", name := "answer", desc := "(III)J" } : Jvm.MethodName)) ∈ lw_tbl := lw_at lw_m6 223 rfl
theorem q1531 : (Jvm.Cond.instanceMethod ({ cls := "SpoonCourtModel", name := "answer", desc := "(III)J" } : Jvm.MethodName)) ∈ lw_all := lw_g (lw_at lw_m6 224 rfl) rfl
theorem q1532 : (Jvm.Cond.code ({ cls := "SpoonCourtModel", name := "answer", desc := "(III)J" } : Jvm.MethodName) prog_17_method_49_code (8 : Nat) (Option.some Jvm.ClassFile.FieldType.long)) ∈ lw_all := lw_g (lw_at lw_m6 225 rfl) rfl
theorem q1533 : (Jvm.Cond.methodLink "SpoonCourtModel" (334 : Nat) ({ cls := "SpoonCourtModel", name := "both", desc := "(IJJ)J" } : Jvm.MethodName)) ∈ lw_all := lw_g (lw_at lw_m6 226 rfl) rfl
theorem q1534 : (Jvm.Cond.static ({ cls := "SpoonCourtModel", name := "both", desc := "(IJJ)J" } : Jvm.MethodName)) ∈ lw_all := lw_g (lw_at lw_m6 227 rfl) rfl
theorem q1535 : (Jvm.Cond.code ({ cls := "SpoonCourtModel", name := "both", desc := "(IJJ)J" } : Jvm.MethodName) prog_17_method_48_code (5 : Nat) (Option.some Jvm.ClassFile.FieldType.long)) ∈ lw_all := lw_g (lw_at lw_m6 228 rfl) rfl
theorem q1536 : (Jvm.Cond.methodLink "SpoonCourtModel" (330 : Nat) ({ cls := "SpoonCourtModel", name := "truth", desc := "(Z)J" } : Jvm.MethodName)) ∈ lw_all := lw_g (lw_at lw_m6 229 rfl) rfl
theorem q1537 : (Jvm.Cond.static ({ cls := "SpoonCourtModel", name := "truth", desc := "(Z)J" } : Jvm.MethodName)) ∈ lw_all := lw_g (lw_at lw_m6 230 rfl) rfl
theorem q1538 : (Jvm.Cond.code ({ cls := "SpoonCourtModel", name := "truth", desc := "(Z)J" } : Jvm.MethodName) prog_17_method_47_code (1 : Nat) (Option.some Jvm.ClassFile.FieldType.long)) ∈ lw_all := lw_g (lw_at lw_m6 231 rfl) rfl
theorem q1539 : (Jvm.Cond.methodLink "SpoonCourtModel" (372 : Nat) ({ cls := "SpoonCourtModel", name := "upTo", desc := "(II)I" } : Jvm.MethodName)) ∈ lw_all := lw_g (lw_at lw_m6 232 rfl) rfl
theorem q1540 : (Jvm.Cond.static ({ cls := "SpoonCourtModel", name := "upTo", desc := "(II)I" } : Jvm.MethodName)) ∈ lw_all := lw_g (lw_at lw_m6 233 rfl) rfl
theorem q1541 : (Jvm.Cond.code ({ cls := "SpoonCourtModel", name := "upTo", desc := "(II)I" } : Jvm.MethodName) prog_17_method_58_code (2 : Nat) (Option.some Jvm.ClassFile.FieldType.int)) ∈ lw_all := lw_g (lw_at lw_m6 234 rfl) rfl
theorem q1543 : (Jvm.Cond.instanceMethod ({ cls := "SpoonCourtModel", name := "deed", desc := "(II)I" } : Jvm.MethodName)) ∈ lw_all := lw_g (lw_at lw_m6 236 rfl) rfl
theorem q1544 : (Jvm.Cond.selects "SpoonCourtModel" ({ cls := "SpoonCourtModel", name := "deed", desc := "(II)I" } : Jvm.MethodName) ({ cls := "SpoonCourtModel", name := "deed", desc := "(II)I" } : Jvm.MethodName)) ∈ lw_all := lw_g (lw_at lw_m6 237 rfl) rfl
theorem q1545 : (Jvm.Cond.code ({ cls := "SpoonCourtModel", name := "deed", desc := "(II)I" } : Jvm.MethodName) prog_17_method_67_code (3 : Nat) (Option.some Jvm.ClassFile.FieldType.int)) ∈ lw_all := lw_g (lw_at lw_m6 238 rfl) rfl
theorem q1546 : (Jvm.Cond.constantLong "SpoonCourtModel" (399 : Nat) (99 : Int64)) ∈ lw_all := lw_g (lw_at lw_m6 239 rfl) rfl
theorem q1548 : (Jvm.Cond.instanceMethod ({ cls := "SpoonCourtModel", name := "slight", desc := "(II)I" } : Jvm.MethodName)) ∈ lw_all := lw_g (lw_at lw_m7 1 rfl) rfl
theorem q1549 : (Jvm.Cond.selects "SpoonCourtModel" ({ cls := "SpoonCourtModel", name := "slight", desc := "(II)I" } : Jvm.MethodName) ({ cls := "SpoonCourtModel", name := "slight", desc := "(II)I" } : Jvm.MethodName)) ∈ lw_all := lw_g (lw_at lw_m7 2 rfl) rfl
theorem q1550 : (Jvm.Cond.code ({ cls := "SpoonCourtModel", name := "slight", desc := "(II)I" } : Jvm.MethodName) prog_17_method_68_code (3 : Nat) (Option.some Jvm.ClassFile.FieldType.int)) ∈ lw_all := lw_g (lw_at lw_m7 3 rfl) rfl
theorem q1552 : (Jvm.Cond.instanceMethod ({ cls := "SpoonCourtModel", name := "tray", desc := "(I)I" } : Jvm.MethodName)) ∈ lw_all := lw_g (lw_at lw_m7 5 rfl) rfl
theorem q1553 : (Jvm.Cond.selects "SpoonCourtModel" ({ cls := "SpoonCourtModel", name := "tray", desc := "(I)I" } : Jvm.MethodName) ({ cls := "SpoonCourtModel", name := "tray", desc := "(I)I" } : Jvm.MethodName)) ∈ lw_all := lw_g (lw_at lw_m7 6 rfl) rfl
theorem q1554 : (Jvm.Cond.code ({ cls := "SpoonCourtModel", name := "tray", desc := "(I)I" } : Jvm.MethodName) prog_17_method_69_code (3 : Nat) (Option.some Jvm.ClassFile.FieldType.int)) ∈ lw_all := lw_g (lw_at lw_m7 7 rfl) rfl
theorem q1556 : (Jvm.Cond.instanceMethod ({ cls := "SpoonCourtModel", name := "gloves", desc := "(I)I" } : Jvm.MethodName)) ∈ lw_all := lw_g (lw_at lw_m7 9 rfl) rfl
theorem q1557 : (Jvm.Cond.selects "SpoonCourtModel" ({ cls := "SpoonCourtModel", name := "gloves", desc := "(I)I" } : Jvm.MethodName) ({ cls := "SpoonCourtModel", name := "gloves", desc := "(I)I" } : Jvm.MethodName)) ∈ lw_all := lw_g (lw_at lw_m7 10 rfl) rfl
theorem q1558 : (Jvm.Cond.code ({ cls := "SpoonCourtModel", name := "gloves", desc := "(I)I" } : Jvm.MethodName) prog_17_method_70_code (3 : Nat) (Option.some Jvm.ClassFile.FieldType.int)) ∈ lw_all := lw_g (lw_at lw_m7 11 rfl) rfl
theorem q1559 : (Jvm.Cond.constantLong "SpoonCourtModel" (401 : Nat) (9 : Int64)) ∈ lw_all := lw_g (lw_at lw_m7 12 rfl) rfl
theorem q1561 : (Jvm.Cond.instanceMethod ({ cls := "SpoonCourtModel", name := "strip", desc := "(II)I" } : Jvm.MethodName)) ∈ lw_all := lw_g (lw_at lw_m7 14 rfl) rfl
theorem q1562 : (Jvm.Cond.selects "SpoonCourtModel" ({ cls := "SpoonCourtModel", name := "strip", desc := "(II)I" } : Jvm.MethodName) ({ cls := "SpoonCourtModel", name := "strip", desc := "(II)I" } : Jvm.MethodName)) ∈ lw_all := lw_g (lw_at lw_m7 15 rfl) rfl
theorem q1563 : (Jvm.Cond.code ({ cls := "SpoonCourtModel", name := "strip", desc := "(II)I" } : Jvm.MethodName) prog_17_method_71_code (3 : Nat) (Option.some Jvm.ClassFile.FieldType.int)) ∈ lw_all := lw_g (lw_at lw_m7 16 rfl) rfl
theorem q1565 : (Jvm.Cond.instanceMethod ({ cls := "SpoonCourtModel", name := "ahead", desc := "(III)I" } : Jvm.MethodName)) ∈ lw_all := lw_g (lw_at lw_m7 18 rfl) rfl
theorem q1566 : (Jvm.Cond.selects "SpoonCourtModel" ({ cls := "SpoonCourtModel", name := "ahead", desc := "(III)I" } : Jvm.MethodName) ({ cls := "SpoonCourtModel", name := "ahead", desc := "(III)I" } : Jvm.MethodName)) ∈ lw_all := lw_g (lw_at lw_m7 19 rfl) rfl
theorem q1567 : (Jvm.Cond.code ({ cls := "SpoonCourtModel", name := "ahead", desc := "(III)I" } : Jvm.MethodName) prog_17_method_74_code (6 : Nat) (Option.some Jvm.ClassFile.FieldType.int)) ∈ lw_all := lw_g (lw_at lw_m7 20 rfl) rfl
theorem q1568 : (Jvm.Cond.constantLong "SpoonCourtModel" (406 : Nat) (2 : Int64)) ∈ lw_all := lw_g (lw_at lw_m7 21 rfl) rfl
theorem q1569 : (Jvm.Cond.constantLong "SpoonCourtModel" (408 : Nat) (100 : Int64)) ∈ lw_all := lw_g (lw_at lw_m7 22 rfl) rfl
theorem q1570 : (Jvm.Cond.methodLink "SpoonCourtModel" (410 : Nat) ({ cls := "SpoonCourtModel", name := "keepsAll", desc := "()V" } : Jvm.MethodName)) ∈ lw_all := lw_g (lw_at lw_m7 23 rfl) rfl
theorem q1571 : (Jvm.Cond.privateMethod ({ cls := "SpoonCourtModel", name := "keepsAll", desc := "()V" } : Jvm.MethodName)) ∈ lw_tbl := lw_at lw_m7 24 rfl
theorem q1572 : (Jvm.Cond.instanceMethod ({ cls := "SpoonCourtModel", name := "keepsAll", desc := "()V" } : Jvm.MethodName)) ∈ lw_all := lw_g (lw_at lw_m7 25 rfl) rfl
theorem q1573 : (Jvm.Cond.code ({ cls := "SpoonCourtModel", name := "keepsAll", desc := "()V" } : Jvm.MethodName) prog_17_method_72_code (1 : Nat) (Option.none : Option Jvm.ClassFile.FieldType)) ∈ lw_all := lw_g (lw_at lw_m7 26 rfl) rfl
theorem q1574 : (Jvm.Cond.methodLink "SpoonCourtModel" (403 : Nat) ({ cls := "SpoonCourtModel", name := "carriesAll", desc := "(IZ)V" } : Jvm.MethodName)) ∈ lw_all := lw_g (lw_at lw_m7 27 rfl) rfl
theorem q1575 : (Jvm.Cond.privateMethod ({ cls := "SpoonCourtModel", name := "carriesAll", desc := "(IZ)V" } : Jvm.MethodName)) ∈ lw_tbl := lw_at lw_m7 28 rfl
theorem q1576 : (Jvm.Cond.instanceMethod ({ cls := "SpoonCourtModel", name := "carriesAll", desc := "(IZ)V" } : Jvm.MethodName)) ∈ lw_all := lw_g (lw_at lw_m7 29 rfl) rfl
theorem q1577 : (Jvm.Cond.code ({ cls := "SpoonCourtModel", name := "carriesAll", desc := "(IZ)V" } : Jvm.MethodName) prog_17_method_103_code (3 : Nat) (Option.none : Option Jvm.ClassFile.FieldType)) ∈ lw_all := lw_g (lw_at lw_m7 30 rfl) rfl
theorem q1578 : (Jvm.Cond.methodLink "SpoonCourtModel" (476 : Nat) ({ cls := "SpoonCourtModel", name := "carryRow", desc := "([I)V" } : Jvm.MethodName)) ∈ lw_all := lw_g (lw_at lw_m7 31 rfl) rfl
theorem q1579 : (Jvm.Cond.privateMethod ({ cls := "SpoonCourtModel", name := "carryRow", desc := "([I)V" } : Jvm.MethodName)) ∈ lw_tbl := lw_at lw_m7 32 rfl
theorem q1580 : (Jvm.Cond.instanceMethod ({ cls := "SpoonCourtModel", name := "carryRow", desc := "([I)V" } : Jvm.MethodName)) ∈ lw_all := lw_g (lw_at lw_m7 33 rfl) rfl
theorem q1581 : (Jvm.Cond.code ({ cls := "SpoonCourtModel", name := "carryRow", desc := "([I)V" } : Jvm.MethodName) prog_17_method_102_code (3 : Nat) (Option.none : Option Jvm.ClassFile.FieldType)) ∈ lw_all := lw_g (lw_at lw_m7 34 rfl) rfl
theorem q1582 : (Jvm.Cond.methodLink "SpoonCourtModel" (413 : Nat) ({ cls := "SpoonCourtModel", name := "goFor", desc := "(I)V" } : Jvm.MethodName)) ∈ lw_all := lw_g (lw_at lw_m7 35 rfl) rfl
theorem q1583 : (Jvm.Cond.privateMethod ({ cls := "SpoonCourtModel", name := "goFor", desc := "(I)V" } : Jvm.MethodName)) ∈ lw_tbl := lw_at lw_m7 36 rfl
theorem q1584 : (Jvm.Cond.instanceMethod ({ cls := "SpoonCourtModel", name := "goFor", desc := "(I)V" } : Jvm.MethodName)) ∈ lw_all := lw_g (lw_at lw_m7 37 rfl) rfl
theorem q1585 : (Jvm.Cond.code ({ cls := "SpoonCourtModel", name := "goFor", desc := "(I)V" } : Jvm.MethodName) prog_17_method_60_code (3 : Nat) (Option.none : Option Jvm.ClassFile.FieldType)) ∈ lw_all := lw_g (lw_at lw_m7 38 rfl) rfl
theorem q1586 : (Jvm.Cond.methodLink "SpoonCourtModel" (416 : Nat) ({ cls := "SpoonCourtModel", name := "laysBack", desc := "()V" } : Jvm.MethodName)) ∈ lw_all := lw_g (lw_at lw_m7 39 rfl) rfl
theorem q1587 : (Jvm.Cond.privateMethod ({ cls := "SpoonCourtModel", name := "laysBack", desc := "()V" } : Jvm.MethodName)) ∈ lw_tbl := lw_at lw_m7 40 rfl
theorem q1588 : (Jvm.Cond.instanceMethod ({ cls := "SpoonCourtModel", name := "laysBack", desc := "()V" } : Jvm.MethodName)) ∈ lw_all := lw_g (lw_at lw_m7 41 rfl) rfl
theorem q1589 : (Jvm.Cond.code ({ cls := "SpoonCourtModel", name := "laysBack", desc := "()V" } : Jvm.MethodName) prog_17_method_73_code (1 : Nat) (Option.none : Option Jvm.ClassFile.FieldType)) ∈ lw_all := lw_g (lw_at lw_m7 42 rfl) rfl
theorem q1591 : (Jvm.Cond.instanceMethod ({ cls := "SpoonCourtModel", name := "dubbed", desc := "(II)I" } : Jvm.MethodName)) ∈ lw_all := lw_g (lw_at lw_m7 44 rfl) rfl
theorem q1592 : (Jvm.Cond.selects "SpoonCourtModel" ({ cls := "SpoonCourtModel", name := "dubbed", desc := "(II)I" } : Jvm.MethodName) ({ cls := "SpoonCourtModel", name := "dubbed", desc := "(II)I" } : Jvm.MethodName)) ∈ lw_all := lw_g (lw_at lw_m7 45 rfl) rfl
theorem q1593 : (Jvm.Cond.code ({ cls := "SpoonCourtModel", name := "dubbed", desc := "(II)I" } : Jvm.MethodName) prog_17_method_75_code (5 : Nat) (Option.some Jvm.ClassFile.FieldType.int)) ∈ lw_all := lw_g (lw_at lw_m7 46 rfl) rfl
theorem q1595 : (Jvm.Cond.instanceMethod ({ cls := "SpoonCourtModel", name := "least", desc := "(III)I" } : Jvm.MethodName)) ∈ lw_all := lw_g (lw_at lw_m7 48 rfl) rfl
theorem q1596 : (Jvm.Cond.selects "SpoonCourtModel" ({ cls := "SpoonCourtModel", name := "least", desc := "(III)I" } : Jvm.MethodName) ({ cls := "SpoonCourtModel", name := "least", desc := "(III)I" } : Jvm.MethodName)) ∈ lw_all := lw_g (lw_at lw_m7 49 rfl) rfl
theorem q1597 : (Jvm.Cond.code ({ cls := "SpoonCourtModel", name := "least", desc := "(III)I" } : Jvm.MethodName) prog_17_method_76_code (6 : Nat) (Option.some Jvm.ClassFile.FieldType.int)) ∈ lw_all := lw_g (lw_at lw_m7 50 rfl) rfl
theorem q1598 : (Jvm.Cond.constantLong "SpoonCourtModel" (419 : Nat) (60 : Int64)) ∈ lw_all := lw_g (lw_at lw_m7 51 rfl) rfl
theorem q1600 : (Jvm.Cond.instanceMethod ({ cls := "SpoonCourtModel", name := "spare", desc := "(III)I" } : Jvm.MethodName)) ∈ lw_all := lw_g (lw_at lw_m7 53 rfl) rfl
theorem q1601 : (Jvm.Cond.selects "SpoonCourtModel" ({ cls := "SpoonCourtModel", name := "spare", desc := "(III)I" } : Jvm.MethodName) ({ cls := "SpoonCourtModel", name := "spare", desc := "(III)I" } : Jvm.MethodName)) ∈ lw_all := lw_g (lw_at lw_m7 54 rfl) rfl
theorem q1602 : (Jvm.Cond.code ({ cls := "SpoonCourtModel", name := "spare", desc := "(III)I" } : Jvm.MethodName) prog_17_method_78_code (6 : Nat) (Option.some Jvm.ClassFile.FieldType.int)) ∈ lw_all := lw_g (lw_at lw_m7 55 rfl) rfl
theorem q1603 : (Jvm.Cond.constantLong "SpoonCourtModel" (421 : Nat) (8 : Int64)) ∈ lw_all := lw_g (lw_at lw_m7 56 rfl) rfl
theorem q1604 : (Jvm.Cond.methodLink "SpoonCourtModel" (423 : Nat) ({ cls := "SpoonCourtModel", name := "isSpared", desc := "(III)Z" } : Jvm.MethodName)) ∈ lw_all := lw_g (lw_at lw_m7 57 rfl) rfl
theorem q1605 : (Jvm.Cond.privateMethod ({ cls := "SpoonCourtModel", name := "isSpared", desc := "(III)Z" } : Jvm.MethodName)) ∈ lw_tbl := lw_at lw_m7 58 rfl
theorem q1606 : (Jvm.Cond.instanceMethod ({ cls := "SpoonCourtModel", name := "isSpared", desc := "(III)Z" } : Jvm.MethodName)) ∈ lw_all := lw_g (lw_at lw_m7 59 rfl) rfl
theorem q1607 : (Jvm.Cond.code ({ cls := "SpoonCourtModel", name := "isSpared", desc := "(III)Z" } : Jvm.MethodName) prog_17_method_77_code (7 : Nat) (Option.some Jvm.ClassFile.FieldType.boolean)) ∈ lw_all := lw_g (lw_at lw_m7 60 rfl) rfl
theorem q1609 : (Jvm.Cond.instanceMethod ({ cls := "SpoonCourtModel", name := "lay", desc := "(III)I" } : Jvm.MethodName)) ∈ lw_all := lw_g (lw_at lw_m7 62 rfl) rfl
theorem q1610 : (Jvm.Cond.selects "SpoonCourtModel" ({ cls := "SpoonCourtModel", name := "lay", desc := "(III)I" } : Jvm.MethodName) ({ cls := "SpoonCourtModel", name := "lay", desc := "(III)I" } : Jvm.MethodName)) ∈ lw_all := lw_g (lw_at lw_m7 63 rfl) rfl
theorem q1611 : (Jvm.Cond.code ({ cls := "SpoonCourtModel", name := "lay", desc := "(III)I" } : Jvm.MethodName) prog_17_method_79_code (7 : Nat) (Option.some Jvm.ClassFile.FieldType.int)) ∈ lw_all := lw_g (lw_at lw_m7 64 rfl) rfl
theorem q1613 : (Jvm.Cond.instanceMethod ({ cls := "SpoonCourtModel", name := "held", desc := "(II)I" } : Jvm.MethodName)) ∈ lw_all := lw_g (lw_at lw_m7 66 rfl) rfl
theorem q1614 : (Jvm.Cond.selects "SpoonCourtModel" ({ cls := "SpoonCourtModel", name := "held", desc := "(II)I" } : Jvm.MethodName) ({ cls := "SpoonCourtModel", name := "held", desc := "(II)I" } : Jvm.MethodName)) ∈ lw_all := lw_g (lw_at lw_m7 67 rfl) rfl
theorem q1615 : (Jvm.Cond.code ({ cls := "SpoonCourtModel", name := "held", desc := "(II)I" } : Jvm.MethodName) prog_17_method_80_code (5 : Nat) (Option.some Jvm.ClassFile.FieldType.int)) ∈ lw_all := lw_g (lw_at lw_m7 68 rfl) rfl
theorem q1617 : (Jvm.Cond.instanceMethod ({ cls := "SpoonCourtModel", name := "place", desc := "(I)I" } : Jvm.MethodName)) ∈ lw_all := lw_g (lw_at lw_m7 70 rfl) rfl
theorem q1618 : (Jvm.Cond.selects "SpoonCourtModel" ({ cls := "SpoonCourtModel", name := "place", desc := "(I)I" } : Jvm.MethodName) ({ cls := "SpoonCourtModel", name := "place", desc := "(I)I" } : Jvm.MethodName)) ∈ lw_all := lw_g (lw_at lw_m7 71 rfl) rfl
theorem q1619 : (Jvm.Cond.code ({ cls := "SpoonCourtModel", name := "place", desc := "(I)I" } : Jvm.MethodName) prog_17_method_81_code (4 : Nat) (Option.some Jvm.ClassFile.FieldType.int)) ∈ lw_all := lw_g (lw_at lw_m7 72 rfl) rfl
theorem q1621 : (Jvm.Cond.instanceMethod ({ cls := "SpoonCourtModel", name := "stripped", desc := "(I)I" } : Jvm.MethodName)) ∈ lw_all := lw_g (lw_at lw_m7 74 rfl) rfl
theorem q1622 : (Jvm.Cond.selects "SpoonCourtModel" ({ cls := "SpoonCourtModel", name := "stripped", desc := "(I)I" } : Jvm.MethodName) ({ cls := "SpoonCourtModel", name := "stripped", desc := "(I)I" } : Jvm.MethodName)) ∈ lw_all := lw_g (lw_at lw_m7 75 rfl) rfl
theorem q1623 : (Jvm.Cond.code ({ cls := "SpoonCourtModel", name := "stripped", desc := "(I)I" } : Jvm.MethodName) prog_17_method_84_code (4 : Nat) (Option.some Jvm.ClassFile.FieldType.int)) ∈ lw_all := lw_g (lw_at lw_m7 76 rfl) rfl
theorem q1624 : (Jvm.Cond.methodLink "SpoonCourtModel" (429 : Nat) ({ cls := "SpoonCourtModel", name := "isPeace", desc := "(I)Z" } : Jvm.MethodName)) ∈ lw_all := lw_g (lw_at lw_m7 77 rfl) rfl
theorem q1625 : (Jvm.Cond.privateMethod ({ cls := "SpoonCourtModel", name := "isPeace", desc := "(I)Z" } : Jvm.MethodName)) ∈ lw_tbl := lw_at lw_m7 78 rfl
theorem q1626 : (Jvm.Cond.instanceMethod ({ cls := "SpoonCourtModel", name := "isPeace", desc := "(I)Z" } : Jvm.MethodName)) ∈ lw_all := lw_g (lw_at lw_m7 79 rfl) rfl
theorem q1627 : (Jvm.Cond.code ({ cls := "SpoonCourtModel", name := "isPeace", desc := "(I)Z" } : Jvm.MethodName) prog_17_method_83_code (4 : Nat) (Option.some Jvm.ClassFile.FieldType.boolean)) ∈ lw_all := lw_g (lw_at lw_m7 80 rfl) rfl
theorem q1628 : (Jvm.Cond.methodLink "SpoonCourtModel" (427 : Nat) ({ cls := "SpoonCourtModel", name := "quarrel", desc := "(II)Z" } : Jvm.MethodName)) ∈ lw_all := lw_g (lw_at lw_m7 81 rfl) rfl
theorem q1629 : (Jvm.Cond.privateMethod ({ cls := "SpoonCourtModel", name := "quarrel", desc := "(II)Z" } : Jvm.MethodName)) ∈ lw_tbl := lw_at lw_m7 82 rfl
theorem q1630 : (Jvm.Cond.instanceMethod ({ cls := "SpoonCourtModel", name := "quarrel", desc := "(II)Z" } : Jvm.MethodName)) ∈ lw_all := lw_g (lw_at lw_m7 83 rfl) rfl
theorem q1631 : (Jvm.Cond.code ({ cls := "SpoonCourtModel", name := "quarrel", desc := "(II)Z" } : Jvm.MethodName) prog_17_method_82_code (4 : Nat) (Option.some Jvm.ClassFile.FieldType.boolean)) ∈ lw_all := lw_g (lw_at lw_m7 84 rfl) rfl
theorem q1633 : (Jvm.Cond.instanceMethod ({ cls := "SpoonCourtModel", name := "gold", desc := "(II)I" } : Jvm.MethodName)) ∈ lw_all := lw_g (lw_at lw_m7 86 rfl) rfl
theorem q1634 : (Jvm.Cond.selects "SpoonCourtModel" ({ cls := "SpoonCourtModel", name := "gold", desc := "(II)I" } : Jvm.MethodName) ({ cls := "SpoonCourtModel", name := "gold", desc := "(II)I" } : Jvm.MethodName)) ∈ lw_all := lw_g (lw_at lw_m7 87 rfl) rfl
theorem q1635 : (Jvm.Cond.code ({ cls := "SpoonCourtModel", name := "gold", desc := "(II)I" } : Jvm.MethodName) prog_17_method_85_code (8 : Nat) (Option.some Jvm.ClassFile.FieldType.int)) ∈ lw_all := lw_g (lw_at lw_m7 88 rfl) rfl
theorem q1636 : (Jvm.Cond.constantLong "SpoonCourtModel" (432 : Nat) (9999 : Int64)) ∈ lw_all := lw_g (lw_at lw_m7 89 rfl) rfl
theorem q1638 : (Jvm.Cond.instanceMethod ({ cls := "SpoonCourtModel", name := "rests", desc := "(IIII)I" } : Jvm.MethodName)) ∈ lw_all := lw_g (lw_at lw_m7 91 rfl) rfl
theorem q1639 : (Jvm.Cond.selects "SpoonCourtModel" ({ cls := "SpoonCourtModel", name := "rests", desc := "(IIII)I" } : Jvm.MethodName) ({ cls := "SpoonCourtModel", name := "rests", desc := "(IIII)I" } : Jvm.MethodName)) ∈ lw_all := lw_g (lw_at lw_m7 92 rfl) rfl
theorem q1640 : (Jvm.Cond.code ({ cls := "SpoonCourtModel", name := "rests", desc := "(IIII)I" } : Jvm.MethodName) prog_17_method_88_code (8 : Nat) (Option.some Jvm.ClassFile.FieldType.int)) ∈ lw_all := lw_g (lw_at lw_m7 93 rfl) rfl
theorem q1641 : (Jvm.Cond.constantLong "SpoonCourtModel" (434 : Nat) (20 : Int64)) ∈ lw_all := lw_g (lw_at lw_m7 94 rfl) rfl
theorem q1642 : (Jvm.Cond.methodLink "SpoonCourtModel" (436 : Nat) ({ cls := "SpoonCourtModel", name := "laysDeeds", desc := "(III)V" } : Jvm.MethodName)) ∈ lw_all := lw_g (lw_at lw_m7 95 rfl) rfl
theorem q1643 : (Jvm.Cond.privateMethod ({ cls := "SpoonCourtModel", name := "laysDeeds", desc := "(III)V" } : Jvm.MethodName)) ∈ lw_tbl := lw_at lw_m7 96 rfl
theorem q1644 : (Jvm.Cond.instanceMethod ({ cls := "SpoonCourtModel", name := "laysDeeds", desc := "(III)V" } : Jvm.MethodName)) ∈ lw_all := lw_g (lw_at lw_m7 97 rfl) rfl
theorem q1645 : (Jvm.Cond.code ({ cls := "SpoonCourtModel", name := "laysDeeds", desc := "(III)V" } : Jvm.MethodName) prog_17_method_86_code (5 : Nat) (Option.none : Option Jvm.ClassFile.FieldType)) ∈ lw_all := lw_g (lw_at lw_m7 98 rfl) rfl
theorem q1646 : (Jvm.Cond.methodLink "SpoonCourtModel" (440 : Nat) ({ cls := "SpoonCourtModel", name := "isRest", desc := "(I)Z" } : Jvm.MethodName)) ∈ lw_all := lw_g (lw_at lw_m7 99 rfl) rfl
theorem q1647 : (Jvm.Cond.privateMethod ({ cls := "SpoonCourtModel", name := "isRest", desc := "(I)Z" } : Jvm.MethodName)) ∈ lw_tbl := lw_at lw_m7 100 rfl
theorem q1648 : (Jvm.Cond.instanceMethod ({ cls := "SpoonCourtModel", name := "isRest", desc := "(I)Z" } : Jvm.MethodName)) ∈ lw_all := lw_g (lw_at lw_m7 101 rfl) rfl
theorem q1649 : (Jvm.Cond.code ({ cls := "SpoonCourtModel", name := "isRest", desc := "(I)Z" } : Jvm.MethodName) prog_17_method_87_code (3 : Nat) (Option.some Jvm.ClassFile.FieldType.boolean)) ∈ lw_all := lw_g (lw_at lw_m7 102 rfl) rfl
theorem q1651 : (Jvm.Cond.instanceMethod ({ cls := "SpoonCourtModel", name := "ring", desc := "(I)I" } : Jvm.MethodName)) ∈ lw_all := lw_g (lw_at lw_m7 104 rfl) rfl
theorem q1652 : (Jvm.Cond.selects "SpoonCourtModel" ({ cls := "SpoonCourtModel", name := "ring", desc := "(I)I" } : Jvm.MethodName) ({ cls := "SpoonCourtModel", name := "ring", desc := "(I)I" } : Jvm.MethodName)) ∈ lw_all := lw_g (lw_at lw_m7 105 rfl) rfl
theorem q1653 : (Jvm.Cond.code ({ cls := "SpoonCourtModel", name := "ring", desc := "(I)I" } : Jvm.MethodName) prog_17_method_91_code (4 : Nat) (Option.some Jvm.ClassFile.FieldType.int)) ∈ lw_all := lw_g (lw_at lw_m7 106 rfl) rfl
theorem q1654 : (Jvm.Cond.methodLink "SpoonCourtModel" (443 : Nat) ({ cls := "SpoonCourtModel", name := "laysCourse", desc := "()V" } : Jvm.MethodName)) ∈ lw_all := lw_g (lw_at lw_m7 107 rfl) rfl
theorem q1655 : (Jvm.Cond.privateMethod ({ cls := "SpoonCourtModel", name := "laysCourse", desc := "()V" } : Jvm.MethodName)) ∈ lw_tbl := lw_at lw_m7 108 rfl
theorem q1656 : (Jvm.Cond.instanceMethod ({ cls := "SpoonCourtModel", name := "laysCourse", desc := "()V" } : Jvm.MethodName)) ∈ lw_all := lw_g (lw_at lw_m7 109 rfl) rfl
theorem q1657 : (Jvm.Cond.code ({ cls := "SpoonCourtModel", name := "laysCourse", desc := "()V" } : Jvm.MethodName) prog_17_method_89_code (2 : Nat) (Option.none : Option Jvm.ClassFile.FieldType)) ∈ lw_all := lw_g (lw_at lw_m7 110 rfl) rfl
theorem q1658 : (Jvm.Cond.methodLink "SpoonCourtModel" (446 : Nat) ({ cls := "SpoonCourtModel", name := "areAlike", desc := "(II)Z" } : Jvm.MethodName)) ∈ lw_all := lw_g (lw_at lw_m7 111 rfl) rfl
theorem q1659 : (Jvm.Cond.privateMethod ({ cls := "SpoonCourtModel", name := "areAlike", desc := "(II)Z" } : Jvm.MethodName)) ∈ lw_tbl := lw_at lw_m7 112 rfl
theorem q1660 : (Jvm.Cond.instanceMethod ({ cls := "SpoonCourtModel", name := "areAlike", desc := "(II)Z" } : Jvm.MethodName)) ∈ lw_all := lw_g (lw_at lw_m7 113 rfl) rfl
theorem q1661 : (Jvm.Cond.code ({ cls := "SpoonCourtModel", name := "areAlike", desc := "(II)Z" } : Jvm.MethodName) prog_17_method_90_code (4 : Nat) (Option.some Jvm.ClassFile.FieldType.boolean)) ∈ lw_all := lw_g (lw_at lw_m7 114 rfl) rfl
theorem q1663 : (Jvm.Cond.instanceMethod ({ cls := "SpoonCourtModel", name := "note", desc := "(II)I" } : Jvm.MethodName)) ∈ lw_all := lw_g (lw_at lw_m7 116 rfl) rfl
theorem q1664 : (Jvm.Cond.selects "SpoonCourtModel" ({ cls := "SpoonCourtModel", name := "note", desc := "(II)I" } : Jvm.MethodName) ({ cls := "SpoonCourtModel", name := "note", desc := "(II)I" } : Jvm.MethodName)) ∈ lw_all := lw_g (lw_at lw_m7 117 rfl) rfl
theorem q1665 : (Jvm.Cond.code ({ cls := "SpoonCourtModel", name := "note", desc := "(II)I" } : Jvm.MethodName) prog_17_method_92_code (4 : Nat) (Option.some Jvm.ClassFile.FieldType.int)) ∈ lw_all := lw_g (lw_at lw_m7 118 rfl) rfl
theorem q1667 : (Jvm.Cond.instanceMethod ({ cls := "SpoonCourtModel", name := "ruled", desc := "(I)I" } : Jvm.MethodName)) ∈ lw_all := lw_g (lw_at lw_m7 120 rfl) rfl
theorem q1668 : (Jvm.Cond.selects "SpoonCourtModel" ({ cls := "SpoonCourtModel", name := "ruled", desc := "(I)I" } : Jvm.MethodName) ({ cls := "SpoonCourtModel", name := "ruled", desc := "(I)I" } : Jvm.MethodName)) ∈ lw_all := lw_g (lw_at lw_m7 121 rfl) rfl
theorem q1669 : (Jvm.Cond.code ({ cls := "SpoonCourtModel", name := "ruled", desc := "(I)I" } : Jvm.MethodName) prog_17_method_94_code (5 : Nat) (Option.some Jvm.ClassFile.FieldType.int)) ∈ lw_all := lw_g (lw_at lw_m7 122 rfl) rfl
theorem q1670 : (Jvm.Cond.methodLink "SpoonCourtModel" (449 : Nat) ({ cls := "SpoonCourtModel", name := "couldRule", desc := "(I)Z" } : Jvm.MethodName)) ∈ lw_all := lw_g (lw_at lw_m7 123 rfl) rfl
theorem q1671 : (Jvm.Cond.privateMethod ({ cls := "SpoonCourtModel", name := "couldRule", desc := "(I)Z" } : Jvm.MethodName)) ∈ lw_tbl := lw_at lw_m7 124 rfl
theorem q1672 : (Jvm.Cond.instanceMethod ({ cls := "SpoonCourtModel", name := "couldRule", desc := "(I)Z" } : Jvm.MethodName)) ∈ lw_all := lw_g (lw_at lw_m7 125 rfl) rfl
theorem q1673 : (Jvm.Cond.code ({ cls := "SpoonCourtModel", name := "couldRule", desc := "(I)Z" } : Jvm.MethodName) prog_17_method_93_code (3 : Nat) (Option.some Jvm.ClassFile.FieldType.boolean)) ∈ lw_all := lw_g (lw_at lw_m7 126 rfl) rfl
theorem q1675 : (Jvm.Cond.instanceMethod ({ cls := "SpoonCourtModel", name := "look", desc := "(I)I" } : Jvm.MethodName)) ∈ lw_all := lw_g (lw_at lw_m7 128 rfl) rfl
theorem q1676 : (Jvm.Cond.selects "SpoonCourtModel" ({ cls := "SpoonCourtModel", name := "look", desc := "(I)I" } : Jvm.MethodName) ({ cls := "SpoonCourtModel", name := "look", desc := "(I)I" } : Jvm.MethodName)) ∈ lw_all := lw_g (lw_at lw_m7 129 rfl) rfl
theorem q1677 : (Jvm.Cond.code ({ cls := "SpoonCourtModel", name := "look", desc := "(I)I" } : Jvm.MethodName) prog_17_method_96_code (5 : Nat) (Option.some Jvm.ClassFile.FieldType.int)) ∈ lw_all := lw_g (lw_at lw_m7 130 rfl) rfl
theorem q1678 : (Jvm.Cond.methodLink "SpoonCourtModel" (452 : Nat) ({ cls := "SpoonCourtModel", name := "mostAlike", desc := "(II)I" } : Jvm.MethodName)) ∈ lw_all := lw_g (lw_at lw_m7 131 rfl) rfl
theorem q1679 : (Jvm.Cond.privateMethod ({ cls := "SpoonCourtModel", name := "mostAlike", desc := "(II)I" } : Jvm.MethodName)) ∈ lw_tbl := lw_at lw_m7 132 rfl
theorem q1680 : (Jvm.Cond.instanceMethod ({ cls := "SpoonCourtModel", name := "mostAlike", desc := "(II)I" } : Jvm.MethodName)) ∈ lw_all := lw_g (lw_at lw_m7 133 rfl) rfl
theorem q1681 : (Jvm.Cond.code ({ cls := "SpoonCourtModel", name := "mostAlike", desc := "(II)I" } : Jvm.MethodName) prog_17_method_95_code (7 : Nat) (Option.some Jvm.ClassFile.FieldType.int)) ∈ lw_all := lw_g (lw_at lw_m7 134 rfl) rfl
theorem q1683 : (Jvm.Cond.instanceMethod ({ cls := "SpoonCourtModel", name := "seed", desc := "(I)I" } : Jvm.MethodName)) ∈ lw_all := lw_g (lw_at lw_m7 136 rfl) rfl
theorem q1684 : (Jvm.Cond.selects "SpoonCourtModel" ({ cls := "SpoonCourtModel", name := "seed", desc := "(I)I" } : Jvm.MethodName) ({ cls := "SpoonCourtModel", name := "seed", desc := "(I)I" } : Jvm.MethodName)) ∈ lw_all := lw_g (lw_at lw_m7 137 rfl) rfl
theorem q1685 : (Jvm.Cond.code ({ cls := "SpoonCourtModel", name := "seed", desc := "(I)I" } : Jvm.MethodName) prog_17_method_97_code (3 : Nat) (Option.some Jvm.ClassFile.FieldType.int)) ∈ lw_all := lw_g (lw_at lw_m7 138 rfl) rfl
theorem q1687 : (Jvm.Cond.instanceMethod ({ cls := "SpoonCourtModel", name := "years", desc := "(IIII)I" } : Jvm.MethodName)) ∈ lw_all := lw_g (lw_at lw_m7 140 rfl) rfl
theorem q1688 : (Jvm.Cond.selects "SpoonCourtModel" ({ cls := "SpoonCourtModel", name := "years", desc := "(IIII)I" } : Jvm.MethodName) ({ cls := "SpoonCourtModel", name := "years", desc := "(IIII)I" } : Jvm.MethodName)) ∈ lw_all := lw_g (lw_at lw_m7 141 rfl) rfl
theorem q1689 : (Jvm.Cond.code ({ cls := "SpoonCourtModel", name := "years", desc := "(IIII)I" } : Jvm.MethodName) prog_17_method_100_code (12 : Nat) (Option.some Jvm.ClassFile.FieldType.int)) ∈ lw_all := lw_g (lw_at lw_m7 142 rfl) rfl
theorem q1690 : (Jvm.Cond.constantLong "SpoonCourtModel" (462 : Nat) (10 : Int64)) ∈ lw_all := lw_g (lw_at lw_m7 143 rfl) rfl
theorem q1691 : (Jvm.Cond.methodLink "SpoonCourtModel" (464 : Nat) ({ cls := "SpoonCourtModel", name := "draws", desc := "(I)I" } : Jvm.MethodName)) ∈ lw_all := lw_g (lw_at lw_m7 144 rfl) rfl
theorem q1692 : (Jvm.Cond.privateMethod ({ cls := "SpoonCourtModel", name := "draws", desc := "(I)I" } : Jvm.MethodName)) ∈ lw_tbl := lw_at lw_m7 145 rfl
theorem q1693 : (Jvm.Cond.instanceMethod ({ cls := "SpoonCourtModel", name := "draws", desc := "(I)I" } : Jvm.MethodName)) ∈ lw_all := lw_g (lw_at lw_m7 146 rfl) rfl
theorem q1694 : (Jvm.Cond.code ({ cls := "SpoonCourtModel", name := "draws", desc := "(I)I" } : Jvm.MethodName) prog_17_method_98_code (2 : Nat) (Option.some Jvm.ClassFile.FieldType.int)) ∈ lw_all := lw_g (lw_at lw_m7 147 rfl) rfl
theorem q1695 : (Jvm.Cond.constantLong "SpoonCourtModel" (455 : Nat) (1103515245 : Int64)) ∈ lw_all := lw_g (lw_at lw_m7 148 rfl) rfl
theorem q1696 : (Jvm.Cond.constantLong "SpoonCourtModel" (457 : Nat) (12345 : Int64)) ∈ lw_all := lw_g (lw_at lw_m7 149 rfl) rfl
theorem q1697 : (Jvm.Cond.constantLong "SpoonCourtModel" (459 : Nat) (2147483648 : Int64)) ∈ lw_all := lw_g (lw_at lw_m7 150 rfl) rfl
theorem q1698 : (Jvm.Cond.constant "SpoonCourtModel" (461 : Nat) (65536 : Int32)) ∈ lw_all := lw_g (lw_at lw_m7 151 rfl) rfl
theorem q1699 : (Jvm.Cond.methodLink "SpoonCourtModel" (467 : Nat) ({ cls := "SpoonCourtModel", name := "allRank", desc := "()I" } : Jvm.MethodName)) ∈ lw_all := lw_g (lw_at lw_m7 152 rfl) rfl
theorem q1700 : (Jvm.Cond.privateMethod ({ cls := "SpoonCourtModel", name := "allRank", desc := "()I" } : Jvm.MethodName)) ∈ lw_tbl := lw_at lw_m7 153 rfl
theorem q1701 : (Jvm.Cond.instanceMethod ({ cls := "SpoonCourtModel", name := "allRank", desc := "()I" } : Jvm.MethodName)) ∈ lw_all := lw_g (lw_at lw_m7 154 rfl) rfl
theorem q1702 : (Jvm.Cond.code ({ cls := "SpoonCourtModel", name := "allRank", desc := "()I" } : Jvm.MethodName) prog_17_method_99_code (3 : Nat) (Option.some Jvm.ClassFile.FieldType.int)) ∈ lw_all := lw_g (lw_at lw_m7 155 rfl) rfl
theorem q1704 : (Jvm.Cond.instanceMethod ({ cls := "SpoonCourtModel", name := "count", desc := "(I)I" } : Jvm.MethodName)) ∈ lw_all := lw_g (lw_at lw_m7 157 rfl) rfl
theorem q1705 : (Jvm.Cond.selects "SpoonCourtModel" ({ cls := "SpoonCourtModel", name := "count", desc := "(I)I" } : Jvm.MethodName) ({ cls := "SpoonCourtModel", name := "count", desc := "(I)I" } : Jvm.MethodName)) ∈ lw_all := lw_g (lw_at lw_m7 158 rfl) rfl
theorem q1706 : (Jvm.Cond.code ({ cls := "SpoonCourtModel", name := "count", desc := "(I)I" } : Jvm.MethodName) prog_17_method_101_code (2 : Nat) (Option.some Jvm.ClassFile.FieldType.int)) ∈ lw_all := lw_g (lw_at lw_m7 159 rfl) rfl
theorem q1708 : (Jvm.Cond.instanceMethod ({ cls := "SpoonCourtModel", name := "image", desc := "(I)I" } : Jvm.MethodName)) ∈ lw_all := lw_g (lw_at lw_m7 161 rfl) rfl
theorem q1709 : (Jvm.Cond.selects "SpoonCourtModel" ({ cls := "SpoonCourtModel", name := "image", desc := "(I)I" } : Jvm.MethodName) ({ cls := "SpoonCourtModel", name := "image", desc := "(I)I" } : Jvm.MethodName)) ∈ lw_all := lw_g (lw_at lw_m7 162 rfl) rfl
theorem q1710 : (Jvm.Cond.code ({ cls := "SpoonCourtModel", name := "image", desc := "(I)I" } : Jvm.MethodName) prog_17_method_104_code (2 : Nat) (Option.some Jvm.ClassFile.FieldType.int)) ∈ lw_all := lw_g (lw_at lw_m7 163 rfl) rfl
theorem q1711 : (Jvm.Cond.constantLong "SpoonCourtModel" (479 : Nat) (3 : Int64)) ∈ lw_all := lw_g (lw_at lw_m7 164 rfl) rfl
theorem q1713 : (Jvm.Cond.instanceMethod ({ cls := "SpoonCourtModel", name := "back", desc := "(I)I" } : Jvm.MethodName)) ∈ lw_all := lw_g (lw_at lw_m7 166 rfl) rfl
theorem q1714 : (Jvm.Cond.selects "SpoonCourtModel" ({ cls := "SpoonCourtModel", name := "back", desc := "(I)I" } : Jvm.MethodName) ({ cls := "SpoonCourtModel", name := "back", desc := "(I)I" } : Jvm.MethodName)) ∈ lw_all := lw_g (lw_at lw_m7 167 rfl) rfl
theorem q1715 : (Jvm.Cond.code ({ cls := "SpoonCourtModel", name := "back", desc := "(I)I" } : Jvm.MethodName) prog_17_method_105_code (2 : Nat) (Option.some Jvm.ClassFile.FieldType.int)) ∈ lw_all := lw_g (lw_at lw_m7 168 rfl) rfl
theorem in_X3 : ∀ w ∈ wsX30, w ∈ lw_all := lw_in wsX30 [1165, 1167, 1169, 1171, 1173, 1175, 1177, 1179, 1181, 1183, 1185, 1187, 1189, 1191, 1193, 1195, 1197, 1199, 1201, 1203, 1205, 1207, 1209, 1211, 1213, 1215, 1217, 1219, 1221, 1223, 1225, 1227, 1229, 1231, 1233, 1235, 1237, 1239, 1241, 1243, 1245, 1247, 1249, 1251, 1253, 1255, 1257, 1259, 1261, 1263, 1265, 1267, 1269] (by decide +kernel) (by decide +kernel)
-- X4.SpoonCourt_Text.lean.txt
def RX4 : String := "SpoonCourt$Text"
def TX4 : u_T := fun k => match k with
  | 0 => ("SpoonCourt$Text", "words", "[Ljava/lang/String;", true)
  | 1 => ("SpoonCourt$Text", "read", "LSpoonCourt$Court;", true)
  | 2 => ("SpoonCourt$Text", "next", "I", false)
  | 3 => ("SpoonCourt$Text", "deep", "I", false)
  | 4 => ("SpoonCourt$Text", "made", "I", false)
  | 5 => ("SpoonCourt$Text", "many", "I", false)
  | _ => ("SpoonCourt$Text", "this$0", "LSpoonCourt;", true)
def tyX4 : Nat → FieldType := fun k => match k with
  | 0 => .array (.object "java/lang/String")
  | 1 => .object "SpoonCourt$Court"
  | 2 => .int
  | 3 => .int
  | 4 => .int
  | 5 => .int
  | _ => .object "SpoonCourt"
abbrev wsX40 : List Cond := u_ws RX4 TX4 7
theorem nmX4 : ∀ a, a < 7 → ∀ b, b < 7 → a ≠ b → (TX4 a).2.1 ≠ (TX4 b).2.1 := by decide +kernel
theorem tyX4_ok : ∀ k, k < 7 → parseFieldDescriptor (TX4 k).2.2.1 = some (tyX4 k) := by decide +kernel
abbrev cX4_init : ByteArray := prog_13_method_1_code
def yX4_init : MethodName := ⟨RX4, "<init>", "(LSpoonCourt;)V"⟩
abbrev cX4_courtTold : ByteArray := prog_13_method_20_code
def yX4_courtTold : MethodName := ⟨RX4, "courtTold", "()LSpoonCourt$Court;"⟩
abbrev cX4_see : ByteArray := prog_13_method_3_code
def yX4_see : MethodName := ⟨RX4, "see", "()I"⟩
abbrev cX4_oneOf : ByteArray := prog_13_method_8_code
def yX4_oneOf : MethodName := ⟨RX4, "oneOf", "([Ljava/lang/String;)I"⟩
abbrev cX4_isWord : ByteArray := prog_13_method_6_code
def yX4_isWord : MethodName := ⟨RX4, "isWord", "(Ljava/lang/String;)Z"⟩
abbrev cX4_letters : ByteArray := prog_13_method_5_code
def yX4_letters : MethodName := ⟨RX4, "letters", "()I"⟩
abbrev cX4_demand : ByteArray := prog_13_method_2_code
def yX4_demand : MethodName := ⟨RX4, "demand", "(ZII)V"⟩
abbrev cX4_canBe : ByteArray := prog_13_method_14_code
def yX4_canBe : MethodName := ⟨RX4, "canBe", "(I)Z"⟩
abbrev cX4_line : ByteArray := prog_13_method_19_code
def yX4_line : MethodName := ⟨RX4, "line", "(I)V"⟩
abbrev cX4_courtHere : ByteArray := prog_13_method_16_code
def yX4_courtHere : MethodName := ⟨RX4, "courtHere", "()V"⟩
abbrev cX4_number : ByteArray := prog_13_method_10_code
def yX4_number : MethodName := ⟨RX4, "number", "(II)I"⟩
abbrev cX4_isDigit : ByteArray := prog_13_method_9_code
def yX4_isDigit : MethodName := ⟨RX4, "isDigit", "(I)Z"⟩
abbrev cX4_thingNumber : ByteArray := prog_13_method_15_code
def yX4_thingNumber : MethodName := ⟨RX4, "thingNumber", "()I"⟩
abbrev cX4_personHere : ByteArray := prog_13_method_17_code
def yX4_personHere : MethodName := ⟨RX4, "personHere", "()V"⟩
abbrev cX4_quarrelHere : ByteArray := prog_13_method_18_code
def yX4_quarrelHere : MethodName := ⟨RX4, "quarrelHere", "()V"⟩
abbrev cX4_takesSign : ByteArray := prog_13_method_4_code
def yX4_takesSign : MethodName := ⟨RX4, "takesSign", "(I)Z"⟩
abbrev cX4_ends : ByteArray := prog_13_method_13_code
def yX4_ends : MethodName := ⟨RX4, "ends", "()V"⟩
abbrev cX4_ruleTold : ByteArray := prog_13_method_22_code
def yX4_ruleTold : MethodName := ⟨RX4, "ruleTold", "()LSpoonCourt$Rule;"⟩
abbrev cX4_clauseHere : ByteArray := prog_13_method_21_code
def yX4_clauseHere : MethodName := ⟨RX4, "clauseHere", "()LSpoonCourt$Clause;"⟩
abbrev cX4_sum : ByteArray := prog_13_method_27_code
def yX4_sum : MethodName := ⟨RX4, "sum", "()LSpoonCourt$Value;"⟩
abbrev cX4_term : ByteArray := prog_13_method_28_code
def yX4_term : MethodName := ⟨RX4, "term", "()LSpoonCourt$Value;"⟩
abbrev cX4_value : ByteArray := prog_13_method_29_code
def yX4_value : MethodName := ⟨RX4, "value", "()LSpoonCourt$Value;"⟩
abbrev cX4_makes : ByteArray := prog_13_method_11_code
def yX4_makes : MethodName := ⟨RX4, "makes", "(I)V"⟩
abbrev cX4_takesWord : ByteArray := prog_13_method_7_code
def yX4_takesWord : MethodName := ⟨RX4, "takesWord", "(Ljava/lang/String;)Z"⟩
abbrev cX4_tested : ByteArray := prog_13_method_23_code
def yX4_tested : MethodName := ⟨RX4, "tested", "()LSpoonCourt$Test;"⟩
abbrev cX4_parted : ByteArray := prog_13_method_24_code
def yX4_parted : MethodName := ⟨RX4, "parted", "()LSpoonCourt$Test;"⟩
abbrev cX4_fact : ByteArray := prog_13_method_25_code
def yX4_fact : MethodName := ⟨RX4, "fact", "()LSpoonCourt$Test;"⟩
abbrev cX4_opens : ByteArray := prog_13_method_12_code
def yX4_opens : MethodName := ⟨RX4, "opens", "(I)V"⟩
abbrev cX4_sign : ByteArray := prog_13_method_26_code
def yX4_sign : MethodName := ⟨RX4, "sign", "()I"⟩
theorem q115 : (Jvm.Cond.initialized "SpoonCourt$Text") ∈ lw_all := lw_g (lw_at lw_m1 8 rfl) rfl
theorem q150 : (Jvm.Cond.fieldLinkNest "SpoonCourt$Text" (108 : Nat) "SpoonCourt$Court" "day" "I" "SpoonCourt") ∈ lw_tbl := lw_at lw_m1 43 rfl
theorem q152 : (Jvm.Cond.fieldLinkNest "SpoonCourt$Text" (111 : Nat) "SpoonCourt$Court" "owed" "I" "SpoonCourt") ∈ lw_tbl := lw_at lw_m1 45 rfl
theorem q156 : (Jvm.Cond.fieldLinkNest "SpoonCourt$Text" (98 : Nat) "SpoonCourt$Court" "thingMany" "I" "SpoonCourt") ∈ lw_tbl := lw_at lw_m1 49 rfl
theorem q159 : (Jvm.Cond.fieldLinkNest "SpoonCourt$Text" (101 : Nat) "SpoonCourt$Court" "personMany" "I" "SpoonCourt") ∈ lw_tbl := lw_at lw_m1 52 rfl
theorem q165 : (Jvm.Cond.fieldLinkNest "SpoonCourt$Text" (93 : Nat) "SpoonCourt$Court" "isTold" "I" "SpoonCourt") ∈ lw_tbl := lw_at lw_m1 58 rfl
theorem q176 : (Jvm.Cond.fieldLinkNest "SpoonCourt$Text" (133 : Nat) "SpoonCourt$Court" "rank" "[I" "SpoonCourt") ∈ lw_tbl := lw_at lw_m1 69 rfl
theorem q179 : (Jvm.Cond.fieldLinkNest "SpoonCourt$Text" (114 : Nat) "SpoonCourt$Court" "usual" "[I" "SpoonCourt") ∈ lw_tbl := lw_at lw_m1 72 rfl
theorem q182 : (Jvm.Cond.fieldLinkNest "SpoonCourt$Text" (127 : Nat) "SpoonCourt$Court" "quarrels" "[I" "SpoonCourt") ∈ lw_tbl := lw_at lw_m1 75 rfl
theorem q184 : (Jvm.Cond.fieldLinkNest "SpoonCourt$Text" (118 : Nat) "SpoonCourt$Court" "toldThanks" "[I" "SpoonCourt") ∈ lw_tbl := lw_at lw_m1 77 rfl
theorem q187 : (Jvm.Cond.fieldLinkNest "SpoonCourt$Text" (121 : Nat) "SpoonCourt$Court" "serves" "[I" "SpoonCourt") ∈ lw_tbl := lw_at lw_m1 80 rfl
theorem q302 : (Jvm.Cond.fieldLinkNest "SpoonCourt$Text" (33 : Nat) "SpoonCourt$Fault" "kind" "I" "SpoonCourt") ∈ lw_tbl := lw_at lw_m1 195 rfl
theorem q304 : (Jvm.Cond.fieldLinkNest "SpoonCourt$Text" (39 : Nat) "SpoonCourt$Fault" "place" "I" "SpoonCourt") ∈ lw_tbl := lw_at lw_m1 197 rfl
theorem q350 : (Jvm.Cond.fieldLinkNest "SpoonCourt$Text" (22 : Nat) "SpoonCourt" "reading" "LSpoonCourt$Court;" "SpoonCourt") ∈ lw_tbl := lw_at lw_m2 3 rfl
theorem q353 : (Jvm.Cond.fieldLinkNest "SpoonCourt$Text" (142 : Nat) "SpoonCourt" "blank" "LSpoonCourt$Court;" "SpoonCourt") ∈ lw_tbl := lw_at lw_m2 6 rfl
theorem q356 : (Jvm.Cond.fieldLinkNest "SpoonCourt$Text" (29 : Nat) "SpoonCourt" "fault" "LSpoonCourt$Fault;" "SpoonCourt") ∈ lw_tbl := lw_at lw_m2 9 rfl
theorem q358 : (Jvm.Cond.fieldLinkNest "SpoonCourt$Text" (48 : Nat) "SpoonCourt" "tape" "[B" "SpoonCourt") ∈ lw_tbl := lw_at lw_m2 11 rfl
theorem q360 : (Jvm.Cond.fieldLinkNest "SpoonCourt$Text" (45 : Nat) "SpoonCourt" "taped" "I" "SpoonCourt") ∈ lw_tbl := lw_at lw_m2 13 rfl
theorem q363 : (Jvm.Cond.fieldLinkNest "SpoonCourt$Text" (149 : Nat) "SpoonCourt" "lineWords" "[Ljava/lang/String;" "SpoonCourt") ∈ lw_tbl := lw_at lw_m2 16 rfl
theorem q365 : (Jvm.Cond.fieldLinkNest "SpoonCourt$Text" (198 : Nat) "SpoonCourt" "clauseWords" "[Ljava/lang/String;" "SpoonCourt") ∈ lw_tbl := lw_at lw_m2 18 rfl
theorem q366 : (Jvm.Cond.fieldLinkNest "SpoonCourt$Text" (15 : Nat) "SpoonCourt" "wordNames" "[Ljava/lang/String;" "SpoonCourt") ∈ lw_tbl := lw_at lw_m2 19 rfl
theorem q440 : (Jvm.Cond.instantiable "SpoonCourt$Text" (7 : Nat)) ∈ lw_all := lw_g (lw_at lw_m2 93 rfl) rfl
theorem q442 : (Jvm.Cond.instanceMethod ({ cls := "SpoonCourt$Text", name := "<init>", desc := "(LSpoonCourt;)V" } : Jvm.MethodName)) ∈ lw_all := lw_g (lw_at lw_m2 95 rfl) rfl
theorem q443 : (Jvm.Cond.code ({ cls := "SpoonCourt$Text", name := "<init>", desc := "(LSpoonCourt;)V" } : Jvm.MethodName) prog_13_method_1_code (2 : Nat) (Option.none : Option Jvm.ClassFile.FieldType)) ∈ lw_all := lw_g (lw_at lw_m2 96 rfl) rfl
theorem q444 : (Jvm.Cond.methodLink "SpoonCourt$Text" (9 : Nat) ({ cls := "java/lang/Object", name := "<init>", desc := "()V" } : Jvm.MethodName)) ∈ lw_all := lw_g (lw_at lw_m2 97 rfl) rfl
theorem q445 : (Jvm.Cond.fieldLink "SpoonCourt$Text" (19 : Nat) "SpoonCourt$Text" "words" "[Ljava/lang/String;") ∈ lw_all := lw_g (lw_at lw_m2 98 rfl) rfl
theorem q446 : (Jvm.Cond.fieldLink "SpoonCourt$Text" (26 : Nat) "SpoonCourt$Text" "read" "LSpoonCourt$Court;") ∈ lw_all := lw_g (lw_at lw_m2 99 rfl) rfl
theorem q447 : (Jvm.Cond.fieldLink "SpoonCourt$Text" (42 : Nat) "SpoonCourt$Text" "next" "I") ∈ lw_all := lw_g (lw_at lw_m2 100 rfl) rfl
theorem q448 : (Jvm.Cond.fieldLink "SpoonCourt$Text" (87 : Nat) "SpoonCourt$Text" "deep" "I") ∈ lw_all := lw_g (lw_at lw_m2 101 rfl) rfl
theorem q449 : (Jvm.Cond.fieldLink "SpoonCourt$Text" (84 : Nat) "SpoonCourt$Text" "made" "I") ∈ lw_all := lw_g (lw_at lw_m2 102 rfl) rfl
theorem q450 : (Jvm.Cond.fieldLink "SpoonCourt$Text" (90 : Nat) "SpoonCourt$Text" "many" "I") ∈ lw_all := lw_g (lw_at lw_m2 103 rfl) rfl
theorem q451 : (Jvm.Cond.fieldLink "SpoonCourt$Text" (3 : Nat) "SpoonCourt$Text" "this$0" "LSpoonCourt;") ∈ lw_all := lw_g (lw_at lw_m2 104 rfl) rfl
theorem q452 : (Jvm.Cond.laysFinal "SpoonCourt$Text" "SpoonCourt$Text" "words" "[Ljava/lang/String;") ∈ lw_all := lw_g (lw_at lw_m2 105 rfl) rfl
theorem q453 : (Jvm.Cond.soleField "SpoonCourt$Text" "words") ∈ lw_all := lw_g (lw_at lw_m2 106 rfl) rfl
theorem q454 : (Jvm.Cond.laysFinal "SpoonCourt$Text" "SpoonCourt$Text" "read" "LSpoonCourt$Court;") ∈ lw_all := lw_g (lw_at lw_m2 107 rfl) rfl
theorem q455 : (Jvm.Cond.soleField "SpoonCourt$Text" "read") ∈ lw_all := lw_g (lw_at lw_m2 108 rfl) rfl
theorem q456 : (Jvm.Cond.lays "SpoonCourt$Text" "SpoonCourt$Text" "next" "I") ∈ lw_all := lw_g (lw_at lw_m2 109 rfl) rfl
theorem q457 : (Jvm.Cond.soleField "SpoonCourt$Text" "next") ∈ lw_all := lw_g (lw_at lw_m2 110 rfl) rfl
theorem q458 : (Jvm.Cond.lays "SpoonCourt$Text" "SpoonCourt$Text" "deep" "I") ∈ lw_all := lw_g (lw_at lw_m2 111 rfl) rfl
theorem q459 : (Jvm.Cond.soleField "SpoonCourt$Text" "deep") ∈ lw_all := lw_g (lw_at lw_m2 112 rfl) rfl
theorem q460 : (Jvm.Cond.lays "SpoonCourt$Text" "SpoonCourt$Text" "made" "I") ∈ lw_all := lw_g (lw_at lw_m2 113 rfl) rfl
theorem q461 : (Jvm.Cond.soleField "SpoonCourt$Text" "made") ∈ lw_all := lw_g (lw_at lw_m2 114 rfl) rfl
theorem q462 : (Jvm.Cond.lays "SpoonCourt$Text" "SpoonCourt$Text" "many" "I") ∈ lw_all := lw_g (lw_at lw_m2 115 rfl) rfl
theorem q463 : (Jvm.Cond.soleField "SpoonCourt$Text" "many") ∈ lw_all := lw_g (lw_at lw_m2 116 rfl) rfl
theorem q464 : (Jvm.Cond.laysFinal "SpoonCourt$Text" "SpoonCourt$Text" "this$0" "LSpoonCourt;") ∈ lw_all := lw_g (lw_at lw_m2 117 rfl) rfl
theorem q465 : (Jvm.Cond.soleField "SpoonCourt$Text" "this$0") ∈ lw_all := lw_g (lw_at lw_m2 118 rfl) rfl
theorem q466 : (Jvm.Cond.superclass "SpoonCourt$Text" "java/lang/Object") ∈ lw_all := lw_g (lw_at lw_m2 119 rfl) rfl
theorem q468 : (Jvm.Cond.instanceMethod ({ cls := "SpoonCourt$Text", name := "courtTold", desc := "()LSpoonCourt$Court;" } : Jvm.MethodName)) ∈ lw_all := lw_g (lw_at lw_m2 121 rfl) rfl
theorem q469 : (Jvm.Cond.selects "SpoonCourt$Text" ({ cls := "SpoonCourt$Text", name := "courtTold", desc := "()LSpoonCourt$Court;" } : Jvm.MethodName) ({ cls := "SpoonCourt$Text", name := "courtTold", desc := "()LSpoonCourt$Court;" } : Jvm.MethodName)) ∈ lw_all := lw_g (lw_at lw_m2 122 rfl) rfl
theorem q470 : (Jvm.Cond.code ({ cls := "SpoonCourt$Text", name := "courtTold", desc := "()LSpoonCourt$Court;" } : Jvm.MethodName) prog_13_method_20_code (3 : Nat) (Option.some (Jvm.ClassFile.FieldType.object "SpoonCourt$Court"))) ∈ lw_all := lw_g (lw_at lw_m2 123 rfl) rfl
theorem q471 : (Jvm.Cond.methodLink "SpoonCourt$Text" (145 : Nat) ({ cls := "SpoonCourt$Court", name := "copies", desc := "(LSpoonCourt$Court;)LSpoonCourt$Court;" } : Jvm.MethodName)) ∈ lw_all := lw_g (lw_at lw_m2 124 rfl) rfl
theorem q482 : (Jvm.Cond.methodLink "SpoonCourt$Text" (52 : Nat) ({ cls := "SpoonCourt$Text", name := "see", desc := "()I" } : Jvm.MethodName)) ∈ lw_all := lw_g (lw_at lw_m2 135 rfl) rfl
theorem q483 : (Jvm.Cond.privateMethod ({ cls := "SpoonCourt$Text", name := "see", desc := "()I" } : Jvm.MethodName)) ∈ lw_tbl := lw_at lw_m2 136 rfl
theorem q484 : (Jvm.Cond.instanceMethod ({ cls := "SpoonCourt$Text", name := "see", desc := "()I" } : Jvm.MethodName)) ∈ lw_all := lw_g (lw_at lw_m2 137 rfl) rfl
theorem q485 : (Jvm.Cond.code ({ cls := "SpoonCourt$Text", name := "see", desc := "()I" } : Jvm.MethodName) prog_13_method_3_code (1 : Nat) (Option.some Jvm.ClassFile.FieldType.int)) ∈ lw_all := lw_g (lw_at lw_m2 138 rfl) rfl
theorem q486 : (Jvm.Cond.methodLink "SpoonCourt$Text" (152 : Nat) ({ cls := "SpoonCourt$Text", name := "oneOf", desc := "([Ljava/lang/String;)I" } : Jvm.MethodName)) ∈ lw_all := lw_g (lw_at lw_m2 139 rfl) rfl
theorem q487 : (Jvm.Cond.privateMethod ({ cls := "SpoonCourt$Text", name := "oneOf", desc := "([Ljava/lang/String;)I" } : Jvm.MethodName)) ∈ lw_tbl := lw_at lw_m2 140 rfl
theorem q488 : (Jvm.Cond.instanceMethod ({ cls := "SpoonCourt$Text", name := "oneOf", desc := "([Ljava/lang/String;)I" } : Jvm.MethodName)) ∈ lw_all := lw_g (lw_at lw_m2 141 rfl) rfl
theorem q489 : (Jvm.Cond.code ({ cls := "SpoonCourt$Text", name := "oneOf", desc := "([Ljava/lang/String;)I" } : Jvm.MethodName) prog_13_method_8_code (3 : Nat) (Option.some Jvm.ClassFile.FieldType.int)) ∈ lw_all := lw_g (lw_at lw_m2 142 rfl) rfl
theorem q490 : (Jvm.Cond.methodLink "SpoonCourt$Text" (68 : Nat) ({ cls := "SpoonCourt$Text", name := "isWord", desc := "(Ljava/lang/String;)Z" } : Jvm.MethodName)) ∈ lw_all := lw_g (lw_at lw_m2 143 rfl) rfl
theorem q491 : (Jvm.Cond.privateMethod ({ cls := "SpoonCourt$Text", name := "isWord", desc := "(Ljava/lang/String;)Z" } : Jvm.MethodName)) ∈ lw_tbl := lw_at lw_m2 144 rfl
theorem q492 : (Jvm.Cond.instanceMethod ({ cls := "SpoonCourt$Text", name := "isWord", desc := "(Ljava/lang/String;)Z" } : Jvm.MethodName)) ∈ lw_all := lw_g (lw_at lw_m2 145 rfl) rfl
theorem q493 : (Jvm.Cond.code ({ cls := "SpoonCourt$Text", name := "isWord", desc := "(Ljava/lang/String;)Z" } : Jvm.MethodName) prog_13_method_6_code (5 : Nat) (Option.some Jvm.ClassFile.FieldType.boolean)) ∈ lw_all := lw_g (lw_at lw_m2 146 rfl) rfl
theorem q494 : (Jvm.Cond.methodLink "SpoonCourt$Text" (56 : Nat) ({ cls := "SpoonCourt$Text", name := "letters", desc := "()I" } : Jvm.MethodName)) ∈ lw_all := lw_g (lw_at lw_m2 147 rfl) rfl
theorem q495 : (Jvm.Cond.privateMethod ({ cls := "SpoonCourt$Text", name := "letters", desc := "()I" } : Jvm.MethodName)) ∈ lw_tbl := lw_at lw_m2 148 rfl
theorem q496 : (Jvm.Cond.instanceMethod ({ cls := "SpoonCourt$Text", name := "letters", desc := "()I" } : Jvm.MethodName)) ∈ lw_all := lw_g (lw_at lw_m2 149 rfl) rfl
theorem q497 : (Jvm.Cond.code ({ cls := "SpoonCourt$Text", name := "letters", desc := "()I" } : Jvm.MethodName) prog_13_method_5_code (2 : Nat) (Option.some Jvm.ClassFile.FieldType.int)) ∈ lw_all := lw_g (lw_at lw_m2 150 rfl) rfl
theorem q498 : (Jvm.Cond.methodLink "SpoonCourt$Text" (59 : Nat) ({ cls := "java/lang/String", name := "length", desc := "()I" } : Jvm.MethodName)) ∈ lw_all := lw_g (lw_at lw_m2 151 rfl) rfl
theorem q508 : (Jvm.Cond.methodLink "SpoonCourt$Text" (64 : Nat) ({ cls := "java/lang/String", name := "charAt", desc := "(I)C" } : Jvm.MethodName)) ∈ lw_all := lw_g (lw_at lw_m2 161 rfl) rfl
theorem q546 : (Jvm.Cond.methodLink "SpoonCourt$Text" (76 : Nat) ({ cls := "SpoonCourt$Text", name := "demand", desc := "(ZII)V" } : Jvm.MethodName)) ∈ lw_all := lw_g (lw_at lw_m2 199 rfl) rfl
theorem q547 : (Jvm.Cond.privateMethod ({ cls := "SpoonCourt$Text", name := "demand", desc := "(ZII)V" } : Jvm.MethodName)) ∈ lw_tbl := lw_at lw_m2 200 rfl
theorem q548 : (Jvm.Cond.instanceMethod ({ cls := "SpoonCourt$Text", name := "demand", desc := "(ZII)V" } : Jvm.MethodName)) ∈ lw_all := lw_g (lw_at lw_m2 201 rfl) rfl
theorem q549 : (Jvm.Cond.code ({ cls := "SpoonCourt$Text", name := "demand", desc := "(ZII)V" } : Jvm.MethodName) prog_13_method_2_code (4 : Nat) (Option.none : Option Jvm.ClassFile.FieldType)) ∈ lw_all := lw_g (lw_at lw_m2 202 rfl) rfl
theorem q550 : (Jvm.Cond.methodLink "SpoonCourt$Text" (156 : Nat) ({ cls := "SpoonCourt$Text", name := "canBe", desc := "(I)Z" } : Jvm.MethodName)) ∈ lw_all := lw_g (lw_at lw_m2 203 rfl) rfl
theorem q551 : (Jvm.Cond.privateMethod ({ cls := "SpoonCourt$Text", name := "canBe", desc := "(I)Z" } : Jvm.MethodName)) ∈ lw_tbl := lw_at lw_m2 204 rfl
theorem q552 : (Jvm.Cond.instanceMethod ({ cls := "SpoonCourt$Text", name := "canBe", desc := "(I)Z" } : Jvm.MethodName)) ∈ lw_all := lw_g (lw_at lw_m2 205 rfl) rfl
theorem q553 : (Jvm.Cond.code ({ cls := "SpoonCourt$Text", name := "canBe", desc := "(I)Z" } : Jvm.MethodName) prog_13_method_14_code (2 : Nat) (Option.some Jvm.ClassFile.FieldType.boolean)) ∈ lw_all := lw_g (lw_at lw_m2 206 rfl) rfl
theorem q554 : (Jvm.Cond.methodLink "SpoonCourt$Text" (159 : Nat) ({ cls := "SpoonCourt$Text", name := "line", desc := "(I)V" } : Jvm.MethodName)) ∈ lw_all := lw_g (lw_at lw_m2 207 rfl) rfl
theorem q555 : (Jvm.Cond.privateMethod ({ cls := "SpoonCourt$Text", name := "line", desc := "(I)V" } : Jvm.MethodName)) ∈ lw_tbl := lw_at lw_m2 208 rfl
theorem q556 : (Jvm.Cond.instanceMethod ({ cls := "SpoonCourt$Text", name := "line", desc := "(I)V" } : Jvm.MethodName)) ∈ lw_all := lw_g (lw_at lw_m2 209 rfl) rfl
theorem q557 : (Jvm.Cond.code ({ cls := "SpoonCourt$Text", name := "line", desc := "(I)V" } : Jvm.MethodName) prog_13_method_19_code (3 : Nat) (Option.none : Option Jvm.ClassFile.FieldType)) ∈ lw_all := lw_g (lw_at lw_m2 210 rfl) rfl
theorem q558 : (Jvm.Cond.methodLink "SpoonCourt$Text" (130 : Nat) ({ cls := "SpoonCourt$Text", name := "courtHere", desc := "()V" } : Jvm.MethodName)) ∈ lw_all := lw_g (lw_at lw_m2 211 rfl) rfl
theorem q559 : (Jvm.Cond.privateMethod ({ cls := "SpoonCourt$Text", name := "courtHere", desc := "()V" } : Jvm.MethodName)) ∈ lw_tbl := lw_at lw_m2 212 rfl
theorem q560 : (Jvm.Cond.instanceMethod ({ cls := "SpoonCourt$Text", name := "courtHere", desc := "()V" } : Jvm.MethodName)) ∈ lw_all := lw_g (lw_at lw_m2 213 rfl) rfl
theorem q561 : (Jvm.Cond.code ({ cls := "SpoonCourt$Text", name := "courtHere", desc := "()V" } : Jvm.MethodName) prog_13_method_16_code (2 : Nat) (Option.none : Option Jvm.ClassFile.FieldType)) ∈ lw_all := lw_g (lw_at lw_m2 214 rfl) rfl
theorem q562 : (Jvm.Cond.methodLink "SpoonCourt$Text" (104 : Nat) ({ cls := "SpoonCourt$Text", name := "number", desc := "(II)I" } : Jvm.MethodName)) ∈ lw_all := lw_g (lw_at lw_m2 215 rfl) rfl
theorem q563 : (Jvm.Cond.privateMethod ({ cls := "SpoonCourt$Text", name := "number", desc := "(II)I" } : Jvm.MethodName)) ∈ lw_tbl := lw_at lw_m2 216 rfl
theorem q564 : (Jvm.Cond.instanceMethod ({ cls := "SpoonCourt$Text", name := "number", desc := "(II)I" } : Jvm.MethodName)) ∈ lw_all := lw_g (lw_at lw_m2 217 rfl) rfl
theorem q565 : (Jvm.Cond.code ({ cls := "SpoonCourt$Text", name := "number", desc := "(II)I" } : Jvm.MethodName) prog_13_method_10_code (5 : Nat) (Option.some Jvm.ClassFile.FieldType.int)) ∈ lw_all := lw_g (lw_at lw_m2 218 rfl) rfl
theorem q566 : (Jvm.Cond.methodLink "SpoonCourt$Text" (72 : Nat) ({ cls := "SpoonCourt$Text", name := "isDigit", desc := "(I)Z" } : Jvm.MethodName)) ∈ lw_all := lw_g (lw_at lw_m2 219 rfl) rfl
theorem q567 : (Jvm.Cond.privateMethod ({ cls := "SpoonCourt$Text", name := "isDigit", desc := "(I)Z" } : Jvm.MethodName)) ∈ lw_tbl := lw_at lw_m2 220 rfl
theorem q568 : (Jvm.Cond.instanceMethod ({ cls := "SpoonCourt$Text", name := "isDigit", desc := "(I)Z" } : Jvm.MethodName)) ∈ lw_all := lw_g (lw_at lw_m2 221 rfl) rfl
theorem q569 : (Jvm.Cond.code ({ cls := "SpoonCourt$Text", name := "isDigit", desc := "(I)Z" } : Jvm.MethodName) prog_13_method_9_code (2 : Nat) (Option.some Jvm.ClassFile.FieldType.boolean)) ∈ lw_all := lw_g (lw_at lw_m2 222 rfl) rfl
theorem q570 : (Jvm.Cond.methodLinkNest "SpoonCourt$Text" (80 : Nat) ({ cls := "SpoonCourt", name := "in", desc := "(JJJ)Z" } : Jvm.MethodName) "SpoonCourt") ∈ lw_tbl := lw_at lw_m2 223 rfl
theorem q573 : (Jvm.Cond.methodLink "SpoonCourt$Text" (124 : Nat) ({ cls := "SpoonCourt$Text", name := "thingNumber", desc := "()I" } : Jvm.MethodName)) ∈ lw_all := lw_g (lw_at lw_m2 226 rfl) rfl
theorem q574 : (Jvm.Cond.privateMethod ({ cls := "SpoonCourt$Text", name := "thingNumber", desc := "()I" } : Jvm.MethodName)) ∈ lw_tbl := lw_at lw_m2 227 rfl
theorem q575 : (Jvm.Cond.instanceMethod ({ cls := "SpoonCourt$Text", name := "thingNumber", desc := "()I" } : Jvm.MethodName)) ∈ lw_all := lw_g (lw_at lw_m2 228 rfl) rfl
theorem q576 : (Jvm.Cond.code ({ cls := "SpoonCourt$Text", name := "thingNumber", desc := "()I" } : Jvm.MethodName) prog_13_method_15_code (1 : Nat) (Option.some Jvm.ClassFile.FieldType.int)) ∈ lw_all := lw_g (lw_at lw_m2 229 rfl) rfl
theorem q577 : (Jvm.Cond.methodLink "SpoonCourt$Text" (136 : Nat) ({ cls := "SpoonCourt$Text", name := "personHere", desc := "()V" } : Jvm.MethodName)) ∈ lw_all := lw_g (lw_at lw_m2 230 rfl) rfl
theorem q578 : (Jvm.Cond.privateMethod ({ cls := "SpoonCourt$Text", name := "personHere", desc := "()V" } : Jvm.MethodName)) ∈ lw_tbl := lw_at lw_m2 231 rfl
theorem q579 : (Jvm.Cond.instanceMethod ({ cls := "SpoonCourt$Text", name := "personHere", desc := "()V" } : Jvm.MethodName)) ∈ lw_all := lw_g (lw_at lw_m2 232 rfl) rfl
theorem q580 : (Jvm.Cond.code ({ cls := "SpoonCourt$Text", name := "personHere", desc := "()V" } : Jvm.MethodName) prog_13_method_17_code (2 : Nat) (Option.none : Option Jvm.ClassFile.FieldType)) ∈ lw_all := lw_g (lw_at lw_m2 233 rfl) rfl
theorem q581 : (Jvm.Cond.methodLink "SpoonCourt$Text" (139 : Nat) ({ cls := "SpoonCourt$Text", name := "quarrelHere", desc := "()V" } : Jvm.MethodName)) ∈ lw_all := lw_g (lw_at lw_m2 234 rfl) rfl
theorem q582 : (Jvm.Cond.privateMethod ({ cls := "SpoonCourt$Text", name := "quarrelHere", desc := "()V" } : Jvm.MethodName)) ∈ lw_tbl := lw_at lw_m2 235 rfl
theorem q583 : (Jvm.Cond.instanceMethod ({ cls := "SpoonCourt$Text", name := "quarrelHere", desc := "()V" } : Jvm.MethodName)) ∈ lw_all := lw_g (lw_at lw_m2 236 rfl) rfl
theorem q584 : (Jvm.Cond.code ({ cls := "SpoonCourt$Text", name := "quarrelHere", desc := "()V" } : Jvm.MethodName) prog_13_method_18_code (4 : Nat) (Option.none : Option Jvm.ClassFile.FieldType)) ∈ lw_all := lw_g (lw_at lw_m2 237 rfl) rfl
theorem q585 : (Jvm.Cond.methodLink "SpoonCourt$Text" (163 : Nat) ({ cls := "SpoonCourt$Text", name := "takesSign", desc := "(I)Z" } : Jvm.MethodName)) ∈ lw_all := lw_g (lw_at lw_m2 238 rfl) rfl
theorem q586 : (Jvm.Cond.privateMethod ({ cls := "SpoonCourt$Text", name := "takesSign", desc := "(I)Z" } : Jvm.MethodName)) ∈ lw_tbl := lw_at lw_m2 239 rfl
theorem q587 : (Jvm.Cond.instanceMethod ({ cls := "SpoonCourt$Text", name := "takesSign", desc := "(I)Z" } : Jvm.MethodName)) ∈ lw_all := lw_g (lw_at lw_m3 0 rfl) rfl
theorem q588 : (Jvm.Cond.code ({ cls := "SpoonCourt$Text", name := "takesSign", desc := "(I)Z" } : Jvm.MethodName) prog_13_method_4_code (2 : Nat) (Option.some Jvm.ClassFile.FieldType.boolean)) ∈ lw_all := lw_g (lw_at lw_m3 1 rfl) rfl
theorem q589 : (Jvm.Cond.methodLink "SpoonCourt$Text" (166 : Nat) ({ cls := "SpoonCourt$Text", name := "ends", desc := "()V" } : Jvm.MethodName)) ∈ lw_all := lw_g (lw_at lw_m3 2 rfl) rfl
theorem q590 : (Jvm.Cond.privateMethod ({ cls := "SpoonCourt$Text", name := "ends", desc := "()V" } : Jvm.MethodName)) ∈ lw_tbl := lw_at lw_m3 3 rfl
theorem q591 : (Jvm.Cond.instanceMethod ({ cls := "SpoonCourt$Text", name := "ends", desc := "()V" } : Jvm.MethodName)) ∈ lw_all := lw_g (lw_at lw_m3 4 rfl) rfl
theorem q592 : (Jvm.Cond.code ({ cls := "SpoonCourt$Text", name := "ends", desc := "()V" } : Jvm.MethodName) prog_13_method_13_code (1 : Nat) (Option.none : Option Jvm.ClassFile.FieldType)) ∈ lw_all := lw_g (lw_at lw_m3 5 rfl) rfl
theorem q593 : (Jvm.Cond.methodLink "SpoonCourt$Text" (169 : Nat) ({ cls := "SpoonCourt$Court", name := "begins", desc := "()V" } : Jvm.MethodName)) ∈ lw_all := lw_g (lw_at lw_m3 6 rfl) rfl
theorem q607 : (Jvm.Cond.instanceMethod ({ cls := "SpoonCourt$Text", name := "ruleTold", desc := "()LSpoonCourt$Rule;" } : Jvm.MethodName)) ∈ lw_all := lw_g (lw_at lw_m3 20 rfl) rfl
theorem q608 : (Jvm.Cond.selects "SpoonCourt$Text" ({ cls := "SpoonCourt$Text", name := "ruleTold", desc := "()LSpoonCourt$Rule;" } : Jvm.MethodName) ({ cls := "SpoonCourt$Text", name := "ruleTold", desc := "()LSpoonCourt$Rule;" } : Jvm.MethodName)) ∈ lw_all := lw_g (lw_at lw_m3 21 rfl) rfl
theorem q609 : (Jvm.Cond.code ({ cls := "SpoonCourt$Text", name := "ruleTold", desc := "()LSpoonCourt$Rule;" } : Jvm.MethodName) prog_13_method_22_code (3 : Nat) (Option.some (Jvm.ClassFile.FieldType.object "SpoonCourt$Rule"))) ∈ lw_all := lw_g (lw_at lw_m3 22 rfl) rfl
theorem q610 : (Jvm.Cond.classLink "SpoonCourt$Text" (195 : Nat) "SpoonCourt$Rule") ∈ lw_all := lw_g (lw_at lw_m3 23 rfl) rfl
theorem q612 : (Jvm.Cond.methodLinkNest "SpoonCourt$Text" (197 : Nat) ({ cls := "SpoonCourt$Rule", name := "<init>", desc := "()V" } : Jvm.MethodName) "SpoonCourt") ∈ lw_tbl := lw_at lw_m3 25 rfl
theorem q619 : (Jvm.Cond.fieldLinkNest "SpoonCourt$Text" (201 : Nat) "SpoonCourt$Rule" "clauses" "[LSpoonCourt$Clause;" "SpoonCourt") ∈ lw_tbl := lw_at lw_m3 32 rfl
theorem q621 : (Jvm.Cond.fieldLinkNest "SpoonCourt$Text" (205 : Nat) "SpoonCourt$Rule" "many" "I" "SpoonCourt") ∈ lw_tbl := lw_at lw_m3 34 rfl
theorem q627 : (Jvm.Cond.methodLink "SpoonCourt$Text" (206 : Nat) ({ cls := "SpoonCourt$Text", name := "clauseHere", desc := "()LSpoonCourt$Clause;" } : Jvm.MethodName)) ∈ lw_all := lw_g (lw_at lw_m3 40 rfl) rfl
theorem q628 : (Jvm.Cond.privateMethod ({ cls := "SpoonCourt$Text", name := "clauseHere", desc := "()LSpoonCourt$Clause;" } : Jvm.MethodName)) ∈ lw_tbl := lw_at lw_m3 41 rfl
theorem q629 : (Jvm.Cond.instanceMethod ({ cls := "SpoonCourt$Text", name := "clauseHere", desc := "()LSpoonCourt$Clause;" } : Jvm.MethodName)) ∈ lw_all := lw_g (lw_at lw_m3 42 rfl) rfl
theorem q630 : (Jvm.Cond.code ({ cls := "SpoonCourt$Text", name := "clauseHere", desc := "()LSpoonCourt$Clause;" } : Jvm.MethodName) prog_13_method_21_code (2 : Nat) (Option.some (Jvm.ClassFile.FieldType.object "SpoonCourt$Clause"))) ∈ lw_all := lw_g (lw_at lw_m3 43 rfl) rfl
theorem q631 : (Jvm.Cond.classLink "SpoonCourt$Text" (172 : Nat) "SpoonCourt$Clause") ∈ lw_all := lw_g (lw_at lw_m3 44 rfl) rfl
theorem q633 : (Jvm.Cond.methodLinkNest "SpoonCourt$Text" (174 : Nat) ({ cls := "SpoonCourt$Clause", name := "<init>", desc := "()V" } : Jvm.MethodName) "SpoonCourt") ∈ lw_tbl := lw_at lw_m3 46 rfl
theorem q638 : (Jvm.Cond.fieldLinkNest "SpoonCourt$Text" (179 : Nat) "SpoonCourt$Clause" "sum" "LSpoonCourt$Value;" "SpoonCourt") ∈ lw_tbl := lw_at lw_m3 51 rfl
theorem q640 : (Jvm.Cond.fieldLinkNest "SpoonCourt$Text" (191 : Nat) "SpoonCourt$Clause" "test" "LSpoonCourt$Test;" "SpoonCourt") ∈ lw_tbl := lw_at lw_m3 53 rfl
theorem q646 : (Jvm.Cond.methodLink "SpoonCourt$Text" (175 : Nat) ({ cls := "SpoonCourt$Text", name := "sum", desc := "()LSpoonCourt$Value;" } : Jvm.MethodName)) ∈ lw_all := lw_g (lw_at lw_m3 59 rfl) rfl
theorem q647 : (Jvm.Cond.privateMethod ({ cls := "SpoonCourt$Text", name := "sum", desc := "()LSpoonCourt$Value;" } : Jvm.MethodName)) ∈ lw_tbl := lw_at lw_m3 60 rfl
theorem q648 : (Jvm.Cond.instanceMethod ({ cls := "SpoonCourt$Text", name := "sum", desc := "()LSpoonCourt$Value;" } : Jvm.MethodName)) ∈ lw_all := lw_g (lw_at lw_m3 61 rfl) rfl
theorem q649 : (Jvm.Cond.code ({ cls := "SpoonCourt$Text", name := "sum", desc := "()LSpoonCourt$Value;" } : Jvm.MethodName) prog_13_method_27_code (3 : Nat) (Option.some (Jvm.ClassFile.FieldType.object "SpoonCourt$Value"))) ∈ lw_all := lw_g (lw_at lw_m3 62 rfl) rfl
theorem q650 : (Jvm.Cond.methodLink "SpoonCourt$Text" (246 : Nat) ({ cls := "SpoonCourt$Text", name := "term", desc := "()LSpoonCourt$Value;" } : Jvm.MethodName)) ∈ lw_all := lw_g (lw_at lw_m3 63 rfl) rfl
theorem q651 : (Jvm.Cond.privateMethod ({ cls := "SpoonCourt$Text", name := "term", desc := "()LSpoonCourt$Value;" } : Jvm.MethodName)) ∈ lw_tbl := lw_at lw_m3 64 rfl
theorem q652 : (Jvm.Cond.instanceMethod ({ cls := "SpoonCourt$Text", name := "term", desc := "()LSpoonCourt$Value;" } : Jvm.MethodName)) ∈ lw_all := lw_g (lw_at lw_m3 65 rfl) rfl
theorem q653 : (Jvm.Cond.code ({ cls := "SpoonCourt$Text", name := "term", desc := "()LSpoonCourt$Value;" } : Jvm.MethodName) prog_13_method_28_code (3 : Nat) (Option.some (Jvm.ClassFile.FieldType.object "SpoonCourt$Value"))) ∈ lw_all := lw_g (lw_at lw_m3 66 rfl) rfl
theorem q654 : (Jvm.Cond.methodLink "SpoonCourt$Text" (252 : Nat) ({ cls := "SpoonCourt$Text", name := "value", desc := "()LSpoonCourt$Value;" } : Jvm.MethodName)) ∈ lw_all := lw_g (lw_at lw_m3 67 rfl) rfl
theorem q655 : (Jvm.Cond.privateMethod ({ cls := "SpoonCourt$Text", name := "value", desc := "()LSpoonCourt$Value;" } : Jvm.MethodName)) ∈ lw_tbl := lw_at lw_m3 68 rfl
theorem q656 : (Jvm.Cond.instanceMethod ({ cls := "SpoonCourt$Text", name := "value", desc := "()LSpoonCourt$Value;" } : Jvm.MethodName)) ∈ lw_all := lw_g (lw_at lw_m3 69 rfl) rfl
theorem q657 : (Jvm.Cond.code ({ cls := "SpoonCourt$Text", name := "value", desc := "()LSpoonCourt$Value;" } : Jvm.MethodName) prog_13_method_29_code (3 : Nat) (Option.some (Jvm.ClassFile.FieldType.object "SpoonCourt$Value"))) ∈ lw_all := lw_g (lw_at lw_m3 70 rfl) rfl
theorem q658 : (Jvm.Cond.constant "SpoonCourt$Text" (255 : Nat) (99999 : Int32)) ∈ lw_all := lw_g (lw_at lw_m3 71 rfl) rfl
theorem q659 : (Jvm.Cond.methodLink "SpoonCourt$Text" (238 : Nat) ({ cls := "SpoonCourt$Text", name := "makes", desc := "(I)V" } : Jvm.MethodName)) ∈ lw_all := lw_g (lw_at lw_m3 72 rfl) rfl
theorem q660 : (Jvm.Cond.privateMethod ({ cls := "SpoonCourt$Text", name := "makes", desc := "(I)V" } : Jvm.MethodName)) ∈ lw_tbl := lw_at lw_m3 73 rfl
theorem q661 : (Jvm.Cond.instanceMethod ({ cls := "SpoonCourt$Text", name := "makes", desc := "(I)V" } : Jvm.MethodName)) ∈ lw_all := lw_g (lw_at lw_m3 74 rfl) rfl
theorem q662 : (Jvm.Cond.code ({ cls := "SpoonCourt$Text", name := "makes", desc := "(I)V" } : Jvm.MethodName) prog_13_method_11_code (2 : Nat) (Option.none : Option Jvm.ClassFile.FieldType)) ∈ lw_all := lw_g (lw_at lw_m3 75 rfl) rfl
theorem q663 : (Jvm.Cond.classLink "SpoonCourt$Text" (256 : Nat) "SpoonCourt$Number") ∈ lw_all := lw_g (lw_at lw_m3 76 rfl) rfl
theorem q665 : (Jvm.Cond.methodLink "SpoonCourt$Text" (258 : Nat) ({ cls := "SpoonCourt$Number", name := "<init>", desc := "(J)V" } : Jvm.MethodName)) ∈ lw_all := lw_g (lw_at lw_m3 78 rfl) rfl
theorem q676 : (Jvm.Cond.classLink "SpoonCourt$Text" (261 : Nat) "SpoonCourt$Word") ∈ lw_all := lw_g (lw_at lw_m3 89 rfl) rfl
theorem q678 : (Jvm.Cond.methodLink "SpoonCourt$Text" (263 : Nat) ({ cls := "SpoonCourt$Word", name := "<init>", desc := "(I)V" } : Jvm.MethodName)) ∈ lw_all := lw_g (lw_at lw_m3 91 rfl) rfl
theorem q686 : (Jvm.Cond.classLink "SpoonCourt$Text" (249 : Nat) "SpoonCourt$Pair") ∈ lw_all := lw_g (lw_at lw_m3 99 rfl) rfl
theorem q688 : (Jvm.Cond.methodLink "SpoonCourt$Text" (251 : Nat) ({ cls := "SpoonCourt$Pair", name := "<init>", desc := "(LSpoonCourt$Value;ILSpoonCourt$Value;)V" } : Jvm.MethodName)) ∈ lw_all := lw_g (lw_at lw_m3 101 rfl) rfl
theorem q702 : (Jvm.Cond.stringRef "SpoonCourt$Text" (182 : Nat) "if") ∈ lw_tbl := lw_at lw_m3 115 rfl
theorem q703 : (Jvm.Cond.methodLink "SpoonCourt$Text" (184 : Nat) ({ cls := "SpoonCourt$Text", name := "takesWord", desc := "(Ljava/lang/String;)Z" } : Jvm.MethodName)) ∈ lw_all := lw_g (lw_at lw_m3 116 rfl) rfl
theorem q704 : (Jvm.Cond.privateMethod ({ cls := "SpoonCourt$Text", name := "takesWord", desc := "(Ljava/lang/String;)Z" } : Jvm.MethodName)) ∈ lw_tbl := lw_at lw_m3 117 rfl
theorem q705 : (Jvm.Cond.instanceMethod ({ cls := "SpoonCourt$Text", name := "takesWord", desc := "(Ljava/lang/String;)Z" } : Jvm.MethodName)) ∈ lw_all := lw_g (lw_at lw_m3 118 rfl) rfl
theorem q706 : (Jvm.Cond.code ({ cls := "SpoonCourt$Text", name := "takesWord", desc := "(Ljava/lang/String;)Z" } : Jvm.MethodName) prog_13_method_7_code (2 : Nat) (Option.some Jvm.ClassFile.FieldType.boolean)) ∈ lw_all := lw_g (lw_at lw_m3 119 rfl) rfl
theorem q707 : (Jvm.Cond.methodLink "SpoonCourt$Text" (187 : Nat) ({ cls := "SpoonCourt$Text", name := "tested", desc := "()LSpoonCourt$Test;" } : Jvm.MethodName)) ∈ lw_all := lw_g (lw_at lw_m3 120 rfl) rfl
theorem q708 : (Jvm.Cond.privateMethod ({ cls := "SpoonCourt$Text", name := "tested", desc := "()LSpoonCourt$Test;" } : Jvm.MethodName)) ∈ lw_tbl := lw_at lw_m3 121 rfl
theorem q709 : (Jvm.Cond.instanceMethod ({ cls := "SpoonCourt$Text", name := "tested", desc := "()LSpoonCourt$Test;" } : Jvm.MethodName)) ∈ lw_all := lw_g (lw_at lw_m3 122 rfl) rfl
theorem q710 : (Jvm.Cond.code ({ cls := "SpoonCourt$Text", name := "tested", desc := "()LSpoonCourt$Test;" } : Jvm.MethodName) prog_13_method_23_code (2 : Nat) (Option.some (Jvm.ClassFile.FieldType.object "SpoonCourt$Test"))) ∈ lw_all := lw_g (lw_at lw_m3 123 rfl) rfl
theorem q711 : (Jvm.Cond.methodLink "SpoonCourt$Text" (210 : Nat) ({ cls := "SpoonCourt$Text", name := "parted", desc := "()LSpoonCourt$Test;" } : Jvm.MethodName)) ∈ lw_all := lw_g (lw_at lw_m3 124 rfl) rfl
theorem q712 : (Jvm.Cond.privateMethod ({ cls := "SpoonCourt$Text", name := "parted", desc := "()LSpoonCourt$Test;" } : Jvm.MethodName)) ∈ lw_tbl := lw_at lw_m3 125 rfl
theorem q713 : (Jvm.Cond.instanceMethod ({ cls := "SpoonCourt$Text", name := "parted", desc := "()LSpoonCourt$Test;" } : Jvm.MethodName)) ∈ lw_all := lw_g (lw_at lw_m3 126 rfl) rfl
theorem q714 : (Jvm.Cond.code ({ cls := "SpoonCourt$Text", name := "parted", desc := "()LSpoonCourt$Test;" } : Jvm.MethodName) prog_13_method_24_code (2 : Nat) (Option.some (Jvm.ClassFile.FieldType.object "SpoonCourt$Test"))) ∈ lw_all := lw_g (lw_at lw_m3 127 rfl) rfl
theorem q715 : (Jvm.Cond.methodLink "SpoonCourt$Text" (220 : Nat) ({ cls := "SpoonCourt$Text", name := "fact", desc := "()LSpoonCourt$Test;" } : Jvm.MethodName)) ∈ lw_all := lw_g (lw_at lw_m3 128 rfl) rfl
theorem q716 : (Jvm.Cond.privateMethod ({ cls := "SpoonCourt$Text", name := "fact", desc := "()LSpoonCourt$Test;" } : Jvm.MethodName)) ∈ lw_tbl := lw_at lw_m3 129 rfl
theorem q717 : (Jvm.Cond.instanceMethod ({ cls := "SpoonCourt$Text", name := "fact", desc := "()LSpoonCourt$Test;" } : Jvm.MethodName)) ∈ lw_all := lw_g (lw_at lw_m3 130 rfl) rfl
theorem q718 : (Jvm.Cond.code ({ cls := "SpoonCourt$Text", name := "fact", desc := "()LSpoonCourt$Test;" } : Jvm.MethodName) prog_13_method_25_code (6 : Nat) (Option.some (Jvm.ClassFile.FieldType.object "SpoonCourt$Test"))) ∈ lw_all := lw_g (lw_at lw_m3 131 rfl) rfl
theorem q719 : (Jvm.Cond.stringRef "SpoonCourt$Text" (225 : Nat) "not") ∈ lw_tbl := lw_at lw_m3 132 rfl
theorem q720 : (Jvm.Cond.methodLink "SpoonCourt$Text" (227 : Nat) ({ cls := "SpoonCourt$Text", name := "opens", desc := "(I)V" } : Jvm.MethodName)) ∈ lw_all := lw_g (lw_at lw_m3 133 rfl) rfl
theorem q721 : (Jvm.Cond.privateMethod ({ cls := "SpoonCourt$Text", name := "opens", desc := "(I)V" } : Jvm.MethodName)) ∈ lw_tbl := lw_at lw_m3 134 rfl
theorem q722 : (Jvm.Cond.instanceMethod ({ cls := "SpoonCourt$Text", name := "opens", desc := "(I)V" } : Jvm.MethodName)) ∈ lw_all := lw_g (lw_at lw_m3 135 rfl) rfl
theorem q723 : (Jvm.Cond.code ({ cls := "SpoonCourt$Text", name := "opens", desc := "(I)V" } : Jvm.MethodName) prog_13_method_12_code (2 : Nat) (Option.none : Option Jvm.ClassFile.FieldType)) ∈ lw_all := lw_g (lw_at lw_m3 136 rfl) rfl
theorem q724 : (Jvm.Cond.classLink "SpoonCourt$Text" (230 : Nat) "SpoonCourt$Not") ∈ lw_all := lw_g (lw_at lw_m3 137 rfl) rfl
theorem q726 : (Jvm.Cond.methodLink "SpoonCourt$Text" (232 : Nat) ({ cls := "SpoonCourt$Not", name := "<init>", desc := "(LSpoonCourt$Test;)V" } : Jvm.MethodName)) ∈ lw_all := lw_g (lw_at lw_m3 139 rfl) rfl
theorem q737 : (Jvm.Cond.methodLink "SpoonCourt$Text" (235 : Nat) ({ cls := "SpoonCourt$Text", name := "sign", desc := "()I" } : Jvm.MethodName)) ∈ lw_all := lw_g (lw_at lw_m3 150 rfl) rfl
theorem q738 : (Jvm.Cond.privateMethod ({ cls := "SpoonCourt$Text", name := "sign", desc := "()I" } : Jvm.MethodName)) ∈ lw_tbl := lw_at lw_m3 151 rfl
theorem q739 : (Jvm.Cond.instanceMethod ({ cls := "SpoonCourt$Text", name := "sign", desc := "()I" } : Jvm.MethodName)) ∈ lw_all := lw_g (lw_at lw_m3 152 rfl) rfl
theorem q740 : (Jvm.Cond.code ({ cls := "SpoonCourt$Text", name := "sign", desc := "()I" } : Jvm.MethodName) prog_13_method_26_code (3 : Nat) (Option.some Jvm.ClassFile.FieldType.int)) ∈ lw_all := lw_g (lw_at lw_m3 153 rfl) rfl
theorem q741 : (Jvm.Cond.classLink "SpoonCourt$Text" (241 : Nat) "SpoonCourt$Compare") ∈ lw_all := lw_g (lw_at lw_m3 154 rfl) rfl
theorem q743 : (Jvm.Cond.methodLink "SpoonCourt$Text" (243 : Nat) ({ cls := "SpoonCourt$Compare", name := "<init>", desc := "(LSpoonCourt$Value;ILSpoonCourt$Value;)V" } : Jvm.MethodName)) ∈ lw_all := lw_g (lw_at lw_m3 156 rfl) rfl
theorem q757 : (Jvm.Cond.stringRef "SpoonCourt$Text" (223 : Nat) "and") ∈ lw_tbl := lw_at lw_m3 170 rfl
theorem q758 : (Jvm.Cond.classLink "SpoonCourt$Text" (215 : Nat) "SpoonCourt$Both") ∈ lw_all := lw_g (lw_at lw_m3 171 rfl) rfl
theorem q760 : (Jvm.Cond.methodLink "SpoonCourt$Text" (217 : Nat) ({ cls := "SpoonCourt$Both", name := "<init>", desc := "(LSpoonCourt$Test;ZLSpoonCourt$Test;)V" } : Jvm.MethodName)) ∈ lw_all := lw_g (lw_at lw_m3 173 rfl) rfl
theorem q774 : (Jvm.Cond.stringRef "SpoonCourt$Text" (213 : Nat) "or") ∈ lw_tbl := lw_at lw_m3 187 rfl
theorem in_X4 : ∀ w ∈ wsX40, w ∈ lw_all := lw_in wsX40 [452, 454, 456, 458, 460, 462, 464] (by decide +kernel) (by decide +kernel)
-- J3.java_lang_String.lean.txt
def RJ3 : String := "java/lang/String"
abbrev cJ3_length : ByteArray := prog_22_method_54_code
def yJ3_length : MethodName := ⟨RJ3, "length", "()I"⟩
abbrev cJ3_coder : ByteArray := prog_22_method_152_code
def yJ3_coder : MethodName := ⟨RJ3, "coder", "()B"⟩
abbrev cJ3_charAt : ByteArray := prog_22_method_56_code
def yJ3_charAt : MethodName := ⟨RJ3, "charAt", "(I)C"⟩
abbrev cJ3_isLatin1 : ByteArray := prog_22_method_154_code
def yJ3_isLatin1 : MethodName := ⟨RJ3, "isLatin1", "()Z"⟩
abbrev cJ3_checkIndex : ByteArray := prog_22_method_155_code
def yJ3_checkIndex : MethodName := ⟨RJ3, "checkIndex", "(II)V"⟩
theorem q117 : (Jvm.Cond.initialized "java/lang/String") ∈ lw_all := lw_g (lw_at lw_m1 10 rfl) rfl
theorem q499 : (Jvm.Cond.instanceMethod ({ cls := "java/lang/String", name := "length", desc := "()I" } : Jvm.MethodName)) ∈ lw_all := lw_g (lw_at lw_m2 152 rfl) rfl
theorem q500 : (Jvm.Cond.selects "java/lang/String" ({ cls := "java/lang/String", name := "length", desc := "()I" } : Jvm.MethodName) ({ cls := "java/lang/String", name := "length", desc := "()I" } : Jvm.MethodName)) ∈ lw_all := lw_g (lw_at lw_m2 153 rfl) rfl
theorem q501 : (Jvm.Cond.code ({ cls := "java/lang/String", name := "length", desc := "()I" } : Jvm.MethodName) prog_22_method_54_code (1 : Nat) (Option.some Jvm.ClassFile.FieldType.int)) ∈ lw_all := lw_g (lw_at lw_m2 154 rfl) rfl
theorem q502 : (Jvm.Cond.methodLink "java/lang/String" (335 : Nat) ({ cls := "java/lang/String", name := "coder", desc := "()B" } : Jvm.MethodName)) ∈ lw_all := lw_g (lw_at lw_m2 155 rfl) rfl
theorem q503 : (Jvm.Cond.instanceMethod ({ cls := "java/lang/String", name := "coder", desc := "()B" } : Jvm.MethodName)) ∈ lw_all := lw_g (lw_at lw_m2 156 rfl) rfl
theorem q504 : (Jvm.Cond.selects "java/lang/String" ({ cls := "java/lang/String", name := "coder", desc := "()B" } : Jvm.MethodName) ({ cls := "java/lang/String", name := "coder", desc := "()B" } : Jvm.MethodName)) ∈ lw_all := lw_g (lw_at lw_m2 157 rfl) rfl
theorem q505 : (Jvm.Cond.code ({ cls := "java/lang/String", name := "coder", desc := "()B" } : Jvm.MethodName) prog_22_method_152_code (1 : Nat) (Option.some Jvm.ClassFile.FieldType.byte)) ∈ lw_all := lw_g (lw_at lw_m2 158 rfl) rfl
theorem q506 : (Jvm.Cond.fieldLink "java/lang/String" (38 : Nat) "java/lang/String" "COMPACT_STRINGS" "Z") ∈ lw_all := lw_g (lw_at lw_m2 159 rfl) rfl
theorem q507 : (Jvm.Cond.laysStatic "java/lang/String" "COMPACT_STRINGS" "Z") ∈ lw_tbl := lw_at lw_m2 160 rfl
theorem q509 : (Jvm.Cond.instanceMethod ({ cls := "java/lang/String", name := "charAt", desc := "(I)C" } : Jvm.MethodName)) ∈ lw_all := lw_g (lw_at lw_m2 162 rfl) rfl
theorem q510 : (Jvm.Cond.selects "java/lang/String" ({ cls := "java/lang/String", name := "charAt", desc := "(I)C" } : Jvm.MethodName) ({ cls := "java/lang/String", name := "charAt", desc := "(I)C" } : Jvm.MethodName)) ∈ lw_all := lw_g (lw_at lw_m2 163 rfl) rfl
theorem q511 : (Jvm.Cond.code ({ cls := "java/lang/String", name := "charAt", desc := "(I)C" } : Jvm.MethodName) prog_22_method_56_code (2 : Nat) (Option.some Jvm.ClassFile.FieldType.char)) ∈ lw_all := lw_g (lw_at lw_m2 164 rfl) rfl
theorem q512 : (Jvm.Cond.methodLink "java/lang/String" (492 : Nat) ({ cls := "java/lang/String", name := "isLatin1", desc := "()Z" } : Jvm.MethodName)) ∈ lw_all := lw_g (lw_at lw_m2 165 rfl) rfl
theorem q513 : (Jvm.Cond.instanceMethod ({ cls := "java/lang/String", name := "isLatin1", desc := "()Z" } : Jvm.MethodName)) ∈ lw_all := lw_g (lw_at lw_m2 166 rfl) rfl
theorem q514 : (Jvm.Cond.selects "java/lang/String" ({ cls := "java/lang/String", name := "isLatin1", desc := "()Z" } : Jvm.MethodName) ({ cls := "java/lang/String", name := "isLatin1", desc := "()Z" } : Jvm.MethodName)) ∈ lw_all := lw_g (lw_at lw_m2 167 rfl) rfl
theorem q515 : (Jvm.Cond.code ({ cls := "java/lang/String", name := "isLatin1", desc := "()Z" } : Jvm.MethodName) prog_22_method_154_code (1 : Nat) (Option.some Jvm.ClassFile.FieldType.boolean)) ∈ lw_all := lw_g (lw_at lw_m2 168 rfl) rfl
theorem q516 : (Jvm.Cond.methodLink "java/lang/String" (495 : Nat) ({ cls := "java/lang/StringLatin1", name := "charAt", desc := "([BI)C" } : Jvm.MethodName)) ∈ lw_all := lw_g (lw_at lw_m2 169 rfl) rfl
theorem q520 : (Jvm.Cond.static ({ cls := "java/lang/String", name := "checkIndex", desc := "(II)V" } : Jvm.MethodName)) ∈ lw_all := lw_g (lw_at lw_m2 173 rfl) rfl
theorem q521 : (Jvm.Cond.code ({ cls := "java/lang/String", name := "checkIndex", desc := "(II)V" } : Jvm.MethodName) prog_22_method_155_code (2 : Nat) (Option.none : Option Jvm.ClassFile.FieldType)) ∈ lw_all := lw_g (lw_at lw_m2 174 rfl) rfl
theorem q522 : (Jvm.Cond.fieldLink "java/lang/String" (1053 : Nat) "jdk/internal/util/Preconditions" "SIOOBE_FORMATTER" "Ljava/util/function/BiFunction;") ∈ lw_all := lw_g (lw_at lw_m2 175 rfl) rfl
theorem q524 : (Jvm.Cond.methodLink "java/lang/String" (1059 : Nat) ({ cls := "jdk/internal/util/Preconditions", name := "checkIndex", desc := "(IILjava/util/function/BiFunction;)I" } : Jvm.MethodName)) ∈ lw_all := lw_g (lw_at lw_m2 177 rfl) rfl
theorem q527 : (Jvm.Cond.methodLink "java/lang/String" (498 : Nat) ({ cls := "java/lang/StringUTF16", name := "charAt", desc := "([BI)C" } : Jvm.MethodName)) ∈ lw_all := lw_g (lw_at lw_m2 180 rfl) rfl
theorem q1717 : (Jvm.Cond.fieldLink "java/lang/String" (9 : Nat) "java/lang/String" "value" "[B") ∈ lw_all := lw_g (lw_at lw_m7 170 rfl) rfl
theorem q1718 : (Jvm.Cond.fieldLink "java/lang/String" (15 : Nat) "java/lang/String" "coder" "B") ∈ lw_all := lw_g (lw_at lw_m7 171 rfl) rfl
-- J4.java_lang_StringLatin1.lean.txt
def RJ4 : String := "java/lang/StringLatin1"
abbrev cJ4_charAt : ByteArray := prog_23_method_2_code
def yJ4_charAt : MethodName := ⟨RJ4, "charAt", "([BI)C"⟩
theorem q118 : (Jvm.Cond.initialized "java/lang/StringLatin1") ∈ lw_all := lw_g (lw_at lw_m1 11 rfl) rfl
theorem q517 : (Jvm.Cond.static ({ cls := "java/lang/StringLatin1", name := "charAt", desc := "([BI)C" } : Jvm.MethodName)) ∈ lw_all := lw_g (lw_at lw_m2 170 rfl) rfl
theorem q518 : (Jvm.Cond.code ({ cls := "java/lang/StringLatin1", name := "charAt", desc := "([BI)C" } : Jvm.MethodName) prog_23_method_2_code (2 : Nat) (Option.some Jvm.ClassFile.FieldType.char)) ∈ lw_all := lw_g (lw_at lw_m2 171 rfl) rfl
theorem q519 : (Jvm.Cond.methodLink "java/lang/StringLatin1" (9 : Nat) ({ cls := "java/lang/String", name := "checkIndex", desc := "(II)V" } : Jvm.MethodName)) ∈ lw_all := lw_g (lw_at lw_m2 172 rfl) rfl
-- J5.jdk_internal_util_Preconditions.lean.txt
def RJ5 : String := "jdk/internal/util/Preconditions"
abbrev cJ5_checkIndex : ByteArray := prog_27_method_11_code
def yJ5_checkIndex : MethodName := ⟨RJ5, "checkIndex", "(IILjava/util/function/BiFunction;)I"⟩
theorem q119 : (Jvm.Cond.initialized "jdk/internal/util/Preconditions") ∈ lw_all := lw_g (lw_at lw_m1 12 rfl) rfl
theorem q523 : (Jvm.Cond.laysStatic "jdk/internal/util/Preconditions" "SIOOBE_FORMATTER" "Ljava/util/function/BiFunction;") ∈ lw_tbl := lw_at lw_m2 176 rfl
theorem q525 : (Jvm.Cond.static ({ cls := "jdk/internal/util/Preconditions", name := "checkIndex", desc := "(IILjava/util/function/BiFunction;)I" } : Jvm.MethodName)) ∈ lw_all := lw_g (lw_at lw_m2 178 rfl) rfl
theorem q526 : (Jvm.Cond.code ({ cls := "jdk/internal/util/Preconditions", name := "checkIndex", desc := "(IILjava/util/function/BiFunction;)I" } : Jvm.MethodName) prog_27_method_11_code (3 : Nat) (Option.some Jvm.ClassFile.FieldType.int)) ∈ lw_all := lw_g (lw_at lw_m2 179 rfl) rfl
-- J6.java_lang_StringUTF16.lean.txt
def RJ6 : String := "java/lang/StringUTF16"
abbrev cJ6_charAt : ByteArray := prog_24_method_83_code
def yJ6_charAt : MethodName := ⟨RJ6, "charAt", "([BI)C"⟩
abbrev cJ6_checkIndex : ByteArray := prog_24_method_91_code
def yJ6_checkIndex : MethodName := ⟨RJ6, "checkIndex", "(I[B)V"⟩
abbrev cJ6_length : ByteArray := prog_24_method_6_code
def yJ6_length : MethodName := ⟨RJ6, "length", "([B)I"⟩
abbrev cJ6_getChar : ByteArray := prog_24_method_5_code
def yJ6_getChar : MethodName := ⟨RJ6, "getChar", "([BI)C"⟩
theorem q120 : (Jvm.Cond.initialized "java/lang/StringUTF16") ∈ lw_all := lw_g (lw_at lw_m1 13 rfl) rfl
theorem q528 : (Jvm.Cond.static ({ cls := "java/lang/StringUTF16", name := "charAt", desc := "([BI)C" } : Jvm.MethodName)) ∈ lw_all := lw_g (lw_at lw_m2 181 rfl) rfl
theorem q529 : (Jvm.Cond.code ({ cls := "java/lang/StringUTF16", name := "charAt", desc := "([BI)C" } : Jvm.MethodName) prog_24_method_83_code (2 : Nat) (Option.some Jvm.ClassFile.FieldType.char)) ∈ lw_all := lw_g (lw_at lw_m2 182 rfl) rfl
theorem q530 : (Jvm.Cond.methodLink "java/lang/StringUTF16" (67 : Nat) ({ cls := "java/lang/StringUTF16", name := "checkIndex", desc := "(I[B)V" } : Jvm.MethodName)) ∈ lw_all := lw_g (lw_at lw_m2 183 rfl) rfl
theorem q531 : (Jvm.Cond.static ({ cls := "java/lang/StringUTF16", name := "checkIndex", desc := "(I[B)V" } : Jvm.MethodName)) ∈ lw_all := lw_g (lw_at lw_m2 184 rfl) rfl
theorem q532 : (Jvm.Cond.code ({ cls := "java/lang/StringUTF16", name := "checkIndex", desc := "(I[B)V" } : Jvm.MethodName) prog_24_method_91_code (2 : Nat) (Option.none : Option Jvm.ClassFile.FieldType)) ∈ lw_all := lw_g (lw_at lw_m2 185 rfl) rfl
theorem q533 : (Jvm.Cond.methodLink "java/lang/StringUTF16" (48 : Nat) ({ cls := "java/lang/StringUTF16", name := "length", desc := "([B)I" } : Jvm.MethodName)) ∈ lw_all := lw_g (lw_at lw_m2 186 rfl) rfl
theorem q534 : (Jvm.Cond.static ({ cls := "java/lang/StringUTF16", name := "length", desc := "([B)I" } : Jvm.MethodName)) ∈ lw_all := lw_g (lw_at lw_m2 187 rfl) rfl
theorem q535 : (Jvm.Cond.code ({ cls := "java/lang/StringUTF16", name := "length", desc := "([B)I" } : Jvm.MethodName) prog_24_method_6_code (1 : Nat) (Option.some Jvm.ClassFile.FieldType.int)) ∈ lw_all := lw_g (lw_at lw_m2 188 rfl) rfl
theorem q536 : (Jvm.Cond.methodLink "java/lang/StringUTF16" (414 : Nat) ({ cls := "java/lang/String", name := "checkIndex", desc := "(II)V" } : Jvm.MethodName)) ∈ lw_all := lw_g (lw_at lw_m2 189 rfl) rfl
theorem q537 : (Jvm.Cond.methodLink "java/lang/StringUTF16" (71 : Nat) ({ cls := "java/lang/StringUTF16", name := "getChar", desc := "([BI)C" } : Jvm.MethodName)) ∈ lw_all := lw_g (lw_at lw_m2 190 rfl) rfl
theorem q538 : (Jvm.Cond.static ({ cls := "java/lang/StringUTF16", name := "getChar", desc := "([BI)C" } : Jvm.MethodName)) ∈ lw_all := lw_g (lw_at lw_m2 191 rfl) rfl
theorem q539 : (Jvm.Cond.code ({ cls := "java/lang/StringUTF16", name := "getChar", desc := "([BI)C" } : Jvm.MethodName) prog_24_method_5_code (2 : Nat) (Option.some Jvm.ClassFile.FieldType.char)) ∈ lw_all := lw_g (lw_at lw_m2 192 rfl) rfl
theorem q540 : (Jvm.Cond.fieldLink "java/lang/StringUTF16" (44 : Nat) "java/lang/StringUTF16" "$assertionsDisabled" "Z") ∈ lw_all := lw_g (lw_at lw_m2 193 rfl) rfl
theorem q541 : (Jvm.Cond.laysStatic "java/lang/StringUTF16" "$assertionsDisabled" "Z") ∈ lw_tbl := lw_at lw_m2 194 rfl
theorem q542 : (Jvm.Cond.fieldLink "java/lang/StringUTF16" (59 : Nat) "java/lang/StringUTF16" "HI_BYTE_SHIFT" "I") ∈ lw_all := lw_g (lw_at lw_m2 195 rfl) rfl
theorem q543 : (Jvm.Cond.laysStatic "java/lang/StringUTF16" "HI_BYTE_SHIFT" "I") ∈ lw_tbl := lw_at lw_m2 196 rfl
theorem q544 : (Jvm.Cond.fieldLink "java/lang/StringUTF16" (63 : Nat) "java/lang/StringUTF16" "LO_BYTE_SHIFT" "I") ∈ lw_all := lw_g (lw_at lw_m2 197 rfl) rfl
theorem q545 : (Jvm.Cond.laysStatic "java/lang/StringUTF16" "LO_BYTE_SHIFT" "I") ∈ lw_tbl := lw_at lw_m2 198 rfl
-- X5.SpoonCourt_Rule.lean.txt
def RX5 : String := "SpoonCourt$Rule"
def TX5 : u_T := fun k => match k with
  | 0 => ("SpoonCourt$Rule", "clauses", "[LSpoonCourt$Clause;", true)
  | _ => ("SpoonCourt$Rule", "many", "I", false)
def tyX5 : Nat → FieldType := fun k => match k with
  | 0 => .array (.object "SpoonCourt$Clause")
  | _ => .int
abbrev wsX50 : List Cond := u_ws RX5 TX5 2
theorem nmX5 : ∀ a, a < 2 → ∀ b, b < 2 → a ≠ b → (TX5 a).2.1 ≠ (TX5 b).2.1 := by decide +kernel
theorem tyX5_ok : ∀ k, k < 2 → parseFieldDescriptor (TX5 k).2.2.1 = some (tyX5 k) := by decide +kernel
abbrev cX5_init : ByteArray := prog_11_method_1_code
def yX5_init : MethodName := ⟨RX5, "<init>", "()V"⟩
abbrev cX5_summed : ByteArray := prog_11_method_2_code
def yX5_summed : MethodName := ⟨RX5, "summed", "([J)J"⟩
theorem q121 : (Jvm.Cond.initialized "SpoonCourt$Rule") ∈ lw_all := lw_g (lw_at lw_m1 14 rfl) rfl
theorem q611 : (Jvm.Cond.instantiable "SpoonCourt$Rule" (2 : Nat)) ∈ lw_all := lw_g (lw_at lw_m3 24 rfl) rfl
theorem q613 : (Jvm.Cond.instanceMethod ({ cls := "SpoonCourt$Rule", name := "<init>", desc := "()V" } : Jvm.MethodName)) ∈ lw_all := lw_g (lw_at lw_m3 26 rfl) rfl
theorem q614 : (Jvm.Cond.code ({ cls := "SpoonCourt$Rule", name := "<init>", desc := "()V" } : Jvm.MethodName) prog_11_method_1_code (1 : Nat) (Option.none : Option Jvm.ClassFile.FieldType)) ∈ lw_all := lw_g (lw_at lw_m3 27 rfl) rfl
theorem q615 : (Jvm.Cond.methodLink "SpoonCourt$Rule" (3 : Nat) ({ cls := "java/lang/Object", name := "<init>", desc := "()V" } : Jvm.MethodName)) ∈ lw_all := lw_g (lw_at lw_m3 28 rfl) rfl
theorem q616 : (Jvm.Cond.classLink "SpoonCourt$Rule" (9 : Nat) "SpoonCourt$Clause") ∈ lw_all := lw_g (lw_at lw_m3 29 rfl) rfl
theorem q618 : (Jvm.Cond.fieldLink "SpoonCourt$Rule" (11 : Nat) "SpoonCourt$Rule" "clauses" "[LSpoonCourt$Clause;") ∈ lw_all := lw_g (lw_at lw_m3 31 rfl) rfl
theorem q620 : (Jvm.Cond.fieldLink "SpoonCourt$Rule" (17 : Nat) "SpoonCourt$Rule" "many" "I") ∈ lw_all := lw_g (lw_at lw_m3 33 rfl) rfl
theorem q622 : (Jvm.Cond.laysFinal "SpoonCourt$Rule" "SpoonCourt$Rule" "clauses" "[LSpoonCourt$Clause;") ∈ lw_all := lw_g (lw_at lw_m3 35 rfl) rfl
theorem q623 : (Jvm.Cond.soleField "SpoonCourt$Rule" "clauses") ∈ lw_all := lw_g (lw_at lw_m3 36 rfl) rfl
theorem q624 : (Jvm.Cond.lays "SpoonCourt$Rule" "SpoonCourt$Rule" "many" "I") ∈ lw_all := lw_g (lw_at lw_m3 37 rfl) rfl
theorem q625 : (Jvm.Cond.soleField "SpoonCourt$Rule" "many") ∈ lw_all := lw_g (lw_at lw_m3 38 rfl) rfl
theorem q626 : (Jvm.Cond.superclass "SpoonCourt$Rule" "java/lang/Object") ∈ lw_all := lw_g (lw_at lw_m3 39 rfl) rfl
theorem q637 : (Jvm.Cond.fieldLinkNest "SpoonCourt$Rule" (25 : Nat) "SpoonCourt$Clause" "sum" "LSpoonCourt$Value;" "SpoonCourt") ∈ lw_tbl := lw_at lw_m3 50 rfl
theorem q863 : (Jvm.Cond.instanceMethod ({ cls := "SpoonCourt$Rule", name := "summed", desc := "([J)J" } : Jvm.MethodName)) ∈ lw_all := lw_g (lw_at lw_m4 36 rfl) rfl
theorem q864 : (Jvm.Cond.selects "SpoonCourt$Rule" ({ cls := "SpoonCourt$Rule", name := "summed", desc := "([J)J" } : Jvm.MethodName) ({ cls := "SpoonCourt$Rule", name := "summed", desc := "([J)J" } : Jvm.MethodName)) ∈ lw_all := lw_g (lw_at lw_m4 37 rfl) rfl
theorem q865 : (Jvm.Cond.code ({ cls := "SpoonCourt$Rule", name := "summed", desc := "([J)J" } : Jvm.MethodName) prog_11_method_2_code (3 : Nat) (Option.some Jvm.ClassFile.FieldType.long)) ∈ lw_all := lw_g (lw_at lw_m4 38 rfl) rfl
theorem q866 : (Jvm.Cond.methodLink "SpoonCourt$Rule" (21 : Nat) ({ cls := "SpoonCourt$Clause", name := "fits", desc := "([J)Z" } : Jvm.MethodName)) ∈ lw_all := lw_g (lw_at lw_m4 39 rfl) rfl
theorem q897 : (Jvm.Cond.methodLink "SpoonCourt$Rule" (29 : Nat) ({ cls := "SpoonCourt$Value", name := "of", desc := "([J)J" } : Jvm.MethodName)) ∈ lw_all := lw_g (lw_at lw_m4 70 rfl) rfl
theorem in_X5 : ∀ w ∈ wsX50, w ∈ lw_all := lw_in wsX50 [622, 624] (by decide +kernel) (by decide +kernel)
-- X6.SpoonCourt_Clause.lean.txt
def RX6 : String := "SpoonCourt$Clause"
def TX6 : u_T := fun k => match k with
  | 0 => ("SpoonCourt$Clause", "sum", "LSpoonCourt$Value;", false)
  | _ => ("SpoonCourt$Clause", "test", "LSpoonCourt$Test;", false)
def tyX6 : Nat → FieldType := fun k => match k with
  | 0 => .object "SpoonCourt$Value"
  | _ => .object "SpoonCourt$Test"
abbrev wsX60 : List Cond := u_ws RX6 TX6 2
theorem nmX6 : ∀ a, a < 2 → ∀ b, b < 2 → a ≠ b → (TX6 a).2.1 ≠ (TX6 b).2.1 := by decide +kernel
theorem tyX6_ok : ∀ k, k < 2 → parseFieldDescriptor (TX6 k).2.2.1 = some (tyX6 k) := by decide +kernel
abbrev cX6_init : ByteArray := prog_3_method_1_code
def yX6_init : MethodName := ⟨RX6, "<init>", "()V"⟩
abbrev cX6_fits : ByteArray := prog_3_method_2_code
def yX6_fits : MethodName := ⟨RX6, "fits", "([J)Z"⟩
theorem q122 : (Jvm.Cond.initialized "SpoonCourt$Clause") ∈ lw_all := lw_g (lw_at lw_m1 15 rfl) rfl
theorem q632 : (Jvm.Cond.instantiable "SpoonCourt$Clause" (2 : Nat)) ∈ lw_all := lw_g (lw_at lw_m3 45 rfl) rfl
theorem q634 : (Jvm.Cond.instanceMethod ({ cls := "SpoonCourt$Clause", name := "<init>", desc := "()V" } : Jvm.MethodName)) ∈ lw_all := lw_g (lw_at lw_m3 47 rfl) rfl
theorem q635 : (Jvm.Cond.code ({ cls := "SpoonCourt$Clause", name := "<init>", desc := "()V" } : Jvm.MethodName) prog_3_method_1_code (1 : Nat) (Option.none : Option Jvm.ClassFile.FieldType)) ∈ lw_all := lw_g (lw_at lw_m3 48 rfl) rfl
theorem q636 : (Jvm.Cond.methodLink "SpoonCourt$Clause" (1 : Nat) ({ cls := "java/lang/Object", name := "<init>", desc := "()V" } : Jvm.MethodName)) ∈ lw_all := lw_g (lw_at lw_m3 49 rfl) rfl
theorem q639 : (Jvm.Cond.fieldLink "SpoonCourt$Clause" (7 : Nat) "SpoonCourt$Clause" "test" "LSpoonCourt$Test;") ∈ lw_all := lw_g (lw_at lw_m3 52 rfl) rfl
theorem q641 : (Jvm.Cond.lays "SpoonCourt$Clause" "SpoonCourt$Clause" "sum" "LSpoonCourt$Value;") ∈ lw_all := lw_g (lw_at lw_m3 54 rfl) rfl
theorem q642 : (Jvm.Cond.soleField "SpoonCourt$Clause" "sum") ∈ lw_all := lw_g (lw_at lw_m3 55 rfl) rfl
theorem q643 : (Jvm.Cond.lays "SpoonCourt$Clause" "SpoonCourt$Clause" "test" "LSpoonCourt$Test;") ∈ lw_all := lw_g (lw_at lw_m3 56 rfl) rfl
theorem q644 : (Jvm.Cond.soleField "SpoonCourt$Clause" "test") ∈ lw_all := lw_g (lw_at lw_m3 57 rfl) rfl
theorem q645 : (Jvm.Cond.superclass "SpoonCourt$Clause" "java/lang/Object") ∈ lw_all := lw_g (lw_at lw_m3 58 rfl) rfl
theorem q867 : (Jvm.Cond.instanceMethod ({ cls := "SpoonCourt$Clause", name := "fits", desc := "([J)Z" } : Jvm.MethodName)) ∈ lw_all := lw_g (lw_at lw_m4 40 rfl) rfl
theorem q868 : (Jvm.Cond.selects "SpoonCourt$Clause" ({ cls := "SpoonCourt$Clause", name := "fits", desc := "([J)Z" } : Jvm.MethodName) ({ cls := "SpoonCourt$Clause", name := "fits", desc := "([J)Z" } : Jvm.MethodName)) ∈ lw_all := lw_g (lw_at lw_m4 41 rfl) rfl
theorem q869 : (Jvm.Cond.code ({ cls := "SpoonCourt$Clause", name := "fits", desc := "([J)Z" } : Jvm.MethodName) prog_3_method_2_code (2 : Nat) (Option.some Jvm.ClassFile.FieldType.boolean)) ∈ lw_all := lw_g (lw_at lw_m4 42 rfl) rfl
theorem q870 : (Jvm.Cond.methodLink "SpoonCourt$Clause" (13 : Nat) ({ cls := "SpoonCourt$Test", name := "is", desc := "([J)Z" } : Jvm.MethodName)) ∈ lw_all := lw_g (lw_at lw_m4 43 rfl) rfl
theorem in_X6 : ∀ w ∈ wsX60, w ∈ lw_all := lw_in wsX60 [641, 643] (by decide +kernel) (by decide +kernel)
-- X7.SpoonCourt_Value.lean.txt
def RX7 : String := "SpoonCourt$Value"
abbrev cX7_init : ByteArray := prog_14_method_1_code
def yX7_init : MethodName := ⟨RX7, "<init>", "()V"⟩
theorem q123 : (Jvm.Cond.initialized "SpoonCourt$Value") ∈ lw_all := lw_g (lw_at lw_m1 16 rfl) rfl
theorem q669 : (Jvm.Cond.instanceMethod ({ cls := "SpoonCourt$Value", name := "<init>", desc := "()V" } : Jvm.MethodName)) ∈ lw_all := lw_g (lw_at lw_m3 82 rfl) rfl
theorem q670 : (Jvm.Cond.code ({ cls := "SpoonCourt$Value", name := "<init>", desc := "()V" } : Jvm.MethodName) prog_14_method_1_code (1 : Nat) (Option.none : Option Jvm.ClassFile.FieldType)) ∈ lw_all := lw_g (lw_at lw_m3 83 rfl) rfl
theorem q671 : (Jvm.Cond.methodLink "SpoonCourt$Value" (1 : Nat) ({ cls := "java/lang/Object", name := "<init>", desc := "()V" } : Jvm.MethodName)) ∈ lw_all := lw_g (lw_at lw_m3 84 rfl) rfl
theorem q880 : (Jvm.Cond.declares ({ cls := "SpoonCourt$Value", name := "of", desc := "([J)J" } : Jvm.MethodName)) ∈ lw_tbl := lw_at lw_m4 53 rfl
theorem q881 : (Jvm.Cond.sameMethod "SpoonCourt$Value" "SpoonCourt$Value" "of" "([J)J") ∈ lw_all := lw_g (lw_at lw_m4 54 rfl) rfl
-- X8.SpoonCourt_Number.lean.txt
def RX8 : String := "SpoonCourt$Number"
def TX8 : u_T := fun k => match k with
  | _ => ("SpoonCourt$Number", "number", "J", true)
def tyX8 : Nat → FieldType := fun k => match k with
  | _ => .long
abbrev wsX80 : List Cond := u_ws RX8 TX8 1
theorem nmX8 : ∀ a, a < 1 → ∀ b, b < 1 → a ≠ b → (TX8 a).2.1 ≠ (TX8 b).2.1 := by decide +kernel
theorem tyX8_ok : ∀ k, k < 1 → parseFieldDescriptor (TX8 k).2.2.1 = some (tyX8 k) := by decide +kernel
abbrev cX8_init : ByteArray := prog_9_method_1_code
def yX8_init : MethodName := ⟨RX8, "<init>", "(J)V"⟩
abbrev cX8_of : ByteArray := prog_9_method_2_code
def yX8_of : MethodName := ⟨RX8, "of", "([J)J"⟩
theorem q124 : (Jvm.Cond.initialized "SpoonCourt$Number") ∈ lw_all := lw_g (lw_at lw_m1 17 rfl) rfl
theorem q664 : (Jvm.Cond.instantiable "SpoonCourt$Number" (1 : Nat)) ∈ lw_all := lw_g (lw_at lw_m3 77 rfl) rfl
theorem q666 : (Jvm.Cond.instanceMethod ({ cls := "SpoonCourt$Number", name := "<init>", desc := "(J)V" } : Jvm.MethodName)) ∈ lw_all := lw_g (lw_at lw_m3 79 rfl) rfl
theorem q667 : (Jvm.Cond.code ({ cls := "SpoonCourt$Number", name := "<init>", desc := "(J)V" } : Jvm.MethodName) prog_9_method_1_code (3 : Nat) (Option.none : Option Jvm.ClassFile.FieldType)) ∈ lw_all := lw_g (lw_at lw_m3 80 rfl) rfl
theorem q668 : (Jvm.Cond.methodLinkNest "SpoonCourt$Number" (1 : Nat) ({ cls := "SpoonCourt$Value", name := "<init>", desc := "()V" } : Jvm.MethodName) "SpoonCourt") ∈ lw_tbl := lw_at lw_m3 81 rfl
theorem q672 : (Jvm.Cond.fieldLink "SpoonCourt$Number" (7 : Nat) "SpoonCourt$Number" "number" "J") ∈ lw_all := lw_g (lw_at lw_m3 85 rfl) rfl
theorem q673 : (Jvm.Cond.laysFinal "SpoonCourt$Number" "SpoonCourt$Number" "number" "J") ∈ lw_all := lw_g (lw_at lw_m3 86 rfl) rfl
theorem q674 : (Jvm.Cond.soleField "SpoonCourt$Number" "number") ∈ lw_all := lw_g (lw_at lw_m3 87 rfl) rfl
theorem q675 : (Jvm.Cond.superclass "SpoonCourt$Number" "SpoonCourt$Value") ∈ lw_all := lw_g (lw_at lw_m3 88 rfl) rfl
theorem q882 : (Jvm.Cond.selects "SpoonCourt$Number" ({ cls := "SpoonCourt$Value", name := "of", desc := "([J)J" } : Jvm.MethodName) ({ cls := "SpoonCourt$Number", name := "of", desc := "([J)J" } : Jvm.MethodName)) ∈ lw_all := lw_g (lw_at lw_m4 55 rfl) rfl
theorem q883 : (Jvm.Cond.instanceMethod ({ cls := "SpoonCourt$Number", name := "of", desc := "([J)J" } : Jvm.MethodName)) ∈ lw_all := lw_g (lw_at lw_m4 56 rfl) rfl
theorem q884 : (Jvm.Cond.code ({ cls := "SpoonCourt$Number", name := "of", desc := "([J)J" } : Jvm.MethodName) prog_9_method_2_code (2 : Nat) (Option.some Jvm.ClassFile.FieldType.long)) ∈ lw_all := lw_g (lw_at lw_m4 57 rfl) rfl
theorem in_X8 : ∀ w ∈ wsX80, w ∈ lw_all := lw_in wsX80 [673] (by decide +kernel) (by decide +kernel)
-- X9.SpoonCourt_Word.lean.txt
def RX9 : String := "SpoonCourt$Word"
def TX9 : u_T := fun k => match k with
  | _ => ("SpoonCourt$Word", "word", "I", true)
def tyX9 : Nat → FieldType := fun k => match k with
  | _ => .int
abbrev wsX90 : List Cond := u_ws RX9 TX9 1
theorem nmX9 : ∀ a, a < 1 → ∀ b, b < 1 → a ≠ b → (TX9 a).2.1 ≠ (TX9 b).2.1 := by decide +kernel
theorem tyX9_ok : ∀ k, k < 1 → parseFieldDescriptor (TX9 k).2.2.1 = some (tyX9 k) := by decide +kernel
abbrev cX9_init : ByteArray := prog_15_method_1_code
def yX9_init : MethodName := ⟨RX9, "<init>", "(I)V"⟩
abbrev cX9_of : ByteArray := prog_15_method_2_code
def yX9_of : MethodName := ⟨RX9, "of", "([J)J"⟩
theorem q125 : (Jvm.Cond.initialized "SpoonCourt$Word") ∈ lw_all := lw_g (lw_at lw_m1 18 rfl) rfl
theorem q677 : (Jvm.Cond.instantiable "SpoonCourt$Word" (1 : Nat)) ∈ lw_all := lw_g (lw_at lw_m3 90 rfl) rfl
theorem q679 : (Jvm.Cond.instanceMethod ({ cls := "SpoonCourt$Word", name := "<init>", desc := "(I)V" } : Jvm.MethodName)) ∈ lw_all := lw_g (lw_at lw_m3 92 rfl) rfl
theorem q680 : (Jvm.Cond.code ({ cls := "SpoonCourt$Word", name := "<init>", desc := "(I)V" } : Jvm.MethodName) prog_15_method_1_code (2 : Nat) (Option.none : Option Jvm.ClassFile.FieldType)) ∈ lw_all := lw_g (lw_at lw_m3 93 rfl) rfl
theorem q681 : (Jvm.Cond.methodLinkNest "SpoonCourt$Word" (1 : Nat) ({ cls := "SpoonCourt$Value", name := "<init>", desc := "()V" } : Jvm.MethodName) "SpoonCourt") ∈ lw_tbl := lw_at lw_m3 94 rfl
theorem q682 : (Jvm.Cond.fieldLink "SpoonCourt$Word" (7 : Nat) "SpoonCourt$Word" "word" "I") ∈ lw_all := lw_g (lw_at lw_m3 95 rfl) rfl
theorem q683 : (Jvm.Cond.laysFinal "SpoonCourt$Word" "SpoonCourt$Word" "word" "I") ∈ lw_all := lw_g (lw_at lw_m3 96 rfl) rfl
theorem q684 : (Jvm.Cond.soleField "SpoonCourt$Word" "word") ∈ lw_all := lw_g (lw_at lw_m3 97 rfl) rfl
theorem q685 : (Jvm.Cond.superclass "SpoonCourt$Word" "SpoonCourt$Value") ∈ lw_all := lw_g (lw_at lw_m3 98 rfl) rfl
theorem q889 : (Jvm.Cond.instanceMethod ({ cls := "SpoonCourt$Word", name := "of", desc := "([J)J" } : Jvm.MethodName)) ∈ lw_all := lw_g (lw_at lw_m4 62 rfl) rfl
theorem q890 : (Jvm.Cond.code ({ cls := "SpoonCourt$Word", name := "of", desc := "([J)J" } : Jvm.MethodName) prog_15_method_2_code (2 : Nat) (Option.some Jvm.ClassFile.FieldType.long)) ∈ lw_all := lw_g (lw_at lw_m4 63 rfl) rfl
theorem q891 : (Jvm.Cond.selects "SpoonCourt$Word" ({ cls := "SpoonCourt$Value", name := "of", desc := "([J)J" } : Jvm.MethodName) ({ cls := "SpoonCourt$Word", name := "of", desc := "([J)J" } : Jvm.MethodName)) ∈ lw_all := lw_g (lw_at lw_m4 64 rfl) rfl
theorem in_X9 : ∀ w ∈ wsX90, w ∈ lw_all := lw_in wsX90 [683] (by decide +kernel) (by decide +kernel)
-- X10.SpoonCourt_Pair.lean.txt
def RX10 : String := "SpoonCourt$Pair"
def TX10 : u_T := fun k => match k with
  | 0 => ("SpoonCourt$Pair", "first", "LSpoonCourt$Value;", true)
  | 1 => ("SpoonCourt$Pair", "second", "LSpoonCourt$Value;", true)
  | _ => ("SpoonCourt$Pair", "sign", "I", true)
def tyX10 : Nat → FieldType := fun k => match k with
  | 0 => .object "SpoonCourt$Value"
  | 1 => .object "SpoonCourt$Value"
  | _ => .int
abbrev wsX100 : List Cond := u_ws RX10 TX10 3
theorem nmX10 : ∀ a, a < 3 → ∀ b, b < 3 → a ≠ b → (TX10 a).2.1 ≠ (TX10 b).2.1 := by decide +kernel
theorem tyX10_ok : ∀ k, k < 3 → parseFieldDescriptor (TX10 k).2.2.1 = some (tyX10 k) := by decide +kernel
abbrev cX10_init : ByteArray := prog_10_method_1_code
def yX10_init : MethodName := ⟨RX10, "<init>", "(LSpoonCourt$Value;ILSpoonCourt$Value;)V"⟩
abbrev cX10_of : ByteArray := prog_10_method_2_code
def yX10_of : MethodName := ⟨RX10, "of", "([J)J"⟩
theorem q126 : (Jvm.Cond.initialized "SpoonCourt$Pair") ∈ lw_all := lw_g (lw_at lw_m1 19 rfl) rfl
theorem q687 : (Jvm.Cond.instantiable "SpoonCourt$Pair" (3 : Nat)) ∈ lw_all := lw_g (lw_at lw_m3 100 rfl) rfl
theorem q689 : (Jvm.Cond.instanceMethod ({ cls := "SpoonCourt$Pair", name := "<init>", desc := "(LSpoonCourt$Value;ILSpoonCourt$Value;)V" } : Jvm.MethodName)) ∈ lw_all := lw_g (lw_at lw_m3 102 rfl) rfl
theorem q690 : (Jvm.Cond.code ({ cls := "SpoonCourt$Pair", name := "<init>", desc := "(LSpoonCourt$Value;ILSpoonCourt$Value;)V" } : Jvm.MethodName) prog_10_method_1_code (4 : Nat) (Option.none : Option Jvm.ClassFile.FieldType)) ∈ lw_all := lw_g (lw_at lw_m3 103 rfl) rfl
theorem q691 : (Jvm.Cond.methodLinkNest "SpoonCourt$Pair" (1 : Nat) ({ cls := "SpoonCourt$Value", name := "<init>", desc := "()V" } : Jvm.MethodName) "SpoonCourt") ∈ lw_tbl := lw_at lw_m3 104 rfl
theorem q692 : (Jvm.Cond.fieldLink "SpoonCourt$Pair" (7 : Nat) "SpoonCourt$Pair" "first" "LSpoonCourt$Value;") ∈ lw_all := lw_g (lw_at lw_m3 105 rfl) rfl
theorem q693 : (Jvm.Cond.fieldLink "SpoonCourt$Pair" (17 : Nat) "SpoonCourt$Pair" "second" "LSpoonCourt$Value;") ∈ lw_all := lw_g (lw_at lw_m3 106 rfl) rfl
theorem q694 : (Jvm.Cond.fieldLink "SpoonCourt$Pair" (13 : Nat) "SpoonCourt$Pair" "sign" "I") ∈ lw_all := lw_g (lw_at lw_m3 107 rfl) rfl
theorem q695 : (Jvm.Cond.laysFinal "SpoonCourt$Pair" "SpoonCourt$Pair" "first" "LSpoonCourt$Value;") ∈ lw_all := lw_g (lw_at lw_m3 108 rfl) rfl
theorem q696 : (Jvm.Cond.soleField "SpoonCourt$Pair" "first") ∈ lw_all := lw_g (lw_at lw_m3 109 rfl) rfl
theorem q697 : (Jvm.Cond.laysFinal "SpoonCourt$Pair" "SpoonCourt$Pair" "second" "LSpoonCourt$Value;") ∈ lw_all := lw_g (lw_at lw_m3 110 rfl) rfl
theorem q698 : (Jvm.Cond.soleField "SpoonCourt$Pair" "second") ∈ lw_all := lw_g (lw_at lw_m3 111 rfl) rfl
theorem q699 : (Jvm.Cond.laysFinal "SpoonCourt$Pair" "SpoonCourt$Pair" "sign" "I") ∈ lw_all := lw_g (lw_at lw_m3 112 rfl) rfl
theorem q700 : (Jvm.Cond.soleField "SpoonCourt$Pair" "sign") ∈ lw_all := lw_g (lw_at lw_m3 113 rfl) rfl
theorem q701 : (Jvm.Cond.superclass "SpoonCourt$Pair" "SpoonCourt$Value") ∈ lw_all := lw_g (lw_at lw_m3 114 rfl) rfl
theorem q885 : (Jvm.Cond.selects "SpoonCourt$Pair" ({ cls := "SpoonCourt$Value", name := "of", desc := "([J)J" } : Jvm.MethodName) ({ cls := "SpoonCourt$Pair", name := "of", desc := "([J)J" } : Jvm.MethodName)) ∈ lw_all := lw_g (lw_at lw_m4 58 rfl) rfl
theorem q886 : (Jvm.Cond.instanceMethod ({ cls := "SpoonCourt$Pair", name := "of", desc := "([J)J" } : Jvm.MethodName)) ∈ lw_all := lw_g (lw_at lw_m4 59 rfl) rfl
theorem q887 : (Jvm.Cond.code ({ cls := "SpoonCourt$Pair", name := "of", desc := "([J)J" } : Jvm.MethodName) prog_10_method_2_code (6 : Nat) (Option.some Jvm.ClassFile.FieldType.long)) ∈ lw_all := lw_g (lw_at lw_m4 60 rfl) rfl
theorem q888 : (Jvm.Cond.methodLink "SpoonCourt$Pair" (20 : Nat) ({ cls := "SpoonCourt$Value", name := "of", desc := "([J)J" } : Jvm.MethodName)) ∈ lw_all := lw_g (lw_at lw_m4 61 rfl) rfl
theorem in_X10 : ∀ w ∈ wsX100, w ∈ lw_all := lw_in wsX100 [695, 697, 699] (by decide +kernel) (by decide +kernel)
-- X11.SpoonCourt_Test.lean.txt
def RX11 : String := "SpoonCourt$Test"
abbrev cX11_init : ByteArray := prog_12_method_1_code
def yX11_init : MethodName := ⟨RX11, "<init>", "()V"⟩
theorem q127 : (Jvm.Cond.initialized "SpoonCourt$Test") ∈ lw_all := lw_g (lw_at lw_m1 20 rfl) rfl
theorem q730 : (Jvm.Cond.instanceMethod ({ cls := "SpoonCourt$Test", name := "<init>", desc := "()V" } : Jvm.MethodName)) ∈ lw_all := lw_g (lw_at lw_m3 143 rfl) rfl
theorem q731 : (Jvm.Cond.code ({ cls := "SpoonCourt$Test", name := "<init>", desc := "()V" } : Jvm.MethodName) prog_12_method_1_code (1 : Nat) (Option.none : Option Jvm.ClassFile.FieldType)) ∈ lw_all := lw_g (lw_at lw_m3 144 rfl) rfl
theorem q732 : (Jvm.Cond.methodLink "SpoonCourt$Test" (1 : Nat) ({ cls := "java/lang/Object", name := "<init>", desc := "()V" } : Jvm.MethodName)) ∈ lw_all := lw_g (lw_at lw_m3 145 rfl) rfl
theorem q871 : (Jvm.Cond.declares ({ cls := "SpoonCourt$Test", name := "is", desc := "([J)Z" } : Jvm.MethodName)) ∈ lw_tbl := lw_at lw_m4 44 rfl
theorem q872 : (Jvm.Cond.sameMethod "SpoonCourt$Test" "SpoonCourt$Test" "is" "([J)Z") ∈ lw_all := lw_g (lw_at lw_m4 45 rfl) rfl
-- X12.SpoonCourt_Not.lean.txt
def RX12 : String := "SpoonCourt$Not"
def TX12 : u_T := fun k => match k with
  | _ => ("SpoonCourt$Not", "test", "LSpoonCourt$Test;", true)
def tyX12 : Nat → FieldType := fun k => match k with
  | _ => .object "SpoonCourt$Test"
abbrev wsX120 : List Cond := u_ws RX12 TX12 1
theorem nmX12 : ∀ a, a < 1 → ∀ b, b < 1 → a ≠ b → (TX12 a).2.1 ≠ (TX12 b).2.1 := by decide +kernel
theorem tyX12_ok : ∀ k, k < 1 → parseFieldDescriptor (TX12 k).2.2.1 = some (tyX12 k) := by decide +kernel
abbrev cX12_init : ByteArray := prog_8_method_1_code
def yX12_init : MethodName := ⟨RX12, "<init>", "(LSpoonCourt$Test;)V"⟩
abbrev cX12_is : ByteArray := prog_8_method_2_code
def yX12_is : MethodName := ⟨RX12, "is", "([J)Z"⟩
theorem q128 : (Jvm.Cond.initialized "SpoonCourt$Not") ∈ lw_all := lw_g (lw_at lw_m1 21 rfl) rfl
theorem q725 : (Jvm.Cond.instantiable "SpoonCourt$Not" (1 : Nat)) ∈ lw_all := lw_g (lw_at lw_m3 138 rfl) rfl
theorem q727 : (Jvm.Cond.instanceMethod ({ cls := "SpoonCourt$Not", name := "<init>", desc := "(LSpoonCourt$Test;)V" } : Jvm.MethodName)) ∈ lw_all := lw_g (lw_at lw_m3 140 rfl) rfl
theorem q728 : (Jvm.Cond.code ({ cls := "SpoonCourt$Not", name := "<init>", desc := "(LSpoonCourt$Test;)V" } : Jvm.MethodName) prog_8_method_1_code (2 : Nat) (Option.none : Option Jvm.ClassFile.FieldType)) ∈ lw_all := lw_g (lw_at lw_m3 141 rfl) rfl
theorem q729 : (Jvm.Cond.methodLinkNest "SpoonCourt$Not" (1 : Nat) ({ cls := "SpoonCourt$Test", name := "<init>", desc := "()V" } : Jvm.MethodName) "SpoonCourt") ∈ lw_tbl := lw_at lw_m3 142 rfl
theorem q733 : (Jvm.Cond.fieldLink "SpoonCourt$Not" (7 : Nat) "SpoonCourt$Not" "test" "LSpoonCourt$Test;") ∈ lw_all := lw_g (lw_at lw_m3 146 rfl) rfl
theorem q734 : (Jvm.Cond.laysFinal "SpoonCourt$Not" "SpoonCourt$Not" "test" "LSpoonCourt$Test;") ∈ lw_all := lw_g (lw_at lw_m3 147 rfl) rfl
theorem q735 : (Jvm.Cond.soleField "SpoonCourt$Not" "test") ∈ lw_all := lw_g (lw_at lw_m3 148 rfl) rfl
theorem q736 : (Jvm.Cond.superclass "SpoonCourt$Not" "SpoonCourt$Test") ∈ lw_all := lw_g (lw_at lw_m3 149 rfl) rfl
theorem q892 : (Jvm.Cond.instanceMethod ({ cls := "SpoonCourt$Not", name := "is", desc := "([J)Z" } : Jvm.MethodName)) ∈ lw_all := lw_g (lw_at lw_m4 65 rfl) rfl
theorem q893 : (Jvm.Cond.code ({ cls := "SpoonCourt$Not", name := "is", desc := "([J)Z" } : Jvm.MethodName) prog_8_method_2_code (2 : Nat) (Option.some Jvm.ClassFile.FieldType.boolean)) ∈ lw_all := lw_g (lw_at lw_m4 66 rfl) rfl
theorem q894 : (Jvm.Cond.methodLink "SpoonCourt$Not" (13 : Nat) ({ cls := "SpoonCourt$Test", name := "is", desc := "([J)Z" } : Jvm.MethodName)) ∈ lw_all := lw_g (lw_at lw_m4 67 rfl) rfl
theorem q896 : (Jvm.Cond.selects "SpoonCourt$Not" ({ cls := "SpoonCourt$Test", name := "is", desc := "([J)Z" } : Jvm.MethodName) ({ cls := "SpoonCourt$Not", name := "is", desc := "([J)Z" } : Jvm.MethodName)) ∈ lw_all := lw_g (lw_at lw_m4 69 rfl) rfl
theorem in_X12 : ∀ w ∈ wsX120, w ∈ lw_all := lw_in wsX120 [734] (by decide +kernel) (by decide +kernel)
-- X13.SpoonCourt_Compare.lean.txt
def RX13 : String := "SpoonCourt$Compare"
def TX13 : u_T := fun k => match k with
  | 0 => ("SpoonCourt$Compare", "first", "LSpoonCourt$Value;", true)
  | 1 => ("SpoonCourt$Compare", "second", "LSpoonCourt$Value;", true)
  | _ => ("SpoonCourt$Compare", "sign", "I", true)
def tyX13 : Nat → FieldType := fun k => match k with
  | 0 => .object "SpoonCourt$Value"
  | 1 => .object "SpoonCourt$Value"
  | _ => .int
abbrev wsX130 : List Cond := u_ws RX13 TX13 3
theorem nmX13 : ∀ a, a < 3 → ∀ b, b < 3 → a ≠ b → (TX13 a).2.1 ≠ (TX13 b).2.1 := by decide +kernel
theorem tyX13_ok : ∀ k, k < 3 → parseFieldDescriptor (TX13 k).2.2.1 = some (tyX13 k) := by decide +kernel
abbrev cX13_init : ByteArray := prog_4_method_1_code
def yX13_init : MethodName := ⟨RX13, "<init>", "(LSpoonCourt$Value;ILSpoonCourt$Value;)V"⟩
abbrev cX13_is : ByteArray := prog_4_method_2_code
def yX13_is : MethodName := ⟨RX13, "is", "([J)Z"⟩
theorem q129 : (Jvm.Cond.initialized "SpoonCourt$Compare") ∈ lw_all := lw_g (lw_at lw_m1 22 rfl) rfl
theorem q742 : (Jvm.Cond.instantiable "SpoonCourt$Compare" (3 : Nat)) ∈ lw_all := lw_g (lw_at lw_m3 155 rfl) rfl
theorem q744 : (Jvm.Cond.instanceMethod ({ cls := "SpoonCourt$Compare", name := "<init>", desc := "(LSpoonCourt$Value;ILSpoonCourt$Value;)V" } : Jvm.MethodName)) ∈ lw_all := lw_g (lw_at lw_m3 157 rfl) rfl
theorem q745 : (Jvm.Cond.code ({ cls := "SpoonCourt$Compare", name := "<init>", desc := "(LSpoonCourt$Value;ILSpoonCourt$Value;)V" } : Jvm.MethodName) prog_4_method_1_code (4 : Nat) (Option.none : Option Jvm.ClassFile.FieldType)) ∈ lw_all := lw_g (lw_at lw_m3 158 rfl) rfl
theorem q746 : (Jvm.Cond.methodLinkNest "SpoonCourt$Compare" (1 : Nat) ({ cls := "SpoonCourt$Test", name := "<init>", desc := "()V" } : Jvm.MethodName) "SpoonCourt") ∈ lw_tbl := lw_at lw_m3 159 rfl
theorem q747 : (Jvm.Cond.fieldLink "SpoonCourt$Compare" (7 : Nat) "SpoonCourt$Compare" "first" "LSpoonCourt$Value;") ∈ lw_all := lw_g (lw_at lw_m3 160 rfl) rfl
theorem q748 : (Jvm.Cond.fieldLink "SpoonCourt$Compare" (17 : Nat) "SpoonCourt$Compare" "second" "LSpoonCourt$Value;") ∈ lw_all := lw_g (lw_at lw_m3 161 rfl) rfl
theorem q749 : (Jvm.Cond.fieldLink "SpoonCourt$Compare" (13 : Nat) "SpoonCourt$Compare" "sign" "I") ∈ lw_all := lw_g (lw_at lw_m3 162 rfl) rfl
theorem q750 : (Jvm.Cond.laysFinal "SpoonCourt$Compare" "SpoonCourt$Compare" "first" "LSpoonCourt$Value;") ∈ lw_all := lw_g (lw_at lw_m3 163 rfl) rfl
theorem q751 : (Jvm.Cond.soleField "SpoonCourt$Compare" "first") ∈ lw_all := lw_g (lw_at lw_m3 164 rfl) rfl
theorem q752 : (Jvm.Cond.laysFinal "SpoonCourt$Compare" "SpoonCourt$Compare" "second" "LSpoonCourt$Value;") ∈ lw_all := lw_g (lw_at lw_m3 165 rfl) rfl
theorem q753 : (Jvm.Cond.soleField "SpoonCourt$Compare" "second") ∈ lw_all := lw_g (lw_at lw_m3 166 rfl) rfl
theorem q754 : (Jvm.Cond.laysFinal "SpoonCourt$Compare" "SpoonCourt$Compare" "sign" "I") ∈ lw_all := lw_g (lw_at lw_m3 167 rfl) rfl
theorem q755 : (Jvm.Cond.soleField "SpoonCourt$Compare" "sign") ∈ lw_all := lw_g (lw_at lw_m3 168 rfl) rfl
theorem q756 : (Jvm.Cond.superclass "SpoonCourt$Compare" "SpoonCourt$Test") ∈ lw_all := lw_g (lw_at lw_m3 169 rfl) rfl
theorem q877 : (Jvm.Cond.instanceMethod ({ cls := "SpoonCourt$Compare", name := "is", desc := "([J)Z" } : Jvm.MethodName)) ∈ lw_all := lw_g (lw_at lw_m4 50 rfl) rfl
theorem q878 : (Jvm.Cond.code ({ cls := "SpoonCourt$Compare", name := "is", desc := "([J)Z" } : Jvm.MethodName) prog_4_method_2_code (6 : Nat) (Option.some Jvm.ClassFile.FieldType.boolean)) ∈ lw_all := lw_g (lw_at lw_m4 51 rfl) rfl
theorem q879 : (Jvm.Cond.methodLink "SpoonCourt$Compare" (20 : Nat) ({ cls := "SpoonCourt$Value", name := "of", desc := "([J)J" } : Jvm.MethodName)) ∈ lw_all := lw_g (lw_at lw_m4 52 rfl) rfl
theorem q895 : (Jvm.Cond.selects "SpoonCourt$Compare" ({ cls := "SpoonCourt$Test", name := "is", desc := "([J)Z" } : Jvm.MethodName) ({ cls := "SpoonCourt$Compare", name := "is", desc := "([J)Z" } : Jvm.MethodName)) ∈ lw_all := lw_g (lw_at lw_m4 68 rfl) rfl
theorem in_X13 : ∀ w ∈ wsX130, w ∈ lw_all := lw_in wsX130 [750, 752, 754] (by decide +kernel) (by decide +kernel)
-- X14.SpoonCourt_Both.lean.txt
def RX14 : String := "SpoonCourt$Both"
def TX14 : u_T := fun k => match k with
  | 0 => ("SpoonCourt$Both", "first", "LSpoonCourt$Test;", true)
  | 1 => ("SpoonCourt$Both", "second", "LSpoonCourt$Test;", true)
  | _ => ("SpoonCourt$Both", "isAnd", "Z", true)
def tyX14 : Nat → FieldType := fun k => match k with
  | 0 => .object "SpoonCourt$Test"
  | 1 => .object "SpoonCourt$Test"
  | _ => .boolean
abbrev wsX140 : List Cond := u_ws RX14 TX14 3
theorem nmX14 : ∀ a, a < 3 → ∀ b, b < 3 → a ≠ b → (TX14 a).2.1 ≠ (TX14 b).2.1 := by decide +kernel
theorem tyX14_ok : ∀ k, k < 3 → parseFieldDescriptor (TX14 k).2.2.1 = some (tyX14 k) := by decide +kernel
abbrev cX14_init : ByteArray := prog_2_method_1_code
def yX14_init : MethodName := ⟨RX14, "<init>", "(LSpoonCourt$Test;ZLSpoonCourt$Test;)V"⟩
abbrev cX14_is : ByteArray := prog_2_method_2_code
def yX14_is : MethodName := ⟨RX14, "is", "([J)Z"⟩
theorem q130 : (Jvm.Cond.initialized "SpoonCourt$Both") ∈ lw_all := lw_g (lw_at lw_m1 23 rfl) rfl
theorem q759 : (Jvm.Cond.instantiable "SpoonCourt$Both" (3 : Nat)) ∈ lw_all := lw_g (lw_at lw_m3 172 rfl) rfl
theorem q761 : (Jvm.Cond.instanceMethod ({ cls := "SpoonCourt$Both", name := "<init>", desc := "(LSpoonCourt$Test;ZLSpoonCourt$Test;)V" } : Jvm.MethodName)) ∈ lw_all := lw_g (lw_at lw_m3 174 rfl) rfl
theorem q762 : (Jvm.Cond.code ({ cls := "SpoonCourt$Both", name := "<init>", desc := "(LSpoonCourt$Test;ZLSpoonCourt$Test;)V" } : Jvm.MethodName) prog_2_method_1_code (4 : Nat) (Option.none : Option Jvm.ClassFile.FieldType)) ∈ lw_all := lw_g (lw_at lw_m3 175 rfl) rfl
theorem q763 : (Jvm.Cond.methodLinkNest "SpoonCourt$Both" (1 : Nat) ({ cls := "SpoonCourt$Test", name := "<init>", desc := "()V" } : Jvm.MethodName) "SpoonCourt") ∈ lw_tbl := lw_at lw_m3 176 rfl
theorem q764 : (Jvm.Cond.fieldLink "SpoonCourt$Both" (7 : Nat) "SpoonCourt$Both" "first" "LSpoonCourt$Test;") ∈ lw_all := lw_g (lw_at lw_m3 177 rfl) rfl
theorem q765 : (Jvm.Cond.fieldLink "SpoonCourt$Both" (17 : Nat) "SpoonCourt$Both" "second" "LSpoonCourt$Test;") ∈ lw_all := lw_g (lw_at lw_m3 178 rfl) rfl
theorem q766 : (Jvm.Cond.fieldLink "SpoonCourt$Both" (13 : Nat) "SpoonCourt$Both" "isAnd" "Z") ∈ lw_all := lw_g (lw_at lw_m3 179 rfl) rfl
theorem q767 : (Jvm.Cond.laysFinal "SpoonCourt$Both" "SpoonCourt$Both" "first" "LSpoonCourt$Test;") ∈ lw_all := lw_g (lw_at lw_m3 180 rfl) rfl
theorem q768 : (Jvm.Cond.soleField "SpoonCourt$Both" "first") ∈ lw_all := lw_g (lw_at lw_m3 181 rfl) rfl
theorem q769 : (Jvm.Cond.laysFinal "SpoonCourt$Both" "SpoonCourt$Both" "second" "LSpoonCourt$Test;") ∈ lw_all := lw_g (lw_at lw_m3 182 rfl) rfl
theorem q770 : (Jvm.Cond.soleField "SpoonCourt$Both" "second") ∈ lw_all := lw_g (lw_at lw_m3 183 rfl) rfl
theorem q771 : (Jvm.Cond.laysFinal "SpoonCourt$Both" "SpoonCourt$Both" "isAnd" "Z") ∈ lw_all := lw_g (lw_at lw_m3 184 rfl) rfl
theorem q772 : (Jvm.Cond.soleField "SpoonCourt$Both" "isAnd") ∈ lw_all := lw_g (lw_at lw_m3 185 rfl) rfl
theorem q773 : (Jvm.Cond.superclass "SpoonCourt$Both" "SpoonCourt$Test") ∈ lw_all := lw_g (lw_at lw_m3 186 rfl) rfl
theorem q873 : (Jvm.Cond.selects "SpoonCourt$Both" ({ cls := "SpoonCourt$Test", name := "is", desc := "([J)Z" } : Jvm.MethodName) ({ cls := "SpoonCourt$Both", name := "is", desc := "([J)Z" } : Jvm.MethodName)) ∈ lw_all := lw_g (lw_at lw_m4 46 rfl) rfl
theorem q874 : (Jvm.Cond.instanceMethod ({ cls := "SpoonCourt$Both", name := "is", desc := "([J)Z" } : Jvm.MethodName)) ∈ lw_all := lw_g (lw_at lw_m4 47 rfl) rfl
theorem q875 : (Jvm.Cond.code ({ cls := "SpoonCourt$Both", name := "is", desc := "([J)Z" } : Jvm.MethodName) prog_2_method_2_code (2 : Nat) (Option.some Jvm.ClassFile.FieldType.boolean)) ∈ lw_all := lw_g (lw_at lw_m4 48 rfl) rfl
theorem q876 : (Jvm.Cond.methodLink "SpoonCourt$Both" (20 : Nat) ({ cls := "SpoonCourt$Test", name := "is", desc := "([J)Z" } : Jvm.MethodName)) ∈ lw_all := lw_g (lw_at lw_m4 49 rfl) rfl
theorem in_X14 : ∀ w ∈ wsX140, w ∈ lw_all := lw_in wsX140 [767, 769, 771] (by decide +kernel) (by decide +kernel)
-- J7.java_lang_Math.lean.txt
def RJ7 : String := "java/lang/Math"
abbrev cJ7_max : ByteArray := prog_20_method_65_code
def yJ7_max : MethodName := ⟨RJ7, "max", "(II)I"⟩
abbrev cJ7_min : ByteArray := prog_20_method_69_code
def yJ7_min : MethodName := ⟨RJ7, "min", "(II)I"⟩
theorem q131 : (Jvm.Cond.initialized "java/lang/Math") ∈ lw_all := lw_g (lw_at lw_m1 24 rfl) rfl
theorem q849 : (Jvm.Cond.static ({ cls := "java/lang/Math", name := "max", desc := "(II)I" } : Jvm.MethodName)) ∈ lw_all := lw_g (lw_at lw_m4 22 rfl) rfl
theorem q850 : (Jvm.Cond.code ({ cls := "java/lang/Math", name := "max", desc := "(II)I" } : Jvm.MethodName) prog_20_method_65_code (2 : Nat) (Option.some Jvm.ClassFile.FieldType.int)) ∈ lw_all := lw_g (lw_at lw_m4 23 rfl) rfl
theorem q903 : (Jvm.Cond.static ({ cls := "java/lang/Math", name := "min", desc := "(II)I" } : Jvm.MethodName)) ∈ lw_all := lw_g (lw_at lw_m4 76 rfl) rfl
theorem q904 : (Jvm.Cond.code ({ cls := "java/lang/Math", name := "min", desc := "(II)I" } : Jvm.MethodName) prog_20_method_69_code (2 : Nat) (Option.some Jvm.ClassFile.FieldType.int)) ∈ lw_all := lw_g (lw_at lw_m4 77 rfl) rfl
-- J8.java_lang_Integer.lean.txt
def RJ8 : String := "java/lang/Integer"
abbrev cJ8_bitCount : ByteArray := prog_19_method_49_code
def yJ8_bitCount : MethodName := ⟨RJ8, "bitCount", "(I)I"⟩
theorem q132 : (Jvm.Cond.initialized "java/lang/Integer") ∈ lw_all := lw_g (lw_at lw_m1 25 rfl) rfl
theorem q857 : (Jvm.Cond.static ({ cls := "java/lang/Integer", name := "bitCount", desc := "(I)I" } : Jvm.MethodName)) ∈ lw_all := lw_g (lw_at lw_m4 30 rfl) rfl
theorem q858 : (Jvm.Cond.code ({ cls := "java/lang/Integer", name := "bitCount", desc := "(I)I" } : Jvm.MethodName) prog_19_method_49_code (1 : Nat) (Option.some Jvm.ClassFile.FieldType.int)) ∈ lw_all := lw_g (lw_at lw_m4 31 rfl) rfl
theorem q859 : (Jvm.Cond.constant "java/lang/Integer" (265 : Nat) (1431655765 : Int32)) ∈ lw_all := lw_g (lw_at lw_m4 32 rfl) rfl
theorem q860 : (Jvm.Cond.constant "java/lang/Integer" (266 : Nat) (858993459 : Int32)) ∈ lw_all := lw_g (lw_at lw_m4 33 rfl) rfl
theorem q861 : (Jvm.Cond.constant "java/lang/Integer" (267 : Nat) (252645135 : Int32)) ∈ lw_all := lw_g (lw_at lw_m4 34 rfl) rfl
-- X15.SpoonCourt_Image.lean.txt
def RX15 : String := "SpoonCourt$Image"
def TX15 : u_T := fun k => match k with
  | 0 => ("SpoonCourt$Image", "court", "LSpoonCourt$Court;", true)
  | 1 => ("SpoonCourt$Image", "isTold", "Z", false)
  | 2 => ("SpoonCourt$Image", "x", "I", false)
  | _ => ("SpoonCourt$Image", "inForce", "I", false)
def tyX15 : Nat → FieldType := fun k => match k with
  | 0 => .object "SpoonCourt$Court"
  | 1 => .boolean
  | 2 => .int
  | _ => .int
abbrev wsX150 : List Cond := u_ws RX15 TX15 4
theorem nmX15 : ∀ a, a < 4 → ∀ b, b < 4 → a ≠ b → (TX15 a).2.1 ≠ (TX15 b).2.1 := by decide +kernel
theorem tyX15_ok : ∀ k, k < 4 → parseFieldDescriptor (TX15 k).2.2.1 = some (tyX15 k) := by decide +kernel
abbrev cX15_init : ByteArray := prog_7_method_1_code
def yX15_init : MethodName := ⟨RX15, "<init>", "()V"⟩
theorem q133 : (Jvm.Cond.initialized "SpoonCourt$Image") ∈ lw_all := lw_g (lw_at lw_m1 26 rfl) rfl
theorem q1082 : (Jvm.Cond.instantiable "SpoonCourt$Image" (4 : Nat)) ∈ lw_all := lw_g (lw_at lw_m5 15 rfl) rfl
theorem q1084 : (Jvm.Cond.instanceMethod ({ cls := "SpoonCourt$Image", name := "<init>", desc := "()V" } : Jvm.MethodName)) ∈ lw_all := lw_g (lw_at lw_m5 17 rfl) rfl
theorem q1085 : (Jvm.Cond.code ({ cls := "SpoonCourt$Image", name := "<init>", desc := "()V" } : Jvm.MethodName) prog_7_method_1_code (1 : Nat) (Option.none : Option Jvm.ClassFile.FieldType)) ∈ lw_all := lw_g (lw_at lw_m5 18 rfl) rfl
theorem q1086 : (Jvm.Cond.methodLink "SpoonCourt$Image" (1 : Nat) ({ cls := "java/lang/Object", name := "<init>", desc := "()V" } : Jvm.MethodName)) ∈ lw_all := lw_g (lw_at lw_m5 19 rfl) rfl
theorem q1087 : (Jvm.Cond.classLink "SpoonCourt$Image" (7 : Nat) "SpoonCourt$Court") ∈ lw_all := lw_g (lw_at lw_m5 20 rfl) rfl
theorem q1088 : (Jvm.Cond.methodLinkNest "SpoonCourt$Image" (9 : Nat) ({ cls := "SpoonCourt$Court", name := "<init>", desc := "()V" } : Jvm.MethodName) "SpoonCourt") ∈ lw_tbl := lw_at lw_m5 21 rfl
theorem q1089 : (Jvm.Cond.fieldLink "SpoonCourt$Image" (10 : Nat) "SpoonCourt$Image" "court" "LSpoonCourt$Court;") ∈ lw_all := lw_g (lw_at lw_m5 22 rfl) rfl
theorem q1094 : (Jvm.Cond.laysFinal "SpoonCourt$Image" "SpoonCourt$Image" "court" "LSpoonCourt$Court;") ∈ lw_all := lw_g (lw_at lw_m5 27 rfl) rfl
theorem q1095 : (Jvm.Cond.soleField "SpoonCourt$Image" "court") ∈ lw_all := lw_g (lw_at lw_m5 28 rfl) rfl
theorem q1096 : (Jvm.Cond.lays "SpoonCourt$Image" "SpoonCourt$Image" "isTold" "Z") ∈ lw_all := lw_g (lw_at lw_m5 29 rfl) rfl
theorem q1097 : (Jvm.Cond.soleField "SpoonCourt$Image" "isTold") ∈ lw_all := lw_g (lw_at lw_m5 30 rfl) rfl
theorem q1098 : (Jvm.Cond.lays "SpoonCourt$Image" "SpoonCourt$Image" "x" "I") ∈ lw_all := lw_g (lw_at lw_m5 31 rfl) rfl
theorem q1099 : (Jvm.Cond.soleField "SpoonCourt$Image" "x") ∈ lw_all := lw_g (lw_at lw_m5 32 rfl) rfl
theorem q1100 : (Jvm.Cond.lays "SpoonCourt$Image" "SpoonCourt$Image" "inForce" "I") ∈ lw_all := lw_g (lw_at lw_m5 33 rfl) rfl
theorem q1101 : (Jvm.Cond.soleField "SpoonCourt$Image" "inForce") ∈ lw_all := lw_g (lw_at lw_m5 34 rfl) rfl
theorem q1102 : (Jvm.Cond.superclass "SpoonCourt$Image" "java/lang/Object") ∈ lw_all := lw_g (lw_at lw_m5 35 rfl) rfl
theorem in_X15 : ∀ w ∈ wsX150, w ∈ lw_all := lw_in wsX150 [1094, 1096, 1098, 1100] (by decide +kernel) (by decide +kernel)
-- J9.java_lang_Object.lean.txt
def RJ9 : String := "java/lang/Object"
abbrev cJ9_init : ByteArray := object_method_1_code
def yJ9_init : MethodName := ⟨RJ9, "<init>", "()V"⟩
theorem q140 : (Jvm.Cond.instanceMethod ({ cls := "java/lang/Object", name := "<init>", desc := "()V" } : Jvm.MethodName)) ∈ lw_all := lw_g (lw_at lw_m1 33 rfl) rfl
theorem q141 : (Jvm.Cond.code ({ cls := "java/lang/Object", name := "<init>", desc := "()V" } : Jvm.MethodName) object_method_1_code (1 : Nat) (Option.none : Option Jvm.ClassFile.FieldType)) ∈ lw_all := lw_g (lw_at lw_m1 34 rfl) rfl
-- L.law.lean.txt
abbrev cL_law : ByteArray := code
-- words.rest.lean.txt
theorem q248 : (Jvm.Cond.arrayClass Jvm.ClassFile.FieldType.int) ∈ lw_all := lw_g (lw_at lw_m1 141 rfl) rfl
theorem q249 : (Jvm.Cond.arrayClass Jvm.ClassFile.FieldType.long) ∈ lw_all := lw_g (lw_at lw_m1 142 rfl) rfl
theorem q323 : (Jvm.Cond.arrayClass Jvm.ClassFile.FieldType.byte) ∈ lw_all := lw_g (lw_at lw_m1 216 rfl) rfl
theorem q325 : (Jvm.Cond.arrayOver (Jvm.ClassFile.FieldType.object "java/lang/String")) ∈ lw_tbl := lw_at lw_m1 218 rfl
theorem q344 : (Jvm.Cond.arrayOver (Jvm.ClassFile.FieldType.object "SpoonCourt$Rule")) ∈ lw_tbl := lw_at lw_m1 237 rfl
theorem q346 : (Jvm.Cond.arrayOver (Jvm.ClassFile.FieldType.object "SpoonCourt$Image")) ∈ lw_tbl := lw_at lw_m1 239 rfl
theorem q422 : (Jvm.Cond.arrayClass Jvm.ClassFile.FieldType.boolean) ∈ lw_all := lw_g (lw_at lw_m2 75 rfl) rfl
theorem q617 : (Jvm.Cond.arrayOver (Jvm.ClassFile.FieldType.object "SpoonCourt$Clause")) ∈ lw_tbl := lw_at lw_m3 30 rfl
-- words.SpoonCourtLaw.lean.txt
theorem q107 : (Jvm.Cond.initialized "SpoonCourtLaw") ∈ lw_all := lw_g (lw_at lw_m1 0 rfl) rfl
theorem q134 : (Jvm.Cond.classLink "SpoonCourtLaw" (7 : Nat) "SpoonCourt") ∈ lw_all := lw_g (lw_at lw_m1 27 rfl) rfl
theorem q136 : (Jvm.Cond.methodLink "SpoonCourtLaw" (9 : Nat) ({ cls := "SpoonCourt", name := "<init>", desc := "()V" } : Jvm.MethodName)) ∈ lw_all := lw_g (lw_at lw_m1 29 rfl) rfl
theorem q423 : (Jvm.Cond.methodLink "SpoonCourtLaw" (13 : Nat) ({ cls := "SpoonCourt", name := "feed", desc := "(IIIII)I" } : Jvm.MethodName)) ∈ lw_all := lw_g (lw_at lw_m2 76 rfl) rfl
theorem q431 : (Jvm.Cond.methodLink "SpoonCourtLaw" (18 : Nat) ({ cls := "SpoonCourt", name := "end", desc := "(I)I" } : Jvm.MethodName)) ∈ lw_all := lw_g (lw_at lw_m2 84 rfl) rfl
theorem q435 : (Jvm.Cond.methodLink "SpoonCourtLaw" (23 : Nat) ({ cls := "SpoonCourt", name := "court", desc := "()I" } : Jvm.MethodName)) ∈ lw_all := lw_g (lw_at lw_m2 88 rfl) rfl
theorem q602 : (Jvm.Cond.methodLink "SpoonCourtLaw" (28 : Nat) ({ cls := "SpoonCourt", name := "rule", desc := "()I" } : Jvm.MethodName)) ∈ lw_all := lw_g (lw_at lw_m3 15 rfl) rfl
theorem q775 : (Jvm.Cond.methodLink "SpoonCourtLaw" (32 : Nat) ({ cls := "SpoonCourt", name := "force", desc := "(I)I" } : Jvm.MethodName)) ∈ lw_all := lw_g (lw_at lw_m3 188 rfl) rfl
theorem q779 : (Jvm.Cond.methodLink "SpoonCourtLaw" (36 : Nat) ({ cls := "SpoonCourt", name := "thing", desc := "(II)I" } : Jvm.MethodName)) ∈ lw_all := lw_g (lw_at lw_m3 192 rfl) rfl
theorem q794 : (Jvm.Cond.methodLink "SpoonCourtLaw" (41 : Nat) ({ cls := "SpoonCourt", name := "usual", desc := "(I)I" } : Jvm.MethodName)) ∈ lw_all := lw_g (lw_at lw_m3 207 rfl) rfl
theorem q799 : (Jvm.Cond.methodLink "SpoonCourtLaw" (45 : Nat) ({ cls := "SpoonCourt", name := "person", desc := "(II)I" } : Jvm.MethodName)) ∈ lw_all := lw_g (lw_at lw_m3 212 rfl) rfl
theorem q811 : (Jvm.Cond.methodLink "SpoonCourtLaw" (73 : Nat) ({ cls := "SpoonCourt", name := "undo", desc := "()I" } : Jvm.MethodName)) ∈ lw_all := lw_g (lw_at lw_m3 224 rfl) rfl
theorem q819 : (Jvm.Cond.methodLink "SpoonCourtLaw" (49 : Nat) ({ cls := "SpoonCourt", name := "hour", desc := "()I" } : Jvm.MethodName)) ∈ lw_all := lw_g (lw_at lw_m3 232 rfl) rfl
theorem q909 : (Jvm.Cond.methodLink "SpoonCourtLaw" (53 : Nat) ({ cls := "SpoonCourt", name := "deed", desc := "(II)I" } : Jvm.MethodName)) ∈ lw_all := lw_g (lw_at lw_m4 82 rfl) rfl
theorem q915 : (Jvm.Cond.methodLink "SpoonCourtLaw" (57 : Nat) ({ cls := "SpoonCourt", name := "slight", desc := "(II)I" } : Jvm.MethodName)) ∈ lw_all := lw_g (lw_at lw_m4 88 rfl) rfl
theorem q919 : (Jvm.Cond.methodLink "SpoonCourtLaw" (61 : Nat) ({ cls := "SpoonCourt", name := "tray", desc := "(I)I" } : Jvm.MethodName)) ∈ lw_all := lw_g (lw_at lw_m4 92 rfl) rfl
theorem q923 : (Jvm.Cond.methodLink "SpoonCourtLaw" (65 : Nat) ({ cls := "SpoonCourt", name := "gloves", desc := "(I)I" } : Jvm.MethodName)) ∈ lw_all := lw_g (lw_at lw_m4 96 rfl) rfl
theorem q928 : (Jvm.Cond.methodLink "SpoonCourtLaw" (69 : Nat) ({ cls := "SpoonCourt", name := "strip", desc := "(II)I" } : Jvm.MethodName)) ∈ lw_all := lw_g (lw_at lw_m4 101 rfl) rfl
theorem q933 : (Jvm.Cond.methodLink "SpoonCourtLaw" (77 : Nat) ({ cls := "SpoonCourt", name := "ahead", desc := "(III)I" } : Jvm.MethodName)) ∈ lw_all := lw_g (lw_at lw_m4 106 rfl) rfl
theorem q945 : (Jvm.Cond.methodLink "SpoonCourtLaw" (82 : Nat) ({ cls := "SpoonCourt", name := "dubbed", desc := "(II)I" } : Jvm.MethodName)) ∈ lw_all := lw_g (lw_at lw_m4 118 rfl) rfl
theorem q949 : (Jvm.Cond.methodLink "SpoonCourtLaw" (86 : Nat) ({ cls := "SpoonCourt", name := "least", desc := "(III)I" } : Jvm.MethodName)) ∈ lw_all := lw_g (lw_at lw_m4 122 rfl) rfl
theorem q955 : (Jvm.Cond.methodLink "SpoonCourtLaw" (90 : Nat) ({ cls := "SpoonCourt", name := "spare", desc := "(III)I" } : Jvm.MethodName)) ∈ lw_all := lw_g (lw_at lw_m4 128 rfl) rfl
theorem q965 : (Jvm.Cond.methodLink "SpoonCourtLaw" (94 : Nat) ({ cls := "SpoonCourt", name := "lay", desc := "(III)I" } : Jvm.MethodName)) ∈ lw_all := lw_g (lw_at lw_m4 138 rfl) rfl
theorem q973 : (Jvm.Cond.methodLink "SpoonCourtLaw" (98 : Nat) ({ cls := "SpoonCourt", name := "held", desc := "(II)I" } : Jvm.MethodName)) ∈ lw_all := lw_g (lw_at lw_m4 146 rfl) rfl
theorem q977 : (Jvm.Cond.methodLink "SpoonCourtLaw" (102 : Nat) ({ cls := "SpoonCourt", name := "place", desc := "(I)I" } : Jvm.MethodName)) ∈ lw_all := lw_g (lw_at lw_m4 150 rfl) rfl
theorem q981 : (Jvm.Cond.methodLink "SpoonCourtLaw" (106 : Nat) ({ cls := "SpoonCourt", name := "stripped", desc := "(I)I" } : Jvm.MethodName)) ∈ lw_all := lw_g (lw_at lw_m4 154 rfl) rfl
theorem q993 : (Jvm.Cond.methodLink "SpoonCourtLaw" (110 : Nat) ({ cls := "SpoonCourt", name := "gold", desc := "(II)I" } : Jvm.MethodName)) ∈ lw_all := lw_g (lw_at lw_m4 166 rfl) rfl
theorem q1003 : (Jvm.Cond.methodLink "SpoonCourtLaw" (114 : Nat) ({ cls := "SpoonCourt", name := "rests", desc := "(IIII)I" } : Jvm.MethodName)) ∈ lw_all := lw_g (lw_at lw_m4 176 rfl) rfl
theorem q1012 : (Jvm.Cond.methodLink "SpoonCourtLaw" (119 : Nat) ({ cls := "SpoonCourt", name := "ring", desc := "(I)I" } : Jvm.MethodName)) ∈ lw_all := lw_g (lw_at lw_m4 185 rfl) rfl
theorem q1020 : (Jvm.Cond.methodLink "SpoonCourtLaw" (123 : Nat) ({ cls := "SpoonCourt", name := "note", desc := "(II)I" } : Jvm.MethodName)) ∈ lw_all := lw_g (lw_at lw_m4 193 rfl) rfl
theorem q1024 : (Jvm.Cond.methodLink "SpoonCourtLaw" (127 : Nat) ({ cls := "SpoonCourt", name := "ruled", desc := "(I)I" } : Jvm.MethodName)) ∈ lw_all := lw_g (lw_at lw_m4 197 rfl) rfl
theorem q1041 : (Jvm.Cond.methodLink "SpoonCourtLaw" (131 : Nat) ({ cls := "SpoonCourt", name := "look", desc := "(I)I" } : Jvm.MethodName)) ∈ lw_all := lw_g (lw_at lw_m4 214 rfl) rfl
theorem q1050 : (Jvm.Cond.methodLink "SpoonCourtLaw" (135 : Nat) ({ cls := "SpoonCourt", name := "seed", desc := "(I)I" } : Jvm.MethodName)) ∈ lw_all := lw_g (lw_at lw_m4 223 rfl) rfl
theorem q1054 : (Jvm.Cond.methodLink "SpoonCourtLaw" (139 : Nat) ({ cls := "SpoonCourt", name := "years", desc := "(IIII)I" } : Jvm.MethodName)) ∈ lw_all := lw_g (lw_at lw_m4 227 rfl) rfl
theorem q1071 : (Jvm.Cond.methodLink "SpoonCourtLaw" (143 : Nat) ({ cls := "SpoonCourt", name := "count", desc := "(I)I" } : Jvm.MethodName)) ∈ lw_all := lw_g (lw_at lw_m5 4 rfl) rfl
theorem q1077 : (Jvm.Cond.methodLink "SpoonCourtLaw" (147 : Nat) ({ cls := "SpoonCourt", name := "image", desc := "(I)I" } : Jvm.MethodName)) ∈ lw_all := lw_g (lw_at lw_m5 10 rfl) rfl
theorem q1103 : (Jvm.Cond.methodLink "SpoonCourtLaw" (151 : Nat) ({ cls := "SpoonCourt", name := "back", desc := "(I)I" } : Jvm.MethodName)) ∈ lw_all := lw_g (lw_at lw_m5 36 rfl) rfl
theorem q1107 : (Jvm.Cond.classLink "SpoonCourtLaw" (10 : Nat) "SpoonCourtModel") ∈ lw_all := lw_g (lw_at lw_m5 40 rfl) rfl
theorem q1109 : (Jvm.Cond.methodLink "SpoonCourtLaw" (12 : Nat) ({ cls := "SpoonCourtModel", name := "<init>", desc := "()V" } : Jvm.MethodName)) ∈ lw_all := lw_g (lw_at lw_m5 42 rfl) rfl
theorem q1272 : (Jvm.Cond.methodLink "SpoonCourtLaw" (17 : Nat) ({ cls := "SpoonCourtModel", name := "feed", desc := "(IIIII)I" } : Jvm.MethodName)) ∈ lw_all := lw_g (lw_at lw_m5 205 rfl) rfl
theorem q1280 : (Jvm.Cond.methodLink "SpoonCourtLaw" (22 : Nat) ({ cls := "SpoonCourtModel", name := "end", desc := "(I)I" } : Jvm.MethodName)) ∈ lw_all := lw_g (lw_at lw_m5 213 rfl) rfl
theorem q1284 : (Jvm.Cond.methodLink "SpoonCourtLaw" (27 : Nat) ({ cls := "SpoonCourtModel", name := "court", desc := "()I" } : Jvm.MethodName)) ∈ lw_all := lw_g (lw_at lw_m5 217 rfl) rfl
theorem q1367 : (Jvm.Cond.methodLink "SpoonCourtLaw" (31 : Nat) ({ cls := "SpoonCourtModel", name := "rule", desc := "()I" } : Jvm.MethodName)) ∈ lw_all := lw_g (lw_at lw_m6 60 rfl) rfl
theorem q1442 : (Jvm.Cond.methodLink "SpoonCourtLaw" (35 : Nat) ({ cls := "SpoonCourtModel", name := "force", desc := "(I)I" } : Jvm.MethodName)) ∈ lw_all := lw_g (lw_at lw_m6 135 rfl) rfl
theorem q1447 : (Jvm.Cond.methodLink "SpoonCourtLaw" (40 : Nat) ({ cls := "SpoonCourtModel", name := "thing", desc := "(II)I" } : Jvm.MethodName)) ∈ lw_all := lw_g (lw_at lw_m6 140 rfl) rfl
theorem q1459 : (Jvm.Cond.methodLink "SpoonCourtLaw" (44 : Nat) ({ cls := "SpoonCourtModel", name := "usual", desc := "(I)I" } : Jvm.MethodName)) ∈ lw_all := lw_g (lw_at lw_m6 152 rfl) rfl
theorem q1467 : (Jvm.Cond.methodLink "SpoonCourtLaw" (48 : Nat) ({ cls := "SpoonCourtModel", name := "person", desc := "(II)I" } : Jvm.MethodName)) ∈ lw_all := lw_g (lw_at lw_m6 160 rfl) rfl
theorem q1482 : (Jvm.Cond.methodLink "SpoonCourtLaw" (76 : Nat) ({ cls := "SpoonCourtModel", name := "undo", desc := "()I" } : Jvm.MethodName)) ∈ lw_all := lw_g (lw_at lw_m6 175 rfl) rfl
theorem q1498 : (Jvm.Cond.methodLink "SpoonCourtLaw" (52 : Nat) ({ cls := "SpoonCourtModel", name := "hour", desc := "()I" } : Jvm.MethodName)) ∈ lw_all := lw_g (lw_at lw_m6 191 rfl) rfl
theorem q1542 : (Jvm.Cond.methodLink "SpoonCourtLaw" (56 : Nat) ({ cls := "SpoonCourtModel", name := "deed", desc := "(II)I" } : Jvm.MethodName)) ∈ lw_all := lw_g (lw_at lw_m6 235 rfl) rfl
theorem q1547 : (Jvm.Cond.methodLink "SpoonCourtLaw" (60 : Nat) ({ cls := "SpoonCourtModel", name := "slight", desc := "(II)I" } : Jvm.MethodName)) ∈ lw_all := lw_g (lw_at lw_m7 0 rfl) rfl
theorem q1551 : (Jvm.Cond.methodLink "SpoonCourtLaw" (64 : Nat) ({ cls := "SpoonCourtModel", name := "tray", desc := "(I)I" } : Jvm.MethodName)) ∈ lw_all := lw_g (lw_at lw_m7 4 rfl) rfl
theorem q1555 : (Jvm.Cond.methodLink "SpoonCourtLaw" (68 : Nat) ({ cls := "SpoonCourtModel", name := "gloves", desc := "(I)I" } : Jvm.MethodName)) ∈ lw_all := lw_g (lw_at lw_m7 8 rfl) rfl
theorem q1560 : (Jvm.Cond.methodLink "SpoonCourtLaw" (72 : Nat) ({ cls := "SpoonCourtModel", name := "strip", desc := "(II)I" } : Jvm.MethodName)) ∈ lw_all := lw_g (lw_at lw_m7 13 rfl) rfl
theorem q1564 : (Jvm.Cond.methodLink "SpoonCourtLaw" (81 : Nat) ({ cls := "SpoonCourtModel", name := "ahead", desc := "(III)I" } : Jvm.MethodName)) ∈ lw_all := lw_g (lw_at lw_m7 17 rfl) rfl
theorem q1590 : (Jvm.Cond.methodLink "SpoonCourtLaw" (85 : Nat) ({ cls := "SpoonCourtModel", name := "dubbed", desc := "(II)I" } : Jvm.MethodName)) ∈ lw_all := lw_g (lw_at lw_m7 43 rfl) rfl
theorem q1594 : (Jvm.Cond.methodLink "SpoonCourtLaw" (89 : Nat) ({ cls := "SpoonCourtModel", name := "least", desc := "(III)I" } : Jvm.MethodName)) ∈ lw_all := lw_g (lw_at lw_m7 47 rfl) rfl
theorem q1599 : (Jvm.Cond.methodLink "SpoonCourtLaw" (93 : Nat) ({ cls := "SpoonCourtModel", name := "spare", desc := "(III)I" } : Jvm.MethodName)) ∈ lw_all := lw_g (lw_at lw_m7 52 rfl) rfl
theorem q1608 : (Jvm.Cond.methodLink "SpoonCourtLaw" (97 : Nat) ({ cls := "SpoonCourtModel", name := "lay", desc := "(III)I" } : Jvm.MethodName)) ∈ lw_all := lw_g (lw_at lw_m7 61 rfl) rfl
theorem q1612 : (Jvm.Cond.methodLink "SpoonCourtLaw" (101 : Nat) ({ cls := "SpoonCourtModel", name := "held", desc := "(II)I" } : Jvm.MethodName)) ∈ lw_all := lw_g (lw_at lw_m7 65 rfl) rfl
theorem q1616 : (Jvm.Cond.methodLink "SpoonCourtLaw" (105 : Nat) ({ cls := "SpoonCourtModel", name := "place", desc := "(I)I" } : Jvm.MethodName)) ∈ lw_all := lw_g (lw_at lw_m7 69 rfl) rfl
theorem q1620 : (Jvm.Cond.methodLink "SpoonCourtLaw" (109 : Nat) ({ cls := "SpoonCourtModel", name := "stripped", desc := "(I)I" } : Jvm.MethodName)) ∈ lw_all := lw_g (lw_at lw_m7 73 rfl) rfl
theorem q1632 : (Jvm.Cond.methodLink "SpoonCourtLaw" (113 : Nat) ({ cls := "SpoonCourtModel", name := "gold", desc := "(II)I" } : Jvm.MethodName)) ∈ lw_all := lw_g (lw_at lw_m7 85 rfl) rfl
theorem q1637 : (Jvm.Cond.methodLink "SpoonCourtLaw" (118 : Nat) ({ cls := "SpoonCourtModel", name := "rests", desc := "(IIII)I" } : Jvm.MethodName)) ∈ lw_all := lw_g (lw_at lw_m7 90 rfl) rfl
theorem q1650 : (Jvm.Cond.methodLink "SpoonCourtLaw" (122 : Nat) ({ cls := "SpoonCourtModel", name := "ring", desc := "(I)I" } : Jvm.MethodName)) ∈ lw_all := lw_g (lw_at lw_m7 103 rfl) rfl
theorem q1662 : (Jvm.Cond.methodLink "SpoonCourtLaw" (126 : Nat) ({ cls := "SpoonCourtModel", name := "note", desc := "(II)I" } : Jvm.MethodName)) ∈ lw_all := lw_g (lw_at lw_m7 115 rfl) rfl
theorem q1666 : (Jvm.Cond.methodLink "SpoonCourtLaw" (130 : Nat) ({ cls := "SpoonCourtModel", name := "ruled", desc := "(I)I" } : Jvm.MethodName)) ∈ lw_all := lw_g (lw_at lw_m7 119 rfl) rfl
theorem q1674 : (Jvm.Cond.methodLink "SpoonCourtLaw" (134 : Nat) ({ cls := "SpoonCourtModel", name := "look", desc := "(I)I" } : Jvm.MethodName)) ∈ lw_all := lw_g (lw_at lw_m7 127 rfl) rfl
theorem q1682 : (Jvm.Cond.methodLink "SpoonCourtLaw" (138 : Nat) ({ cls := "SpoonCourtModel", name := "seed", desc := "(I)I" } : Jvm.MethodName)) ∈ lw_all := lw_g (lw_at lw_m7 135 rfl) rfl
theorem q1686 : (Jvm.Cond.methodLink "SpoonCourtLaw" (142 : Nat) ({ cls := "SpoonCourtModel", name := "years", desc := "(IIII)I" } : Jvm.MethodName)) ∈ lw_all := lw_g (lw_at lw_m7 139 rfl) rfl
theorem q1703 : (Jvm.Cond.methodLink "SpoonCourtLaw" (146 : Nat) ({ cls := "SpoonCourtModel", name := "count", desc := "(I)I" } : Jvm.MethodName)) ∈ lw_all := lw_g (lw_at lw_m7 156 rfl) rfl
theorem q1707 : (Jvm.Cond.methodLink "SpoonCourtLaw" (150 : Nat) ({ cls := "SpoonCourtModel", name := "image", desc := "(I)I" } : Jvm.MethodName)) ∈ lw_all := lw_g (lw_at lw_m7 160 rfl) rfl
theorem q1712 : (Jvm.Cond.methodLink "SpoonCourtLaw" (154 : Nat) ({ cls := "SpoonCourtModel", name := "back", desc := "(I)I" } : Jvm.MethodName)) ∈ lw_all := lw_g (lw_at lw_m7 165 rfl) rfl
-- words.java_lang_System.lean.txt
theorem q116 : (Jvm.Cond.initialized "java/lang/System") ∈ lw_all := lw_g (lw_at lw_m1 9 rfl) rfl
theorem q476 : (Jvm.Cond.static ({ cls := "java/lang/System", name := "arraycopy", desc := "(Ljava/lang/Object;ILjava/lang/Object;II)V" } : Jvm.MethodName)) ∈ lw_all := lw_g (lw_at lw_m2 129 rfl) rfl
theorem q477 : (Jvm.Cond.native ({ cls := "java/lang/System", name := "arraycopy", desc := "(Ljava/lang/Object;ILjava/lang/Object;II)V" } : Jvm.MethodName)) ∈ lw_all := lw_g (lw_at lw_m2 130 rfl) rfl
