/-! THE LAW CHECKED, AND ALL TOGETHER (printed by tools/chk.py) -/
set_option maxRecDepth 100000
theorem jx_FL_0 : jx_F 225 (bk_225.getD 0 (0, [])) = true := by decide +kernel
theorem jx_FL_1 : jx_F 225 (bk_225.getD 1 (0, [])) = true := by decide +kernel
theorem jx_FL_2 : jx_F 225 (bk_225.getD 2 (0, [])) = true := by decide +kernel
theorem jx_FL_3 : jx_F 225 (bk_225.getD 3 (0, [])) = true := by decide +kernel
theorem jx_FL_4 : jx_F 225 (bk_225.getD 4 (0, [])) = true := by decide +kernel
theorem jx_FL_5 : jx_F 225 (bk_225.getD 5 (0, [])) = true := by decide +kernel
theorem jx_FL_6 : jx_F 225 (bk_225.getD 6 (0, [])) = true := by decide +kernel
theorem jx_FL_7 : jx_F 225 (bk_225.getD 7 (0, [])) = true := by decide +kernel
theorem jx_FL_8 : jx_F 225 (bk_225.getD 8 (0, [])) = true := by decide +kernel
theorem jx_FL_9 : jx_F 225 (bk_225.getD 9 (0, [])) = true := by decide +kernel
theorem jx_FL_10 : jx_F 225 (bk_225.getD 10 (0, [])) = true := by decide +kernel
theorem jx_FL_11 : jx_F 225 (bk_225.getD 11 (0, [])) = true := by decide +kernel
theorem jx_FL_12 : jx_F 225 (bk_225.getD 12 (0, [])) = true := by decide +kernel
theorem jx_FL_13 : jx_F 225 (bk_225.getD 13 (0, [])) = true := by decide +kernel
theorem jx_FL_14 : jx_F 225 (bk_225.getD 14 (0, [])) = true := by decide +kernel
theorem jx_FL_15 : jx_F 225 (bk_225.getD 15 (0, [])) = true := by decide +kernel
theorem jx_FL_16 : jx_F 225 (bk_225.getD 16 (0, [])) = true := by decide +kernel
theorem jx_FL_17 : jx_F 225 (bk_225.getD 17 (0, [])) = true := by decide +kernel
theorem jx_FL_18 : jx_F 225 (bk_225.getD 18 (0, [])) = true := by decide +kernel
theorem jx_FL_19 : jx_F 225 (bk_225.getD 19 (0, [])) = true := by decide +kernel
theorem jx_FL_20 : jx_F 225 (bk_225.getD 20 (0, [])) = true := by decide +kernel
theorem jx_FL_21 : jx_F 225 (bk_225.getD 21 (0, [])) = true := by decide +kernel
theorem jx_FL_22 : jx_F 225 (bk_225.getD 22 (0, [])) = true := by decide +kernel
theorem jx_FL_23 : jx_F 225 (bk_225.getD 23 (0, [])) = true := by decide +kernel
theorem jx_FL_24 : jx_F 225 (bk_225.getD 24 (0, [])) = true := by decide +kernel
theorem jx_FL_25 : jx_F 225 (bk_225.getD 25 (0, [])) = true := by decide +kernel
theorem jx_FL_26 : jx_F 225 (bk_225.getD 26 (0, [])) = true := by decide +kernel
theorem jx_FL_27 : jx_F 225 (bk_225.getD 27 (0, [])) = true := by decide +kernel
theorem jx_FL_28 : jx_F 225 (bk_225.getD 28 (0, [])) = true := by decide +kernel
theorem jx_FL_29 : jx_F 225 (bk_225.getD 29 (0, [])) = true := by decide +kernel
theorem jx_FL_30 : jx_F 225 (bk_225.getD 30 (0, [])) = true := by decide +kernel
theorem jx_FL_31 : jx_F 225 (bk_225.getD 31 (0, [])) = true := by decide +kernel
theorem jx_FL_32 : jx_F 225 (bk_225.getD 32 (0, [])) = true := by decide +kernel
theorem jx_FL_33 : jx_F 225 (bk_225.getD 33 (0, [])) = true := by decide +kernel
theorem jx_FL_34 : jx_F 225 (bk_225.getD 34 (0, [])) = true := by decide +kernel
theorem jx_FL_35 : jx_F 225 (bk_225.getD 35 (0, [])) = true := by decide +kernel
theorem jx_FL_36 : jx_F 225 (bk_225.getD 36 (0, [])) = true := by decide +kernel
theorem jx_FL_37 : jx_F 225 (bk_225.getD 37 (0, [])) = true := by decide +kernel
theorem jx_FLa_0 : ∀ i, i < 0 → jx_F 225 (bk_225.getD i (0, [])) = true := lt_0
theorem jx_FLa_20 : ∀ i, i < 20 → jx_F 225 (bk_225.getD i (0, [])) = true := lt_s (lt_s (lt_s (lt_s (lt_s (lt_s (lt_s (lt_s (lt_s (lt_s (lt_s (lt_s (lt_s (lt_s (lt_s (lt_s (lt_s (lt_s (lt_s (lt_s (jx_FLa_0) jx_FL_0) jx_FL_1) jx_FL_2) jx_FL_3) jx_FL_4) jx_FL_5) jx_FL_6) jx_FL_7) jx_FL_8) jx_FL_9) jx_FL_10) jx_FL_11) jx_FL_12) jx_FL_13) jx_FL_14) jx_FL_15) jx_FL_16) jx_FL_17) jx_FL_18) jx_FL_19
theorem jx_FLa_38 : ∀ i, i < 38 → jx_F 225 (bk_225.getD i (0, [])) = true := lt_s (lt_s (lt_s (lt_s (lt_s (lt_s (lt_s (lt_s (lt_s (lt_s (lt_s (lt_s (lt_s (lt_s (lt_s (lt_s (lt_s (lt_s (jx_FLa_20) jx_FL_20) jx_FL_21) jx_FL_22) jx_FL_23) jx_FL_24) jx_FL_25) jx_FL_26) jx_FL_27) jx_FL_28) jx_FL_29) jx_FL_30) jx_FL_31) jx_FL_32) jx_FL_33) jx_FL_34) jx_FL_35) jx_FL_36) jx_FL_37
theorem jx_C_225 : jx_C 225 = true := by
  refine List.all_eq_true.mpr fun e he => ?_
  obtain ⟨i, hi⟩ := List.getElem?_of_mem (show e ∈ bk_225 from he)
  have hl : bk_225.length = 38 := by decide +kernel
  have := jx_FLa_38 i (by rw [← hl]; exact (List.getElem?_eq_some_iff.mp hi).1)
  rw [List.getD_eq_getElem?_getD, hi] at this
  exact this
theorem jx_Ca_0 : ∀ y, y < 0 → jx_C y = true := lt_0
theorem jx_Ca_20 : ∀ y, y < 20 → jx_C y = true := lt_s (lt_s (lt_s (lt_s (lt_s (lt_s (lt_s (lt_s (lt_s (lt_s (lt_s (lt_s (lt_s (lt_s (lt_s (lt_s (lt_s (lt_s (lt_s (lt_s (jx_Ca_0) jx_C_0) jx_C_1) jx_C_2) jx_C_3) jx_C_4) jx_C_5) jx_C_6) jx_C_7) jx_C_8) jx_C_9) jx_C_10) jx_C_11) jx_C_12) jx_C_13) jx_C_14) jx_C_15) jx_C_16) jx_C_17) jx_C_18) jx_C_19
theorem jx_Ca_40 : ∀ y, y < 40 → jx_C y = true := lt_s (lt_s (lt_s (lt_s (lt_s (lt_s (lt_s (lt_s (lt_s (lt_s (lt_s (lt_s (lt_s (lt_s (lt_s (lt_s (lt_s (lt_s (lt_s (lt_s (jx_Ca_20) jx_C_20) jx_C_21) jx_C_22) jx_C_23) jx_C_24) jx_C_25) jx_C_26) jx_C_27) jx_C_28) jx_C_29) jx_C_30) jx_C_31) jx_C_32) jx_C_33) jx_C_34) jx_C_35) jx_C_36) jx_C_37) jx_C_38) jx_C_39
theorem jx_Ca_60 : ∀ y, y < 60 → jx_C y = true := lt_s (lt_s (lt_s (lt_s (lt_s (lt_s (lt_s (lt_s (lt_s (lt_s (lt_s (lt_s (lt_s (lt_s (lt_s (lt_s (lt_s (lt_s (lt_s (lt_s (jx_Ca_40) jx_C_40) jx_C_41) jx_C_42) jx_C_43) jx_C_44) jx_C_45) jx_C_46) jx_C_47) jx_C_48) jx_C_49) jx_C_50) jx_C_51) jx_C_52) jx_C_53) jx_C_54) jx_C_55) jx_C_56) jx_C_57) jx_C_58) jx_C_59
theorem jx_Ca_80 : ∀ y, y < 80 → jx_C y = true := lt_s (lt_s (lt_s (lt_s (lt_s (lt_s (lt_s (lt_s (lt_s (lt_s (lt_s (lt_s (lt_s (lt_s (lt_s (lt_s (lt_s (lt_s (lt_s (lt_s (jx_Ca_60) jx_C_60) jx_C_61) jx_C_62) jx_C_63) jx_C_64) jx_C_65) jx_C_66) jx_C_67) jx_C_68) jx_C_69) jx_C_70) jx_C_71) jx_C_72) jx_C_73) jx_C_74) jx_C_75) jx_C_76) jx_C_77) jx_C_78) jx_C_79
theorem jx_Ca_100 : ∀ y, y < 100 → jx_C y = true := lt_s (lt_s (lt_s (lt_s (lt_s (lt_s (lt_s (lt_s (lt_s (lt_s (lt_s (lt_s (lt_s (lt_s (lt_s (lt_s (lt_s (lt_s (lt_s (lt_s (jx_Ca_80) jx_C_80) jx_C_81) jx_C_82) jx_C_83) jx_C_84) jx_C_85) jx_C_86) jx_C_87) jx_C_88) jx_C_89) jx_C_90) jx_C_91) jx_C_92) jx_C_93) jx_C_94) jx_C_95) jx_C_96) jx_C_97) jx_C_98) jx_C_99
theorem jx_Ca_120 : ∀ y, y < 120 → jx_C y = true := lt_s (lt_s (lt_s (lt_s (lt_s (lt_s (lt_s (lt_s (lt_s (lt_s (lt_s (lt_s (lt_s (lt_s (lt_s (lt_s (lt_s (lt_s (lt_s (lt_s (jx_Ca_100) jx_C_100) jx_C_101) jx_C_102) jx_C_103) jx_C_104) jx_C_105) jx_C_106) jx_C_107) jx_C_108) jx_C_109) jx_C_110) jx_C_111) jx_C_112) jx_C_113) jx_C_114) jx_C_115) jx_C_116) jx_C_117) jx_C_118) jx_C_119
theorem jx_Ca_140 : ∀ y, y < 140 → jx_C y = true := lt_s (lt_s (lt_s (lt_s (lt_s (lt_s (lt_s (lt_s (lt_s (lt_s (lt_s (lt_s (lt_s (lt_s (lt_s (lt_s (lt_s (lt_s (lt_s (lt_s (jx_Ca_120) jx_C_120) jx_C_121) jx_C_122) jx_C_123) jx_C_124) jx_C_125) jx_C_126) jx_C_127) jx_C_128) jx_C_129) jx_C_130) jx_C_131) jx_C_132) jx_C_133) jx_C_134) jx_C_135) jx_C_136) jx_C_137) jx_C_138) jx_C_139
theorem jx_Ca_160 : ∀ y, y < 160 → jx_C y = true := lt_s (lt_s (lt_s (lt_s (lt_s (lt_s (lt_s (lt_s (lt_s (lt_s (lt_s (lt_s (lt_s (lt_s (lt_s (lt_s (lt_s (lt_s (lt_s (lt_s (jx_Ca_140) jx_C_140) jx_C_141) jx_C_142) jx_C_143) jx_C_144) jx_C_145) jx_C_146) jx_C_147) jx_C_148) jx_C_149) jx_C_150) jx_C_151) jx_C_152) jx_C_153) jx_C_154) jx_C_155) jx_C_156) jx_C_157) jx_C_158) jx_C_159
theorem jx_Ca_180 : ∀ y, y < 180 → jx_C y = true := lt_s (lt_s (lt_s (lt_s (lt_s (lt_s (lt_s (lt_s (lt_s (lt_s (lt_s (lt_s (lt_s (lt_s (lt_s (lt_s (lt_s (lt_s (lt_s (lt_s (jx_Ca_160) jx_C_160) jx_C_161) jx_C_162) jx_C_163) jx_C_164) jx_C_165) jx_C_166) jx_C_167) jx_C_168) jx_C_169) jx_C_170) jx_C_171) jx_C_172) jx_C_173) jx_C_174) jx_C_175) jx_C_176) jx_C_177) jx_C_178) jx_C_179
theorem jx_Ca_200 : ∀ y, y < 200 → jx_C y = true := lt_s (lt_s (lt_s (lt_s (lt_s (lt_s (lt_s (lt_s (lt_s (lt_s (lt_s (lt_s (lt_s (lt_s (lt_s (lt_s (lt_s (lt_s (lt_s (lt_s (jx_Ca_180) jx_C_180) jx_C_181) jx_C_182) jx_C_183) jx_C_184) jx_C_185) jx_C_186) jx_C_187) jx_C_188) jx_C_189) jx_C_190) jx_C_191) jx_C_192) jx_C_193) jx_C_194) jx_C_195) jx_C_196) jx_C_197) jx_C_198) jx_C_199
theorem jx_Ca_220 : ∀ y, y < 220 → jx_C y = true := lt_s (lt_s (lt_s (lt_s (lt_s (lt_s (lt_s (lt_s (lt_s (lt_s (lt_s (lt_s (lt_s (lt_s (lt_s (lt_s (lt_s (lt_s (lt_s (lt_s (jx_Ca_200) jx_C_200) jx_C_201) jx_C_202) jx_C_203) jx_C_204) jx_C_205) jx_C_206) jx_C_207) jx_C_208) jx_C_209) jx_C_210) jx_C_211) jx_C_212) jx_C_213) jx_C_214) jx_C_215) jx_C_216) jx_C_217) jx_C_218) jx_C_219
theorem jx_Ca_237 : ∀ y, y < 237 → jx_C y = true := lt_s (lt_s (lt_s (lt_s (lt_s (lt_s (lt_s (lt_s (lt_s (lt_s (lt_s (lt_s (lt_s (lt_s (lt_s (lt_s (lt_s (jx_Ca_220) jx_C_220) jx_C_221) jx_C_222) jx_C_223) jx_C_224) jx_C_225) jx_C_226) jx_C_227) jx_C_228) jx_C_229) jx_C_230) jx_C_231) jx_C_232) jx_C_233) jx_C_234) jx_C_235) jx_C_236
theorem jx_lkm {α : Type} : ∀ (l : List (Nat × α)) (L : Nat) (c : α), l.lookup L = some c → (L, c) ∈ l := by
  intro l
  induction l with
  | nil => intro L c h; cases h
  | cons a r ih =>
    intro L c h
    obtain ⟨k, v⟩ := a
    rw [List.lookup_cons] at h
    split at h
    · rename_i e
      cases h
      rw [eq_of_beq e]
      exact List.mem_cons_self
    · exact List.mem_cons_of_mem _ (ih L c h)
theorem jx_Oks {w : jx_W} (hNW : w.2.2.2.2.1 = jx_NW) (hSR : w.2.2.2.2.2 = jx_SR) (y L : Nat) : jx_Ok w jx_TT jx_PP y L (jx_PP.1 y L) := by
  show jx_Ok w jx_TT jx_PP y L (((jx_btb.getD y []).lookup L).getD [])
  rcases Nat.lt_or_ge y 237 with hy | hy
  · cases hl : (jx_btb.getD y []).lookup L with
    | none => trivial
    | some c =>
      have hm := jx_lkm _ _ _ hl
      have h1 := List.all_eq_true.mp (show (jx_btb.getD y []).all _ = true from jx_Ca_237 y hy) _ hm
      have h2 := List.all_eq_true.mp jx_clsA y (List.mem_range.mpr hy)
      exact jx_ck_ok hNW hSR (of_decide_eq_true h2) rfl rfl rfl rfl c L h1
  · have : jx_btb.getD y [] = [] := by
      rw [List.getD_eq_getElem?_getD, List.getElem?_eq_none (by rw [jx_btb_len]; exact hy)]
      rfl
    rw [this]
    trivial
theorem jx_SR22 : ∀ q ∈ jx_SR, q.2.2.1 < 22 := by
  intro q hq
  obtain ⟨e, he, rfl⟩ := List.mem_map.mp hq
  have : jx_ST.all (fun e => decide (e.2.2 < 22)) = true := by decide +kernel
  exact of_decide_eq_true (List.all_eq_true.mp this e he)
theorem jx_prog {w : jx_W} (hNW : w.2.2.2.2.1 = jx_NW) (hSR : w.2.2.2.2.2 = jx_SR) (h1 : ∀ b, b < 3 → ∀ q, w.2.2.2.1 b ≠ .inr q) (h2 : ∀ b, jx_a89 (w.2.2.2.1 b) = true → 3 ≤ b) : jx_Prog w jx_TT jx_PP := by
  refine ⟨jx_Oks hNW hSR, fun y vs => ?_, fun y hy => ?_, by rw [hSR]; exact jx_SR22, h1, h2⟩
  · show (if y = 0 then none else _) = none ∨ (if y = 0 then none else _) = _
    split
    · exact Or.inl rfl
    · exact Or.inr rfl
  · have hy : (!(jx_m y).2.2.2.2.1.isEmpty) = false := hy
    simp only [Bool.not_eq_false', List.isEmpty_iff] at hy
    exact hy
