/-! TABLES: instructions, 39 (printed by mktab2.py) -/
set_option maxRecDepth 100000
def gL_253 (K : gK) : List (Nat × gS) := [(0, o_aload 0 1), (1, o_iload 1 2), (2, o_aload 0 3), (3, o_getClass K 6), (6, o_callS 255 3 9), (9, o_aret)]
theorem s_253 {Z : gZ} {K : gK} : gAll Z K 253 (gL_253 K) := ⟨so_aload_n m_253 dJ14_copyOf_0,
  so_iload_n m_253 dJ14_copyOf_1,
  so_aload_n m_253 dJ14_copyOf_2,
  so_getClass m_253 q778 q1861 q1860 q779 q804 dJ14_copyOf_3,
  so_callS m_253 (gHn m_253) cal_255 q805 q806 dJ14_copyOf_6,
  so_aret m_253 (by decide) rfl (Or.inr ⟨_, rfl⟩) dJ14_copyOf_9, trivial⟩
def gL_254 (K : gK) : List (Nat × gS) := [(0, o_iload 0 1), (1, o_iload 1 2), (2, o_iadd 3), (3, o_istore 2 4), (4, o_iload 2 5), (5, o_ifge 49 8), (49, o_iload 2 50), (50, o_push (.int 2147483639) 52), (52, o_cmpgt 58 55), (55, o_push (.int 2147483639) 57), (57, o_iret), (58, o_iload 2 59), (59, o_iret)]
theorem s_254 {Z : gZ} {K : gK} : gAll Z K 254 (gL_254 K) := ⟨so_iload_n m_254 dJ13_hugeLength_0,
  so_iload_n m_254 dJ13_hugeLength_1,
  so_iadd m_254 dJ13_hugeLength_2,
  so_istore_n m_254 rfl (by decide) (fun _ _ => rfl) dJ13_hugeLength_3,
  so_iload_n m_254 dJ13_hugeLength_4,
  so_ifge m_254 (t := 49) (by decide) dJ13_hugeLength_5,
  so_iload_n m_254 dJ13_hugeLength_49,
  so_ldc m_254 q771 dJ13_hugeLength_50,
  so_cmpgt m_254 (t := 58) (by decide) dJ13_hugeLength_52,
  so_ldc m_254 q771 dJ13_hugeLength_55,
  so_iret m_254 (by decide) rfl dJ13_hugeLength_57,
  so_iload_n m_254 dJ13_hugeLength_58,
  so_iret m_254 (by decide) rfl dJ13_hugeLength_59, trivial⟩
def gL_255 (K : gK) : List (Nat × gS) := [(0, o_aload 2 1), (1, o_push (.ref (K.2 6)) 3), (3, o_acmpne 13 6), (6, o_iload 1 7), (7, o_newq 5 10), (10, o_goto 24), (13, o_aload 2 14), (24, o_astore 3 25), (25, o_aload 0 26), (26, o_push (.int 0) 27), (27, o_aload 3 28), (28, o_push (.int 0) 29), (29, o_aload 0 30), (30, o_alen K 31), (31, o_iload 1 32), (32, o_callS 224 2 35), (35, o_copy 38), (38, o_aload 3 39), (39, o_aret)]
theorem s_255 {Z : gZ} {K : gK} : gAll Z K 255 (gL_255 K) := ⟨so_aload_n m_255 dJ14_copyOf_2_0,
  so_ldcM m_255 q808 dJ14_copyOf_2_1,
  so_acmpne m_255 (t := 13) (by decide) dJ14_copyOf_2_3,
  so_iload_n m_255 dJ14_copyOf_2_6,
  so_newqo m_255 q810 q809 dJ14_copyOf_2_7,
  so_goto m_255 (t := 24) (by decide) dJ14_copyOf_2_10,
  so_aload_n m_255 dJ14_copyOf_2_13,
  so_astore_n m_255 rfl (by decide) (fun _ _ => rfl) dJ14_copyOf_2_24,
  so_aload_n m_255 dJ14_copyOf_2_25,
  so_iconst m_255 (by decide) dJ14_copyOf_2_26,
  so_aload_n m_255 dJ14_copyOf_2_27,
  so_iconst m_255 (by decide) dJ14_copyOf_2_28,
  so_aload_n m_255 dJ14_copyOf_2_29,
  so_alen m_255 dJ14_copyOf_2_30,
  so_iload_n m_255 dJ14_copyOf_2_31,
  so_callS m_255 (gHn m_255) cal_224 q811 q689 dJ14_copyOf_2_32,
  so_copy m_255 q812 q814 q813 q89 dJ14_copyOf_2_35,
  so_aload_n m_255 dJ14_copyOf_2_38,
  so_aret m_255 (by decide) rfl (Or.inr ⟨_, rfl⟩) dJ14_copyOf_2_39, trivial⟩
def gPL0 (K : gK) : List (List (Nat × gS)) := [gL_0 K, gL_1 K, gL_2 K, gL_3 K, gL_4 K, gL_5 K, gL_6 K, gL_7 K, gL_8 K, gL_9 K, gL_10 K, gL_11 K, gL_12 K, gL_13 K, gL_14 K, gL_15 K, gL_16 K, gL_17 K, gL_18 K, gL_19 K, gL_20 K, gL_21 K, gL_22 K, gL_23 K, gL_24 K, gL_25 K, gL_26 K, gL_27 K, gL_28 K, gL_29 K, gL_30 K, gL_31 K]
def gPL1 (K : gK) : List (List (Nat × gS)) := [gL_32 K, gL_33 K, gL_34 K, gL_35 K, gL_36 K, gL_37 K, gL_38 K, gL_39 K, gL_40 K, gL_41 K, gL_42 K, gL_43 K, gL_44 K, gL_45 K, gL_46 K, gL_47 K, gL_48 K, gL_49 K, gL_50 K, gL_51 K, gL_52 K, gL_53 K, gL_54 K, gL_55 K, gL_56 K, gL_57 K, gL_58 K, gL_59 K, gL_60 K, gL_61 K, gL_62 K, gL_63 K]
def gPL2 (K : gK) : List (List (Nat × gS)) := [gL_64 K, gL_65 K, gL_66 K, gL_67 K, gL_68 K, gL_69 K, gL_70 K, gL_71 K, gL_72 K, gL_73 K, gL_74 K, gL_75 K, gL_76 K, gL_77 K, gL_78 K, gL_79 K, gL_80 K, gL_81 K, gL_82 K, gL_83 K, gL_84 K, gL_85 K, gL_86 K, gL_87 K, gL_88 K, gL_89 K, gL_90 K, gL_91 K, gL_92 K, gL_93 K, gL_94 K, gL_95 K]
def gPL3 (K : gK) : List (List (Nat × gS)) := [gL_96 K, gL_97 K, gL_98 K, gL_99 K, gL_100 K, gL_101 K, gL_102 K, gL_103 K, gL_104 K, gL_105 K, gL_106 K, gL_107 K, gL_108 K, gL_109 K, gL_110 K, gL_111 K, gL_112 K, gL_113 K, gL_114 K, gL_115 K, gL_116 K, gL_117 K, gL_118 K, gL_119 K, gL_120 K, gL_121 K, gL_122 K, gL_123 K, gL_124 K, gL_125 K, gL_126 K, gL_127 K]
def gPL4 (K : gK) : List (List (Nat × gS)) := [gL_128 K, gL_129 K, gL_130 K, gL_131 K, gL_132 K, gL_133 K, gL_134 K, gL_135 K, gL_136 K, gL_137 K, gL_138 K, gL_139 K, gL_140 K, gL_141 K, gL_142 K, gL_143 K, gL_144 K, gL_145 K, gL_146 K, gL_147 K, gL_148 K, gL_149 K, gL_150 K, gL_151 K, gL_152 K, gL_153 K, gL_154 K, gL_155 K, gL_156 K, gL_157 K, gL_158 K, gL_159 K]
def gPL5 (K : gK) : List (List (Nat × gS)) := [gL_160 K, gL_161 K, gL_162 K, gL_163 K, gL_164 K, gL_165 K, gL_166 K, gL_167 K, gL_168 K, gL_169 K, gL_170 K, gL_171 K, gL_172 K, gL_173 K, gL_174 K, gL_175 K, gL_176 K, gL_177 K, gL_178 K, gL_179 K, gL_180 K, gL_181 K, gL_182 K, gL_183 K, gL_184 K, gL_185 K, gL_186 K, gL_187 K, gL_188 K, gL_189 K, gL_190 K, gL_191 K]
def gPL6 (K : gK) : List (List (Nat × gS)) := [gL_192 K, gL_193 K, gL_194 K, gL_195 K, gL_196 K, gL_197 K, gL_198 K, gL_199 K, gL_200 K, gL_201 K, gL_202 K, gL_203 K, gL_204 K, gL_205 K, gL_206 K, gL_207 K, gL_208 K, gL_209 K, gL_210 K, gL_211 K, gL_212 K, gL_213 K, gL_214 K, gL_215 K, gL_216 K, gL_217 K, gL_218 K, gL_219 K, gL_220 K, gL_221 K, gL_222 K, gL_223 K]
def gPL7 (K : gK) : List (List (Nat × gS)) := [gL_224 K, gL_225 K, gL_226 K, gL_227 K, gL_228 K, gL_229 K, gL_230 K, gL_231 K, gL_232 K, gL_233 K, gL_234 K, gL_235 K, gL_236 K, gL_237 K, gL_238 K, gL_239 K, gL_240 K, gL_241 K, gL_242 K, gL_243 K, gL_244 K, gL_245 K, gL_246 K, gL_247 K, gL_248 K, gL_249 K, gL_250 K, gL_251 K, gL_252 K, gL_253 K, gL_254 K, gL_255 K]
def gPL (K : gK) : List (List (Nat × gS)) := gPL0 K ++ (gPL1 K ++ (gPL2 K ++ (gPL3 K ++ (gPL4 K ++ (gPL5 K ++ (gPL6 K ++ (gPL7 K)))))))
def gP (K : gK) (mi pc : Nat) : gS := (((gPL K).getD mi []).lookup pc).getD o_none
def gAllL (Z : gZ) (K : gK) : Nat → List (List (Nat × gS)) → Prop
  | _, [] => True
  | i, q :: l => gAll Z K i q ∧ gAllL Z K (i + 1) l
theorem gAllL_app {Z : gZ} {K : gK} : ∀ {l1 l2 : List (List (Nat × gS))} {i : Nat}, gAllL Z K i l1 → gAllL Z K (i + l1.length) l2 → gAllL Z K i (l1 ++ l2)
  | [], _, _, _, h => h
  | _ :: l, _, i, h1, h2 => ⟨h1.1, gAllL_app h1.2 (by rw [show i + 1 + l.length = i + (l.length + 1) by omega]; exact h2)⟩
theorem gAllL_at {Z : gZ} {K : gK} : ∀ {l : List (List (Nat × gS))} {i : Nat}, gAllL Z K i l → ∀ j, gAll Z K (i + j) (l.getD j [])
  | [], _, _, _ => trivial
  | _ :: _, _, h, 0 => h.1
  | _ :: l, i, h, j + 1 => by
    have := gAllL_at h.2 j
    rw [show i + 1 + j = i + (j + 1) by omega] at this
    exact this
theorem sPL0 {Z : gZ} {K : gK} : gAllL Z K 0 (gPL0 K) := ⟨s_0, s_1, s_2, s_3, s_4, s_5, s_6, s_7, s_8, s_9, s_10, s_11, s_12, s_13, s_14, s_15, s_16, s_17, s_18, s_19, s_20, s_21, s_22, s_23, s_24, s_25, s_26, s_27, s_28, s_29, s_30, s_31, trivial⟩
theorem sPL1 {Z : gZ} {K : gK} : gAllL Z K 32 (gPL1 K) := ⟨s_32, s_33, s_34, s_35, s_36, s_37, s_38, s_39, s_40, s_41, s_42, s_43, s_44, s_45, s_46, s_47, s_48, s_49, s_50, s_51, s_52, s_53, s_54, s_55, s_56, s_57, s_58, s_59, s_60, s_61, s_62, s_63, trivial⟩
theorem sPL2 {Z : gZ} {K : gK} : gAllL Z K 64 (gPL2 K) := ⟨s_64, s_65, s_66, s_67, s_68, s_69, s_70, s_71, s_72, s_73, s_74, s_75, s_76, s_77, s_78, s_79, s_80, s_81, s_82, s_83, s_84, s_85, s_86, s_87, s_88, s_89, s_90, s_91, s_92, s_93, s_94, s_95, trivial⟩
theorem sPL3 {Z : gZ} {K : gK} : gAllL Z K 96 (gPL3 K) := ⟨s_96, s_97, s_98, s_99, s_100, s_101, s_102, s_103, s_104, s_105, s_106, s_107, s_108, s_109, s_110, s_111, s_112, s_113, s_114, s_115, s_116, s_117, s_118, s_119, s_120, s_121, s_122, s_123, s_124, s_125, s_126, s_127, trivial⟩
theorem sPL4 {Z : gZ} {K : gK} : gAllL Z K 128 (gPL4 K) := ⟨s_128, s_129, s_130, s_131, s_132, s_133, s_134, s_135, s_136, s_137, s_138, s_139, s_140, s_141, s_142, s_143, s_144, s_145, s_146, s_147, s_148, s_149, s_150, s_151, s_152, s_153, s_154, s_155, s_156, s_157, s_158, s_159, trivial⟩
theorem sPL5 {Z : gZ} {K : gK} : gAllL Z K 160 (gPL5 K) := ⟨s_160, s_161, s_162, s_163, s_164, s_165, s_166, s_167, s_168, s_169, s_170, s_171, s_172, s_173, s_174, s_175, s_176, s_177, s_178, s_179, s_180, s_181, s_182, s_183, s_184, s_185, s_186, s_187, s_188, s_189, s_190, s_191, trivial⟩
theorem sPL6 {Z : gZ} {K : gK} : gAllL Z K 192 (gPL6 K) := ⟨s_192, s_193, s_194, s_195, s_196, s_197, s_198, s_199, s_200, s_201, s_202, s_203, s_204, s_205, s_206, s_207, s_208, s_209, s_210, s_211, s_212, s_213, s_214, s_215, s_216, s_217, s_218, s_219, s_220, s_221, s_222, s_223, trivial⟩
theorem sPL7 {Z : gZ} {K : gK} : gAllL Z K 224 (gPL7 K) := ⟨s_224, s_225, s_226, s_227, s_228, s_229, s_230, s_231, s_232, s_233, s_234, s_235, s_236, s_237, s_238, s_239, s_240, s_241, s_242, s_243, s_244, s_245, s_246, s_247, s_248, s_249, s_250, s_251, s_252, s_253, s_254, s_255, trivial⟩
theorem gSall (Z : gZ) (K : gK) : ∀ mi pc, SO Z K gT gHd mi pc (gP K mi pc) := by
  intro mi pc
  have h : gAllL Z K 0 (gPL K) := gAllL_app sPL0 (gAllL_app sPL1 (gAllL_app sPL2 (gAllL_app sPL3 (gAllL_app sPL4 (gAllL_app sPL5 (gAllL_app sPL6 (sPL7)))))))
  have h1 := gAllL_at h mi
  rw [Nat.zero_add] at h1
  unfold gP
  cases e : ((gPL K).getD mi []).lookup pc with
  | none => exact so_none
  | some f => exact gAll_look h1 e
