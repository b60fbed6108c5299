/-! PURE 86: what a ply gives; whether there is room -/
set_option maxRecDepth 100000
section
variable {K : gK} {d N : Nat} {G G' : gH} {B B' B0 : gB} {M M' : gM} {ro : Nat → Nat} {sh st pc : List Nat} {cs : Nat → List Nat} {ps : Nat → List (Nat × Int)} {a i : Nat}
theorem l_188 (hd : 3 ≤ d) (hw : MW B0) (hR : CR K N G B ro (tw B0) sh st pc cs ps) {s b : Nat} (hs : sh[s]? = some b) {m : Int} (hm : 0 ≤ m ∧ m ≤ 1) : ∀ (n : Nat) (y : Int) (o5 : Option Value), 0 ≤ y → y + n = pc.length →
    gRn K d 188 5 [some (.ref N), some (.ref b), some (.int (I m)), some (.int (I (gvP (tw B0) s m y.toNat))), some (.int (I y)), o5] [] (hH K N G B) = some (.inl (some (.int (I (gv (tw B0) s m)))), hH K N G B) := by
  intro n
  have q1 := mw_many hw
  have e3 : (B0.1 198 17) = (pc.length : Int) := hR.nn.2.2
  have s3 := hR.s3 (d := d) (by omega)
  have c3 := cl_of hR.l3.o3
  have hF : B.1 0 10 = (B0.1 198 3) := hR.2.1.2.2.1
  have bf := mw_folded hw
  induction n with
  | zero =>
    intro y o5 hy hn
    have : gv (tw B0) s m = gvP (tw B0) s m y.toNat := by
      show gvP (tw B0) s m ((B0.1 198 17)).toNat = _
      rw [show ((B0.1 198 17)).toNat = y.toNat by omega]
    rw [this]
    refine e_188_5 _ ?_
    unfold t_188_5
    simp (disch := omega) only [rI_d, rJ_d, rR_d, rN_d, wF_d, xI_d, xJ_d, xD_d, xQ_d, yI_d, yJ_d, yD_d, yQ_d, dI_s, dJ_s, dR_s, dN_s, dN_n, dH_s, dX_s, dL_s, dD_s, dQ_s, bC_r, bC_t, kI_s, kJ_s, kF_s, kD_s, kR_s, kV_s, I_lit, I_neg, I_add, I_sub, I_mul, I_ltT, I_ltF, I_leT, I_leF, I_eqT, I_eqF, c_int, c_long, c_obj, c_arr, c_bool, c_boolN, c_boolF, vn_bool, c_charN, vn_char, b2_f, b2_t, Int.toNat_natCast, ↓reduceIte, eq_self, and_self, and_true, true_and, not_false_eq_true, not_true_eq_false, L_0_0, L_0_1, L_0_2, L_0_3, L_0_4, L_0_5, L_0_6, L_0_7, L_0_8, L_0_9, L_0_10, L_0_11, L_0_12, L_0_13, L_0_14, L_0_15, C_0, L_1_0, L_1_1, L_1_2, C_1, L_2_0, L_2_1, L_2_2, C_2, L_3_0, L_3_1, L_3_2, C_3, L_65_0, L_65_1, L_65_2, L_65_3, L_65_4, C_65, L_66_0, L_66_1, L_66_2, L_66_3, C_66, L_129_0, L_129_1, L_129_2, L_129_3, C_129, L_198_0, L_198_1, L_198_2, L_198_3, L_198_4, L_198_5, L_198_6, L_198_7, L_198_8, L_198_9, L_198_10, L_198_11, L_198_12, L_198_13, L_198_14, L_198_15, L_198_16, L_198_17, L_198_18, L_198_19, L_198_20, L_198_21, L_198_22, L_198_23, L_198_24, L_198_25, L_198_26, L_198_27, L_198_28, L_198_29, L_198_30, L_198_31, L_198_32, L_198_33, L_198_34, L_198_35, L_198_36, L_198_37, L_198_38, L_198_39, L_198_40, L_198_41, L_198_42, L_198_43, L_198_44, L_198_45, L_198_46, L_198_47, L_198_48, C_198, A_199, A_200, A_201, A_202, A_203, A_204, A_205, A_206, A_207, A_208, A_209, A_210, A_211, A_212, A_213, A_214, A_215, A_216, A_217, A_218, A_219, A_220, A_221, A_222, A_223, A_224, A_225, A_226, A_227, A_228, A_128, A_191, A_rf, A_rs, A_rt, Q_4, Q_67, Q_130, t_188_5_1, t_188_5_2, t_188_5_3, t_188_5_4, t_188_5_5, t_188_5_6, t_188_5_7, t_188_5_8, c3, s3]
  | succ n ih =>
    intro y o5 hy hn
    obtain ⟨a, ha⟩ := at_lt (show y.toNat < pc.length by omega)
    have g3 := hR.g3 (d := d) (by omega) (by omega) hy ha
    obtain ⟨b', k1, k2⟩ := hR.pp ha
    obtain ⟨v1, v2, v3, v4, v5, v6, v7⟩ := pc_rd k2
    have ih := ih (y + 1) (some (.ref a)) (by omega) (by omega)
    rw [show (y + 1).toNat = y.toNat + 1 by omega, gvP] at ih
    have bb := gvP_b (M := tw B0) (s := s) (m := m) y.toNat
    have bs := mw_shapeOf hw y.toNat
    obtain ⟨⟨p, mk, vr, h1, -⟩, -⟩ := hR.sp hs
    obtain ⟨-, -, u3, -⟩ := sh_rd h1
    have u3' : g_gf (hH K N G B) b 4 1 = some (.int (I (B0.2.1 201 s))) := u3
    have bp := mw_paired hw s
    have bmi := mw_mirrored hw y.toNat
    have v5' : g_gf (hH K N G B) a 7 3 = some (.int (I (B0.2.1 214 y.toNat))) := v5
    generalize hz : gvP (tw B0) s m y.toNat = z at *
    refine e_188_5 _ ?_
    unfold t_188_5
    by_cases e : B0.2.1 210 y.toNat = s
    · have hbb : b' = b := by
        have k1' : sh[(B0.2.1 210 y.toNat).toNat]? = some b' := k1
        rw [e, Int.toNat_natCast] at k1'
        exact Option.some.inj (k1'.symm.trans hs)
      subst hbb
      by_cases f : (B0.1 198 3) = 0
      · by_cases g : B0.2.1 214 y.toNat = m
        · have hg : gv1 (tw B0) s m y.toNat = 1 := by
            unfold gv1
            rw [if_pos e, if_pos f, if_pos g]
          rw [hg] at ih
          simp (disch := omega) only [rI_d, rJ_d, rR_d, rN_d, wF_d, xI_d, xJ_d, xD_d, xQ_d, yI_d, yJ_d, yD_d, yQ_d, dI_s, dJ_s, dR_s, dN_s, dN_n, dH_s, dX_s, dL_s, dD_s, dQ_s, bC_r, bC_t, kI_s, kJ_s, kF_s, kD_s, kR_s, kV_s, I_lit, I_neg, I_add, I_sub, I_mul, I_ltT, I_ltF, I_leT, I_leF, I_eqT, I_eqF, c_int, c_long, c_obj, c_arr, c_bool, c_boolN, c_boolF, vn_bool, c_charN, vn_char, b2_f, b2_t, Int.toNat_natCast, ↓reduceIte, eq_self, and_self, and_true, true_and, not_false_eq_true, not_true_eq_false, L_0_0, L_0_1, L_0_2, L_0_3, L_0_4, L_0_5, L_0_6, L_0_7, L_0_8, L_0_9, L_0_10, L_0_11, L_0_12, L_0_13, L_0_14, L_0_15, C_0, L_1_0, L_1_1, L_1_2, C_1, L_2_0, L_2_1, L_2_2, C_2, L_3_0, L_3_1, L_3_2, C_3, L_65_0, L_65_1, L_65_2, L_65_3, L_65_4, C_65, L_66_0, L_66_1, L_66_2, L_66_3, C_66, L_129_0, L_129_1, L_129_2, L_129_3, C_129, L_198_0, L_198_1, L_198_2, L_198_3, L_198_4, L_198_5, L_198_6, L_198_7, L_198_8, L_198_9, L_198_10, L_198_11, L_198_12, L_198_13, L_198_14, L_198_15, L_198_16, L_198_17, L_198_18, L_198_19, L_198_20, L_198_21, L_198_22, L_198_23, L_198_24, L_198_25, L_198_26, L_198_27, L_198_28, L_198_29, L_198_30, L_198_31, L_198_32, L_198_33, L_198_34, L_198_35, L_198_36, L_198_37, L_198_38, L_198_39, L_198_40, L_198_41, L_198_42, L_198_43, L_198_44, L_198_45, L_198_46, L_198_47, L_198_48, C_198, A_199, A_200, A_201, A_202, A_203, A_204, A_205, A_206, A_207, A_208, A_209, A_210, A_211, A_212, A_213, A_214, A_215, A_216, A_217, A_218, A_219, A_220, A_221, A_222, A_223, A_224, A_225, A_226, A_227, A_228, A_128, A_191, A_rf, A_rs, A_rt, Q_4, Q_67, Q_130, t_188_5_1, t_188_5_2, t_188_5_3, t_188_5_4, t_188_5_5, t_188_5_6, t_188_5_7, t_188_5_8, c3, s3, g3, v1, v3, hF, v5', ih]
        · have hg : gv1 (tw B0) s m y.toNat = 0 := by
            unfold gv1
            rw [if_pos e, if_pos f, if_neg g]
          rw [hg] at ih
          simp (disch := omega) only [rI_d, rJ_d, rR_d, rN_d, wF_d, xI_d, xJ_d, xD_d, xQ_d, yI_d, yJ_d, yD_d, yQ_d, dI_s, dJ_s, dR_s, dN_s, dN_n, dH_s, dX_s, dL_s, dD_s, dQ_s, bC_r, bC_t, kI_s, kJ_s, kF_s, kD_s, kR_s, kV_s, I_lit, I_neg, I_add, I_sub, I_mul, I_ltT, I_ltF, I_leT, I_leF, I_eqT, I_eqF, c_int, c_long, c_obj, c_arr, c_bool, c_boolN, c_boolF, vn_bool, c_charN, vn_char, b2_f, b2_t, Int.toNat_natCast, ↓reduceIte, eq_self, and_self, and_true, true_and, not_false_eq_true, not_true_eq_false, L_0_0, L_0_1, L_0_2, L_0_3, L_0_4, L_0_5, L_0_6, L_0_7, L_0_8, L_0_9, L_0_10, L_0_11, L_0_12, L_0_13, L_0_14, L_0_15, C_0, L_1_0, L_1_1, L_1_2, C_1, L_2_0, L_2_1, L_2_2, C_2, L_3_0, L_3_1, L_3_2, C_3, L_65_0, L_65_1, L_65_2, L_65_3, L_65_4, C_65, L_66_0, L_66_1, L_66_2, L_66_3, C_66, L_129_0, L_129_1, L_129_2, L_129_3, C_129, L_198_0, L_198_1, L_198_2, L_198_3, L_198_4, L_198_5, L_198_6, L_198_7, L_198_8, L_198_9, L_198_10, L_198_11, L_198_12, L_198_13, L_198_14, L_198_15, L_198_16, L_198_17, L_198_18, L_198_19, L_198_20, L_198_21, L_198_22, L_198_23, L_198_24, L_198_25, L_198_26, L_198_27, L_198_28, L_198_29, L_198_30, L_198_31, L_198_32, L_198_33, L_198_34, L_198_35, L_198_36, L_198_37, L_198_38, L_198_39, L_198_40, L_198_41, L_198_42, L_198_43, L_198_44, L_198_45, L_198_46, L_198_47, L_198_48, C_198, A_199, A_200, A_201, A_202, A_203, A_204, A_205, A_206, A_207, A_208, A_209, A_210, A_211, A_212, A_213, A_214, A_215, A_216, A_217, A_218, A_219, A_220, A_221, A_222, A_223, A_224, A_225, A_226, A_227, A_228, A_128, A_191, A_rf, A_rs, A_rt, Q_4, Q_67, Q_130, t_188_5_1, t_188_5_2, t_188_5_3, t_188_5_4, t_188_5_5, t_188_5_6, t_188_5_7, t_188_5_8, c3, s3, g3, v1, v3, hF, v5', ih]
      · by_cases g : B0.2.1 201 s = 0
        · have g' : (tw B0).2 201 (s : Int).toNat = 0 := by rw [Int.toNat_natCast]; exact g
          by_cases h : m = 0
          · have hg : gv1 (tw B0) s m y.toNat = 2 := by
              unfold gv1
              rw [if_pos e, if_neg f, if_pos g', if_pos h]
            rw [hg] at ih
            simp (disch := omega) only [rI_d, rJ_d, rR_d, rN_d, wF_d, xI_d, xJ_d, xD_d, xQ_d, yI_d, yJ_d, yD_d, yQ_d, dI_s, dJ_s, dR_s, dN_s, dN_n, dH_s, dX_s, dL_s, dD_s, dQ_s, bC_r, bC_t, kI_s, kJ_s, kF_s, kD_s, kR_s, kV_s, I_lit, I_neg, I_add, I_sub, I_mul, I_ltT, I_ltF, I_leT, I_leF, I_eqT, I_eqF, c_int, c_long, c_obj, c_arr, c_bool, c_boolN, c_boolF, vn_bool, c_charN, vn_char, b2_f, b2_t, Int.toNat_natCast, ↓reduceIte, eq_self, and_self, and_true, true_and, not_false_eq_true, not_true_eq_false, L_0_0, L_0_1, L_0_2, L_0_3, L_0_4, L_0_5, L_0_6, L_0_7, L_0_8, L_0_9, L_0_10, L_0_11, L_0_12, L_0_13, L_0_14, L_0_15, C_0, L_1_0, L_1_1, L_1_2, C_1, L_2_0, L_2_1, L_2_2, C_2, L_3_0, L_3_1, L_3_2, C_3, L_65_0, L_65_1, L_65_2, L_65_3, L_65_4, C_65, L_66_0, L_66_1, L_66_2, L_66_3, C_66, L_129_0, L_129_1, L_129_2, L_129_3, C_129, L_198_0, L_198_1, L_198_2, L_198_3, L_198_4, L_198_5, L_198_6, L_198_7, L_198_8, L_198_9, L_198_10, L_198_11, L_198_12, L_198_13, L_198_14, L_198_15, L_198_16, L_198_17, L_198_18, L_198_19, L_198_20, L_198_21, L_198_22, L_198_23, L_198_24, L_198_25, L_198_26, L_198_27, L_198_28, L_198_29, L_198_30, L_198_31, L_198_32, L_198_33, L_198_34, L_198_35, L_198_36, L_198_37, L_198_38, L_198_39, L_198_40, L_198_41, L_198_42, L_198_43, L_198_44, L_198_45, L_198_46, L_198_47, L_198_48, C_198, A_199, A_200, A_201, A_202, A_203, A_204, A_205, A_206, A_207, A_208, A_209, A_210, A_211, A_212, A_213, A_214, A_215, A_216, A_217, A_218, A_219, A_220, A_221, A_222, A_223, A_224, A_225, A_226, A_227, A_228, A_128, A_191, A_rf, A_rs, A_rt, Q_4, Q_67, Q_130, t_188_5_1, t_188_5_2, t_188_5_3, t_188_5_4, t_188_5_5, t_188_5_6, t_188_5_7, t_188_5_8, c3, s3, g3, v1, v3, hF, u3', ih]
          · have hg : gv1 (tw B0) s m y.toNat = 0 := by
              unfold gv1
              rw [if_pos e, if_neg f, if_pos g', if_neg h]
            rw [hg] at ih
            simp (disch := omega) only [rI_d, rJ_d, rR_d, rN_d, wF_d, xI_d, xJ_d, xD_d, xQ_d, yI_d, yJ_d, yD_d, yQ_d, dI_s, dJ_s, dR_s, dN_s, dN_n, dH_s, dX_s, dL_s, dD_s, dQ_s, bC_r, bC_t, kI_s, kJ_s, kF_s, kD_s, kR_s, kV_s, I_lit, I_neg, I_add, I_sub, I_mul, I_ltT, I_ltF, I_leT, I_leF, I_eqT, I_eqF, c_int, c_long, c_obj, c_arr, c_bool, c_boolN, c_boolF, vn_bool, c_charN, vn_char, b2_f, b2_t, Int.toNat_natCast, ↓reduceIte, eq_self, and_self, and_true, true_and, not_false_eq_true, not_true_eq_false, L_0_0, L_0_1, L_0_2, L_0_3, L_0_4, L_0_5, L_0_6, L_0_7, L_0_8, L_0_9, L_0_10, L_0_11, L_0_12, L_0_13, L_0_14, L_0_15, C_0, L_1_0, L_1_1, L_1_2, C_1, L_2_0, L_2_1, L_2_2, C_2, L_3_0, L_3_1, L_3_2, C_3, L_65_0, L_65_1, L_65_2, L_65_3, L_65_4, C_65, L_66_0, L_66_1, L_66_2, L_66_3, C_66, L_129_0, L_129_1, L_129_2, L_129_3, C_129, L_198_0, L_198_1, L_198_2, L_198_3, L_198_4, L_198_5, L_198_6, L_198_7, L_198_8, L_198_9, L_198_10, L_198_11, L_198_12, L_198_13, L_198_14, L_198_15, L_198_16, L_198_17, L_198_18, L_198_19, L_198_20, L_198_21, L_198_22, L_198_23, L_198_24, L_198_25, L_198_26, L_198_27, L_198_28, L_198_29, L_198_30, L_198_31, L_198_32, L_198_33, L_198_34, L_198_35, L_198_36, L_198_37, L_198_38, L_198_39, L_198_40, L_198_41, L_198_42, L_198_43, L_198_44, L_198_45, L_198_46, L_198_47, L_198_48, C_198, A_199, A_200, A_201, A_202, A_203, A_204, A_205, A_206, A_207, A_208, A_209, A_210, A_211, A_212, A_213, A_214, A_215, A_216, A_217, A_218, A_219, A_220, A_221, A_222, A_223, A_224, A_225, A_226, A_227, A_228, A_128, A_191, A_rf, A_rs, A_rt, Q_4, Q_67, Q_130, t_188_5_1, t_188_5_2, t_188_5_3, t_188_5_4, t_188_5_5, t_188_5_6, t_188_5_7, t_188_5_8, c3, s3, g3, v1, v3, hF, u3', ih]
        · have hg : gv1 (tw B0) s m y.toNat = 1 := by
            unfold gv1
            rw [if_pos e, if_neg f, if_neg (fun q => g (by rw [Int.toNat_natCast] at q; exact q))]
          rw [hg] at ih
          simp (disch := omega) only [rI_d, rJ_d, rR_d, rN_d, wF_d, xI_d, xJ_d, xD_d, xQ_d, yI_d, yJ_d, yD_d, yQ_d, dI_s, dJ_s, dR_s, dN_s, dN_n, dH_s, dX_s, dL_s, dD_s, dQ_s, bC_r, bC_t, kI_s, kJ_s, kF_s, kD_s, kR_s, kV_s, I_lit, I_neg, I_add, I_sub, I_mul, I_ltT, I_ltF, I_leT, I_leF, I_eqT, I_eqF, c_int, c_long, c_obj, c_arr, c_bool, c_boolN, c_boolF, vn_bool, c_charN, vn_char, b2_f, b2_t, Int.toNat_natCast, ↓reduceIte, eq_self, and_self, and_true, true_and, not_false_eq_true, not_true_eq_false, L_0_0, L_0_1, L_0_2, L_0_3, L_0_4, L_0_5, L_0_6, L_0_7, L_0_8, L_0_9, L_0_10, L_0_11, L_0_12, L_0_13, L_0_14, L_0_15, C_0, L_1_0, L_1_1, L_1_2, C_1, L_2_0, L_2_1, L_2_2, C_2, L_3_0, L_3_1, L_3_2, C_3, L_65_0, L_65_1, L_65_2, L_65_3, L_65_4, C_65, L_66_0, L_66_1, L_66_2, L_66_3, C_66, L_129_0, L_129_1, L_129_2, L_129_3, C_129, L_198_0, L_198_1, L_198_2, L_198_3, L_198_4, L_198_5, L_198_6, L_198_7, L_198_8, L_198_9, L_198_10, L_198_11, L_198_12, L_198_13, L_198_14, L_198_15, L_198_16, L_198_17, L_198_18, L_198_19, L_198_20, L_198_21, L_198_22, L_198_23, L_198_24, L_198_25, L_198_26, L_198_27, L_198_28, L_198_29, L_198_30, L_198_31, L_198_32, L_198_33, L_198_34, L_198_35, L_198_36, L_198_37, L_198_38, L_198_39, L_198_40, L_198_41, L_198_42, L_198_43, L_198_44, L_198_45, L_198_46, L_198_47, L_198_48, C_198, A_199, A_200, A_201, A_202, A_203, A_204, A_205, A_206, A_207, A_208, A_209, A_210, A_211, A_212, A_213, A_214, A_215, A_216, A_217, A_218, A_219, A_220, A_221, A_222, A_223, A_224, A_225, A_226, A_227, A_228, A_128, A_191, A_rf, A_rs, A_rt, Q_4, Q_67, Q_130, t_188_5_1, t_188_5_2, t_188_5_3, t_188_5_4, t_188_5_5, t_188_5_6, t_188_5_7, t_188_5_8, c3, s3, g3, v1, v3, hF, u3', ih]
    · have hne : b' ≠ b := by
        rintro rfl
        have := hR.inj k1 hs
        have k2' : (B0.2.1 210 y.toNat).toNat = s := this
        omega
      have hg : gv1 (tw B0) s m y.toNat = 0 := by
        unfold gv1
        rw [if_neg e]
      rw [hg, Int.add_zero] at ih
      simp (disch := omega) only [rI_d, rJ_d, rR_d, rN_d, wF_d, xI_d, xJ_d, xD_d, xQ_d, yI_d, yJ_d, yD_d, yQ_d, dI_s, dJ_s, dR_s, dN_s, dN_n, dH_s, dX_s, dL_s, dD_s, dQ_s, bC_r, bC_t, kI_s, kJ_s, kF_s, kD_s, kR_s, kV_s, I_lit, I_neg, I_add, I_sub, I_mul, I_ltT, I_ltF, I_leT, I_leF, I_eqT, I_eqF, c_int, c_long, c_obj, c_arr, c_bool, c_boolN, c_boolF, vn_bool, c_charN, vn_char, b2_f, b2_t, Int.toNat_natCast, ↓reduceIte, eq_self, and_self, and_true, true_and, not_false_eq_true, not_true_eq_false, L_0_0, L_0_1, L_0_2, L_0_3, L_0_4, L_0_5, L_0_6, L_0_7, L_0_8, L_0_9, L_0_10, L_0_11, L_0_12, L_0_13, L_0_14, L_0_15, C_0, L_1_0, L_1_1, L_1_2, C_1, L_2_0, L_2_1, L_2_2, C_2, L_3_0, L_3_1, L_3_2, C_3, L_65_0, L_65_1, L_65_2, L_65_3, L_65_4, C_65, L_66_0, L_66_1, L_66_2, L_66_3, C_66, L_129_0, L_129_1, L_129_2, L_129_3, C_129, L_198_0, L_198_1, L_198_2, L_198_3, L_198_4, L_198_5, L_198_6, L_198_7, L_198_8, L_198_9, L_198_10, L_198_11, L_198_12, L_198_13, L_198_14, L_198_15, L_198_16, L_198_17, L_198_18, L_198_19, L_198_20, L_198_21, L_198_22, L_198_23, L_198_24, L_198_25, L_198_26, L_198_27, L_198_28, L_198_29, L_198_30, L_198_31, L_198_32, L_198_33, L_198_34, L_198_35, L_198_36, L_198_37, L_198_38, L_198_39, L_198_40, L_198_41, L_198_42, L_198_43, L_198_44, L_198_45, L_198_46, L_198_47, L_198_48, C_198, A_199, A_200, A_201, A_202, A_203, A_204, A_205, A_206, A_207, A_208, A_209, A_210, A_211, A_212, A_213, A_214, A_215, A_216, A_217, A_218, A_219, A_220, A_221, A_222, A_223, A_224, A_225, A_226, A_227, A_228, A_128, A_191, A_rf, A_rs, A_rt, Q_4, Q_67, Q_130, t_188_5_1, t_188_5_2, t_188_5_3, t_188_5_4, t_188_5_5, t_188_5_6, t_188_5_7, t_188_5_8, c3, s3, g3, v1, v3, if_neg hne, ih]
theorem w_188 (hd : 4 ≤ d) (hw : MW B0) (hR : CR K N G B ro (tw B0) sh st pc cs ps) {s b : Nat} (hs : sh[s]? = some b) {m : Int} (hm : 0 ≤ m ∧ m ≤ 1) : gCa K d 188 [.ref N, .ref b, .int (I m)] (hH K N G B) = some (.inl (some (.int (I (gv (tw B0) s m)))), hH K N G B) := by
  obtain ⟨d, rfl, hd'⟩ := d_succ (show 3 + 1 ≤ d by omega)
  have := l_188 (d := d) (by omega) hw hR hs hm pc.length 0 none (by omega) (by omega)
  refine c_188 _ ?_
  unfold t_188_0
  simp only [I_lit, I_neg, I_add, I_sub, I_mul, I_ltT, I_ltF, I_leT, I_leF, I_eqT, I_eqF, c_int, c_long, c_obj, c_arr, c_bool, c_boolN, c_boolF, vn_bool, c_charN, vn_char, b2_f, b2_t]
  exact this
def muchS (M : gM) (p : Int) (s : Nat) : Prop := 9999 < M.2 208 (2 * s) + p * gv M s 0 ∨ 9999 < M.2 208 (2 * s + 1) + p * gv M s 1
theorem l_187 (hd : 4 ≤ d) (hw : MW B0) (hR : CR K N G B ro (tw B0) sh st pc cs ps) {p : Int} (hp : 0 ≤ p ∧ p ≤ 1000) : ∀ (n : Nat) (y : Int) (o3 : Option Value), 0 ≤ y → y + n = sh.length →
    gRn K d 187 2 [some (.ref N), some (.int (I p)), some (.int (I y)), o3] [] (hH K N G B) = some (.inl (some (.int (I (b2 (∀ s : Nat, y ≤ s → (s : Int) < sh.length → ¬ muchS (tw B0) p s))))), hH K N G B) := by
  intro n
  have h8 := h8_of hw hR
  have s1 := hR.s1 (d := d) (by omega)
  have c1 := cl_of hR.l1.o1
  induction n with
  | zero =>
    intro y o3 hy hn
    rw [b2T (fun s h1 h2 => by omega)]
    refine e_187_2 _ ?_
    unfold t_187_2
    simp (disch := omega) only [rI_d, rJ_d, rR_d, rN_d, wF_d, xI_d, xJ_d, xD_d, xQ_d, yI_d, yJ_d, yD_d, yQ_d, dI_s, dJ_s, dR_s, dN_s, dN_n, dH_s, dX_s, dL_s, dD_s, dQ_s, bC_r, bC_t, kI_s, kJ_s, kF_s, kD_s, kR_s, kV_s, I_lit, I_neg, I_add, I_sub, I_mul, I_ltT, I_ltF, I_leT, I_leF, I_eqT, I_eqF, c_int, c_long, c_obj, c_arr, c_bool, c_boolN, c_boolF, vn_bool, c_charN, vn_char, b2_f, b2_t, Int.toNat_natCast, ↓reduceIte, eq_self, and_self, and_true, true_and, not_false_eq_true, not_true_eq_false, L_0_0, L_0_1, L_0_2, L_0_3, L_0_4, L_0_5, L_0_6, L_0_7, L_0_8, L_0_9, L_0_10, L_0_11, L_0_12, L_0_13, L_0_14, L_0_15, C_0, L_1_0, L_1_1, L_1_2, C_1, L_2_0, L_2_1, L_2_2, C_2, L_3_0, L_3_1, L_3_2, C_3, L_65_0, L_65_1, L_65_2, L_65_3, L_65_4, C_65, L_66_0, L_66_1, L_66_2, L_66_3, C_66, L_129_0, L_129_1, L_129_2, L_129_3, C_129, L_198_0, L_198_1, L_198_2, L_198_3, L_198_4, L_198_5, L_198_6, L_198_7, L_198_8, L_198_9, L_198_10, L_198_11, L_198_12, L_198_13, L_198_14, L_198_15, L_198_16, L_198_17, L_198_18, L_198_19, L_198_20, L_198_21, L_198_22, L_198_23, L_198_24, L_198_25, L_198_26, L_198_27, L_198_28, L_198_29, L_198_30, L_198_31, L_198_32, L_198_33, L_198_34, L_198_35, L_198_36, L_198_37, L_198_38, L_198_39, L_198_40, L_198_41, L_198_42, L_198_43, L_198_44, L_198_45, L_198_46, L_198_47, L_198_48, C_198, A_199, A_200, A_201, A_202, A_203, A_204, A_205, A_206, A_207, A_208, A_209, A_210, A_211, A_212, A_213, A_214, A_215, A_216, A_217, A_218, A_219, A_220, A_221, A_222, A_223, A_224, A_225, A_226, A_227, A_228, A_128, A_191, A_rf, A_rs, A_rt, Q_4, Q_67, Q_130, t_187_2_1, t_187_2_2, t_187_2_3, t_187_2_4, t_187_2_5, t_187_2_6, t_187_2_7, t_187_2_8, c1, s1]
  | succ n ih =>
    intro y o3 hy hn
    obtain ⟨b, hb⟩ := at_lt (show y.toNat < sh.length by omega)
    have g1 := hR.g1 (d := d) (by omega) (by omega) hy hb
    obtain ⟨⟨p', mk, vr, h1, -⟩, -⟩ := hR.sp hb
    obtain ⟨u1, -, -, -, -, -, u7, u8, -⟩ := sh_rd h1
    have u7' : g_gf (hH K N G B) b 4 5 = some (.int (I (B0.2.1 208 (2 * y.toNat)))) := u7
    have u8' : g_gf (hH K N G B) b 4 6 = some (.int (I (B0.2.1 208 (2 * y.toNat + 1)))) := u8
    have w0 := w_188 (d := d) (by omega) hw hR hb (m := 0) (by omega)
    have w1 := w_188 (d := d) (by omega) hw hR hb (m := 1) (by omega)
    have ih := ih (y + 1) (some (.ref b)) (by omega) (by omega)
    have p0 := pgv_b hw (s := (y.toNat : Int)) (m := 0) hp
    have p1 := pgv_b hw (s := (y.toNat : Int)) (m := 1) hp
    have t0 := mw_stock hw (2 * y.toNat)
    have t1 := mw_stock hw (2 * y.toNat + 1)
    refine e_187_2 _ ?_
    unfold t_187_2
    by_cases e0 : 9999 < B0.2.1 208 (2 * y.toNat) + p * gv (tw B0) (y.toNat : Int) 0
    · rw [b2F (fun h => h y.toNat (by omega) (by omega) (Or.inl e0))]
      simp (disch := omega) only [rI_d, rJ_d, rR_d, rN_d, wF_d, xI_d, xJ_d, xD_d, xQ_d, yI_d, yJ_d, yD_d, yQ_d, dI_s, dJ_s, dR_s, dN_s, dN_n, dH_s, dX_s, dL_s, dD_s, dQ_s, bC_r, bC_t, kI_s, kJ_s, kF_s, kD_s, kR_s, kV_s, I_lit, I_neg, I_add, I_sub, I_mul, I_ltT, I_ltF, I_leT, I_leF, I_eqT, I_eqF, c_int, c_long, c_obj, c_arr, c_bool, c_boolN, c_boolF, vn_bool, c_charN, vn_char, b2_f, b2_t, Int.toNat_natCast, ↓reduceIte, eq_self, and_self, and_true, true_and, not_false_eq_true, not_true_eq_false, L_0_0, L_0_1, L_0_2, L_0_3, L_0_4, L_0_5, L_0_6, L_0_7, L_0_8, L_0_9, L_0_10, L_0_11, L_0_12, L_0_13, L_0_14, L_0_15, C_0, L_1_0, L_1_1, L_1_2, C_1, L_2_0, L_2_1, L_2_2, C_2, L_3_0, L_3_1, L_3_2, C_3, L_65_0, L_65_1, L_65_2, L_65_3, L_65_4, C_65, L_66_0, L_66_1, L_66_2, L_66_3, C_66, L_129_0, L_129_1, L_129_2, L_129_3, C_129, L_198_0, L_198_1, L_198_2, L_198_3, L_198_4, L_198_5, L_198_6, L_198_7, L_198_8, L_198_9, L_198_10, L_198_11, L_198_12, L_198_13, L_198_14, L_198_15, L_198_16, L_198_17, L_198_18, L_198_19, L_198_20, L_198_21, L_198_22, L_198_23, L_198_24, L_198_25, L_198_26, L_198_27, L_198_28, L_198_29, L_198_30, L_198_31, L_198_32, L_198_33, L_198_34, L_198_35, L_198_36, L_198_37, L_198_38, L_198_39, L_198_40, L_198_41, L_198_42, L_198_43, L_198_44, L_198_45, L_198_46, L_198_47, L_198_48, C_198, A_199, A_200, A_201, A_202, A_203, A_204, A_205, A_206, A_207, A_208, A_209, A_210, A_211, A_212, A_213, A_214, A_215, A_216, A_217, A_218, A_219, A_220, A_221, A_222, A_223, A_224, A_225, A_226, A_227, A_228, A_128, A_191, A_rf, A_rs, A_rt, Q_4, Q_67, Q_130, t_187_2_1, t_187_2_2, t_187_2_3, t_187_2_4, t_187_2_5, t_187_2_6, t_187_2_7, t_187_2_8, c1, s1, g1, u1, u7', w0]
    · by_cases e1 : 9999 < B0.2.1 208 (2 * y.toNat + 1) + p * gv (tw B0) (y.toNat : Int) 1
      · rw [b2F (fun h => h y.toNat (by omega) (by omega) (Or.inr e1))]
        simp (disch := omega) only [rI_d, rJ_d, rR_d, rN_d, wF_d, xI_d, xJ_d, xD_d, xQ_d, yI_d, yJ_d, yD_d, yQ_d, dI_s, dJ_s, dR_s, dN_s, dN_n, dH_s, dX_s, dL_s, dD_s, dQ_s, bC_r, bC_t, kI_s, kJ_s, kF_s, kD_s, kR_s, kV_s, I_lit, I_neg, I_add, I_sub, I_mul, I_ltT, I_ltF, I_leT, I_leF, I_eqT, I_eqF, c_int, c_long, c_obj, c_arr, c_bool, c_boolN, c_boolF, vn_bool, c_charN, vn_char, b2_f, b2_t, Int.toNat_natCast, ↓reduceIte, eq_self, and_self, and_true, true_and, not_false_eq_true, not_true_eq_false, L_0_0, L_0_1, L_0_2, L_0_3, L_0_4, L_0_5, L_0_6, L_0_7, L_0_8, L_0_9, L_0_10, L_0_11, L_0_12, L_0_13, L_0_14, L_0_15, C_0, L_1_0, L_1_1, L_1_2, C_1, L_2_0, L_2_1, L_2_2, C_2, L_3_0, L_3_1, L_3_2, C_3, L_65_0, L_65_1, L_65_2, L_65_3, L_65_4, C_65, L_66_0, L_66_1, L_66_2, L_66_3, C_66, L_129_0, L_129_1, L_129_2, L_129_3, C_129, L_198_0, L_198_1, L_198_2, L_198_3, L_198_4, L_198_5, L_198_6, L_198_7, L_198_8, L_198_9, L_198_10, L_198_11, L_198_12, L_198_13, L_198_14, L_198_15, L_198_16, L_198_17, L_198_18, L_198_19, L_198_20, L_198_21, L_198_22, L_198_23, L_198_24, L_198_25, L_198_26, L_198_27, L_198_28, L_198_29, L_198_30, L_198_31, L_198_32, L_198_33, L_198_34, L_198_35, L_198_36, L_198_37, L_198_38, L_198_39, L_198_40, L_198_41, L_198_42, L_198_43, L_198_44, L_198_45, L_198_46, L_198_47, L_198_48, C_198, A_199, A_200, A_201, A_202, A_203, A_204, A_205, A_206, A_207, A_208, A_209, A_210, A_211, A_212, A_213, A_214, A_215, A_216, A_217, A_218, A_219, A_220, A_221, A_222, A_223, A_224, A_225, A_226, A_227, A_228, A_128, A_191, A_rf, A_rs, A_rt, Q_4, Q_67, Q_130, t_187_2_1, t_187_2_2, t_187_2_3, t_187_2_4, t_187_2_5, t_187_2_6, t_187_2_7, t_187_2_8, c1, s1, g1, u1, u7', u8', w0, w1]
      · rw [b2_of (q := ∀ s : Nat, y + 1 ≤ s → (s : Int) < sh.length → ¬ muchS (tw B0) p s) ⟨fun h s h1 h2 => h s (by omega) h2, fun h s h1 h2 => by
          by_cases e : (s : Int) = y
          · have : s = y.toNat := by omega
            rw [this]
            rintro (k | k)
            · exact e0 k
            · exact e1 k
          · exact h s (by omega) h2⟩]
        simp (disch := omega) only [rI_d, rJ_d, rR_d, rN_d, wF_d, xI_d, xJ_d, xD_d, xQ_d, yI_d, yJ_d, yD_d, yQ_d, dI_s, dJ_s, dR_s, dN_s, dN_n, dH_s, dX_s, dL_s, dD_s, dQ_s, bC_r, bC_t, kI_s, kJ_s, kF_s, kD_s, kR_s, kV_s, I_lit, I_neg, I_add, I_sub, I_mul, I_ltT, I_ltF, I_leT, I_leF, I_eqT, I_eqF, c_int, c_long, c_obj, c_arr, c_bool, c_boolN, c_boolF, vn_bool, c_charN, vn_char, b2_f, b2_t, Int.toNat_natCast, ↓reduceIte, eq_self, and_self, and_true, true_and, not_false_eq_true, not_true_eq_false, L_0_0, L_0_1, L_0_2, L_0_3, L_0_4, L_0_5, L_0_6, L_0_7, L_0_8, L_0_9, L_0_10, L_0_11, L_0_12, L_0_13, L_0_14, L_0_15, C_0, L_1_0, L_1_1, L_1_2, C_1, L_2_0, L_2_1, L_2_2, C_2, L_3_0, L_3_1, L_3_2, C_3, L_65_0, L_65_1, L_65_2, L_65_3, L_65_4, C_65, L_66_0, L_66_1, L_66_2, L_66_3, C_66, L_129_0, L_129_1, L_129_2, L_129_3, C_129, L_198_0, L_198_1, L_198_2, L_198_3, L_198_4, L_198_5, L_198_6, L_198_7, L_198_8, L_198_9, L_198_10, L_198_11, L_198_12, L_198_13, L_198_14, L_198_15, L_198_16, L_198_17, L_198_18, L_198_19, L_198_20, L_198_21, L_198_22, L_198_23, L_198_24, L_198_25, L_198_26, L_198_27, L_198_28, L_198_29, L_198_30, L_198_31, L_198_32, L_198_33, L_198_34, L_198_35, L_198_36, L_198_37, L_198_38, L_198_39, L_198_40, L_198_41, L_198_42, L_198_43, L_198_44, L_198_45, L_198_46, L_198_47, L_198_48, C_198, A_199, A_200, A_201, A_202, A_203, A_204, A_205, A_206, A_207, A_208, A_209, A_210, A_211, A_212, A_213, A_214, A_215, A_216, A_217, A_218, A_219, A_220, A_221, A_222, A_223, A_224, A_225, A_226, A_227, A_228, A_128, A_191, A_rf, A_rs, A_rt, Q_4, Q_67, Q_130, t_187_2_1, t_187_2_2, t_187_2_3, t_187_2_4, t_187_2_5, t_187_2_6, t_187_2_7, t_187_2_8, c1, s1, g1, u1, u7', u8', w0, w1, ih]
theorem much_S {M : gM} {p : Int} {n : Nat} (hn : (M.1 7) = (n : Int)) : (∀ s : Nat, (0 : Int) ≤ s → (s : Int) < n → ¬ muchS M p s) ↔ ¬ much M p := by
  constructor
  · rintro h ⟨k, h1, h2⟩
    refine h (k / 2) (by omega) (by omega) ?_
    rcases Nat.mod_two_eq_zero_or_one k with e | e
    · left
      rw [show ((k : Int) / 2) = ((k / 2 : Nat) : Int) by omega, show ((k : Int) % 2) = 0 by omega] at h2
      rw [show 2 * (k / 2) = k by omega]
      exact h2
    · right
      rw [show ((k : Int) / 2) = ((k / 2 : Nat) : Int) by omega, show ((k : Int) % 2) = 1 by omega] at h2
      rw [show 2 * (k / 2) + 1 = k by omega]
      exact h2
  · rintro h s - h2 (k | k)
    · refine h ⟨2 * s, by omega, ?_⟩
      rw [show (((2 * s : Nat) : Int) / 2) = (s : Int) by omega, show (((2 * s : Nat) : Int) % 2) = 0 by omega]
      exact k
    · refine h ⟨2 * s + 1, by omega, ?_⟩
      rw [show (((2 * s + 1 : Nat) : Int) / 2) = (s : Int) by omega, show (((2 * s + 1 : Nat) : Int) % 2) = 1 by omega]
      exact k
theorem w_187 (hd : 5 ≤ d) (hw : MW B0) (hR : CR K N G B ro (tw B0) sh st pc cs ps) {p : Int} (hp : 0 ≤ p ∧ p ≤ 1000) : gCa K d 187 [.ref N, .int (I p)] (hH K N G B) = some (.inl (some (.int (I (b2 (¬ much (tw B0) p))))), hH K N G B) := by
  obtain ⟨d, rfl, hd'⟩ := d_succ (show 4 + 1 ≤ d by omega)
  have := l_187 (d := d) (by omega) hw hR hp sh.length 0 none (by omega) (by omega)
  rw [b2_of (much_S (M := tw B0) (p := p) hR.nn.1)] at this
  refine c_187 _ ?_
  unfold t_187_0
  simp only [I_lit, I_neg, I_add, I_sub, I_mul, I_ltT, I_ltF, I_leT, I_leF, I_eqT, I_eqF, c_int, c_long, c_obj, c_arr, c_bool, c_boolN, c_boolF, vn_bool, c_charN, vn_char, b2_f, b2_t]
  exact this
end
