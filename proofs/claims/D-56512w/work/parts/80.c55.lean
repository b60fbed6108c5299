/-! PURE 94: the room's figures -/
set_option maxRecDepth 100000
section
noncomputable def k_fig (M : gM) : Int := cif ((M.1 17) = 0) 1 0
theorem lngP_pos {cl : Nat → Int} {q : Nat} (h : cl q ≠ -1) : ∀ n, q < n → 1 ≤ lngP cl n
  | 0, hq => absurd hq (Nat.not_lt_zero q)
  | n + 1, hq => by
    unfold lngP
    by_cases e : cl n = -1
    · rw [if_pos e]
      exact lngP_pos h n (by
        have : q ≠ n := by rintro rfl; exact h e
        omega)
    · rw [if_neg e]
      omega
theorem GI.lng {B : gB} (hw : MW B) (hg : GI B) (h : (B.1 198 17) ≠ 0) : 1 ≤ lng (B.2.1 215) := by
  have hc := (cols_b hw).2
  have hm := mw_many hw
  have hP : ∀ i : Nat, i < ((B.1 198 17)).toNat → PI (tw B) i := fun i hi => hg.2.2.2 i (by omega)
  have h0 := hP 0 (by omega)
  obtain ⟨k, hk⟩ := List.exists_mem_of_ne_nil _ h0.2.2.2.2.2
  obtain ⟨b1, b2'⟩ := ins_b hc (fun k hk => dl_lt hk) h0.1 hk
  have hv := (reC_cov hc (fun j => (mw_number hw j).1) b1 b2' ((B.1 198 17)).toNat hP).1 0 (by omega) ⟨k, hk, rfl, rfl⟩
  have hn := (mw_number hw 0).1
  rw [← hg.1] at hv
  generalize (tw B).2 211 0 + oR (pL (tw B) 0) ((tw B).2 213 0) ((tw B).2 214 0) k = Y at b1 hv
  generalize (tw B).2 212 0 + oC (pL (tw B) 0) ((tw B).2 213 0) ((tw B).2 214 0) k = X at b2' hv
  refine lngP_pos (q := (12 * Y + X).toNat) ?_ 720 (by omega)
  rw [hv]
  show B.2.1 209 0 ≠ -1
  omega
variable {K : gK} {d N : Nat} {G G' : gH} {B B' B0 : gB} {M M' : gM} {ro : Nat → Nat} {sh st pc : List Nat} {cs : Nat → List Nat} {ps : Nat → List (Nat × Int)} {a i : Nat}
theorem w_142 (hd : 5 ≤ d) (hi : MI B) (hg : GI B) (hR : CR K N G B ro (tw B) sh st pc cs ps) : gCa K d 142 [.ref N] (hH K N G B) =
    some (cif (k_fig (tw B) = 0) (.inl (some (.float (FP.fdiv (FP.i2f (I (used (tw B)))) (FP.i2f (I (lng (B.2.1 215) * cols (tw B))))))), hH K N G B) (.inr 5, hH K N (gjunk G 6) B)) := by
  obtain ⟨d, rfl, hd'⟩ := d_succ (show 4 + 1 ≤ d by omega)
  have hw := hi.1
  have e3 : (B.1 198 17) = (pc.length : Int) := hR.nn.2.2
  have hm := mw_many hw
  refine c_142 _ ?_
  unfold t_142_0
  by_cases c : (B.1 198 17) = 0
  · have hk : k_fig (tw B) = 1 := cifT c
    have w := w_193F (d := d) (by omega) hR.l3 (by omega) (by omega)
    rw [hk]
    simp (disch := omega) only [rI_d, rJ_d, rR_d, rN_d, wF_d, xI_d, xJ_d, xD_d, xQ_d, yI_d, yJ_d, yD_d, yQ_d, dI_s, dJ_s, dR_s, dN_s, dN_n, dH_s, dX_s, dL_s, dD_s, dQ_s, bC_r, bC_t, kI_s, kJ_s, kF_s, kD_s, kR_s, kV_s, I_lit, I_neg, I_add, I_sub, I_mul, I_ltT, I_ltF, I_leT, I_leF, I_eqT, I_eqF, c_int, c_long, c_obj, c_arr, c_bool, c_boolN, c_boolF, vn_bool, c_charN, vn_char, b2_f, b2_t, Int.toNat_natCast, ↓reduceIte, eq_self, and_self, and_true, true_and, not_false_eq_true, not_true_eq_false, L_0_0, L_0_1, L_0_2, L_0_3, L_0_4, L_0_5, L_0_6, L_0_7, L_0_8, L_0_9, L_0_10, L_0_11, L_0_12, L_0_13, L_0_14, L_0_15, C_0, L_1_0, L_1_1, L_1_2, C_1, L_2_0, L_2_1, L_2_2, C_2, L_3_0, L_3_1, L_3_2, C_3, L_65_0, L_65_1, L_65_2, L_65_3, L_65_4, C_65, L_66_0, L_66_1, L_66_2, L_66_3, C_66, L_129_0, L_129_1, L_129_2, L_129_3, C_129, L_198_0, L_198_1, L_198_2, L_198_3, L_198_4, L_198_5, L_198_6, L_198_7, L_198_8, L_198_9, L_198_10, L_198_11, L_198_12, L_198_13, L_198_14, L_198_15, L_198_16, L_198_17, L_198_18, L_198_19, L_198_20, L_198_21, L_198_22, L_198_23, L_198_24, L_198_25, L_198_26, L_198_27, L_198_28, L_198_29, L_198_30, L_198_31, L_198_32, L_198_33, L_198_34, L_198_35, L_198_36, L_198_37, L_198_38, L_198_39, L_198_40, L_198_41, L_198_42, L_198_43, L_198_44, L_198_45, L_198_46, L_198_47, L_198_48, C_198, A_199, A_200, A_201, A_202, A_203, A_204, A_205, A_206, A_207, A_208, A_209, A_210, A_211, A_212, A_213, A_214, A_215, A_216, A_217, A_218, A_219, A_220, A_221, A_222, A_223, A_224, A_225, A_226, A_227, A_228, A_128, A_191, A_rf, A_rs, A_rt, Q_4, Q_67, Q_130, t_142_0_1, t_142_0_2, t_142_0_3, t_142_0_4, t_142_0_5, iltT, iltF, ileT, ileF, ieqT, ieqF, cif_T, cif_F, not_true_eq_false, not_false_eq_true, or_true, or_false, true_or, false_or, false_and, and_false, ne_eq, w]
  · have hk : k_fig (tw B) = 0 := cifF c
    have w := w_193 (d := d) (by omega) hR.l3 (by omega) (by omega)
    have w1 := w_118 (d := d) (by omega) hi hR
    have w2 := w_194 (d := d) (K := K) (N := N) (G := G) (by omega) hR.2.1 (mw_width hw) (mw_folded hw)
    have hl : B.1 66 2 = lng (B.2.1 215) := hR.2.2.1.2.2
    have l1 := hg.lng hw c
    have l2 := lng_b (B.2.1 215)
    have cb := cols_b hw
    have bx : 1 ≤ lng (B.2.1 215) * cols (tw B) ∧ lng (B.2.1 215) * cols (tw B) ≤ 720 := ⟨Int.mul_pos (by omega) (by omega), by
      have := Int.mul_le_mul l2.2 cb.2 (by omega) (by omega)
      omega⟩
    have ok := fp_ok32 (a := used (tw B)) (b := lng (B.2.1 215) * cols (tw B)) (used_b hw) (by omega)
    rw [hk]
    simp (disch := omega) only [rI_d, rJ_d, rR_d, rN_d, wF_d, xI_d, xJ_d, xD_d, xQ_d, yI_d, yJ_d, yD_d, yQ_d, dI_s, dJ_s, dR_s, dN_s, dN_n, dH_s, dX_s, dL_s, dD_s, dQ_s, bC_r, bC_t, kI_s, kJ_s, kF_s, kD_s, kR_s, kV_s, I_lit, I_neg, I_add, I_sub, I_mul, I_ltT, I_ltF, I_leT, I_leF, I_eqT, I_eqF, c_int, c_long, c_obj, c_arr, c_bool, c_boolN, c_boolF, vn_bool, c_charN, vn_char, b2_f, b2_t, Int.toNat_natCast, ↓reduceIte, eq_self, and_self, and_true, true_and, not_false_eq_true, not_true_eq_false, L_0_0, L_0_1, L_0_2, L_0_3, L_0_4, L_0_5, L_0_6, L_0_7, L_0_8, L_0_9, L_0_10, L_0_11, L_0_12, L_0_13, L_0_14, L_0_15, C_0, L_1_0, L_1_1, L_1_2, C_1, L_2_0, L_2_1, L_2_2, C_2, L_3_0, L_3_1, L_3_2, C_3, L_65_0, L_65_1, L_65_2, L_65_3, L_65_4, C_65, L_66_0, L_66_1, L_66_2, L_66_3, C_66, L_129_0, L_129_1, L_129_2, L_129_3, C_129, L_198_0, L_198_1, L_198_2, L_198_3, L_198_4, L_198_5, L_198_6, L_198_7, L_198_8, L_198_9, L_198_10, L_198_11, L_198_12, L_198_13, L_198_14, L_198_15, L_198_16, L_198_17, L_198_18, L_198_19, L_198_20, L_198_21, L_198_22, L_198_23, L_198_24, L_198_25, L_198_26, L_198_27, L_198_28, L_198_29, L_198_30, L_198_31, L_198_32, L_198_33, L_198_34, L_198_35, L_198_36, L_198_37, L_198_38, L_198_39, L_198_40, L_198_41, L_198_42, L_198_43, L_198_44, L_198_45, L_198_46, L_198_47, L_198_48, C_198, A_199, A_200, A_201, A_202, A_203, A_204, A_205, A_206, A_207, A_208, A_209, A_210, A_211, A_212, A_213, A_214, A_215, A_216, A_217, A_218, A_219, A_220, A_221, A_222, A_223, A_224, A_225, A_226, A_227, A_228, A_128, A_191, A_rf, A_rs, A_rt, Q_4, Q_67, Q_130, t_142_0_1, t_142_0_2, t_142_0_3, t_142_0_4, t_142_0_5, iltT, iltF, ileT, ileF, ieqT, ieqF, cif_T, cif_F, not_true_eq_false, not_false_eq_true, or_true, or_false, true_or, false_or, false_and, and_false, ne_eq, w, w1, w2, hl, ok]
theorem w_144 (hd : 5 ≤ d) (hi : MI B) (hR : CR K N G B ro (tw B) sh st pc cs ps) : gCa K d 144 [.ref N] (hH K N G B) =
    some (cif (k_fig (tw B) = 0) (.inl (some (.double (FP.ddiv (FP.i2d (I (used (tw B)))) (FP.i2d (I ((B.1 198 17))))))), hH K N G B) (.inr 5, hH K N (gjunk G 6) B)) := by
  obtain ⟨d, rfl, hd'⟩ := d_succ (show 4 + 1 ≤ d by omega)
  have hw := hi.1
  have e3 : (B.1 198 17) = (pc.length : Int) := hR.nn.2.2
  have hm := mw_many hw
  refine c_144 _ ?_
  unfold t_144_0
  by_cases c : (B.1 198 17) = 0
  · have hk : k_fig (tw B) = 1 := cifT c
    have w := w_193F (d := d) (by omega) hR.l3 (by omega) (by omega)
    rw [hk]
    simp (disch := omega) only [rI_d, rJ_d, rR_d, rN_d, wF_d, xI_d, xJ_d, xD_d, xQ_d, yI_d, yJ_d, yD_d, yQ_d, dI_s, dJ_s, dR_s, dN_s, dN_n, dH_s, dX_s, dL_s, dD_s, dQ_s, bC_r, bC_t, kI_s, kJ_s, kF_s, kD_s, kR_s, kV_s, I_lit, I_neg, I_add, I_sub, I_mul, I_ltT, I_ltF, I_leT, I_leF, I_eqT, I_eqF, c_int, c_long, c_obj, c_arr, c_bool, c_boolN, c_boolF, vn_bool, c_charN, vn_char, b2_f, b2_t, Int.toNat_natCast, ↓reduceIte, eq_self, and_self, and_true, true_and, not_false_eq_true, not_true_eq_false, L_0_0, L_0_1, L_0_2, L_0_3, L_0_4, L_0_5, L_0_6, L_0_7, L_0_8, L_0_9, L_0_10, L_0_11, L_0_12, L_0_13, L_0_14, L_0_15, C_0, L_1_0, L_1_1, L_1_2, C_1, L_2_0, L_2_1, L_2_2, C_2, L_3_0, L_3_1, L_3_2, C_3, L_65_0, L_65_1, L_65_2, L_65_3, L_65_4, C_65, L_66_0, L_66_1, L_66_2, L_66_3, C_66, L_129_0, L_129_1, L_129_2, L_129_3, C_129, L_198_0, L_198_1, L_198_2, L_198_3, L_198_4, L_198_5, L_198_6, L_198_7, L_198_8, L_198_9, L_198_10, L_198_11, L_198_12, L_198_13, L_198_14, L_198_15, L_198_16, L_198_17, L_198_18, L_198_19, L_198_20, L_198_21, L_198_22, L_198_23, L_198_24, L_198_25, L_198_26, L_198_27, L_198_28, L_198_29, L_198_30, L_198_31, L_198_32, L_198_33, L_198_34, L_198_35, L_198_36, L_198_37, L_198_38, L_198_39, L_198_40, L_198_41, L_198_42, L_198_43, L_198_44, L_198_45, L_198_46, L_198_47, L_198_48, C_198, A_199, A_200, A_201, A_202, A_203, A_204, A_205, A_206, A_207, A_208, A_209, A_210, A_211, A_212, A_213, A_214, A_215, A_216, A_217, A_218, A_219, A_220, A_221, A_222, A_223, A_224, A_225, A_226, A_227, A_228, A_128, A_191, A_rf, A_rs, A_rt, Q_4, Q_67, Q_130, t_144_0_1, t_144_0_2, t_144_0_3, t_144_0_4, iltT, iltF, ileT, ileF, ieqT, ieqF, cif_T, cif_F, not_true_eq_false, not_false_eq_true, or_true, or_false, true_or, false_or, false_and, and_false, ne_eq, w]
  · have hk : k_fig (tw B) = 0 := cifF c
    have w := w_193 (d := d) (by omega) hR.l3 (by omega) (by omega)
    have w1 := w_118 (d := d) (by omega) hi hR
    have s3 := hR.s3 (d := d) (by omega)
    have c3 := cl_of hR.l3.o3
    rw [← e3] at s3
    have ok := fp_ok64 (a := used (tw B)) (b := (B.1 198 17)) (used_b hw) (by omega)
    rw [hk]
    simp (disch := omega) only [rI_d, rJ_d, rR_d, rN_d, wF_d, xI_d, xJ_d, xD_d, xQ_d, yI_d, yJ_d, yD_d, yQ_d, dI_s, dJ_s, dR_s, dN_s, dN_n, dH_s, dX_s, dL_s, dD_s, dQ_s, bC_r, bC_t, kI_s, kJ_s, kF_s, kD_s, kR_s, kV_s, I_lit, I_neg, I_add, I_sub, I_mul, I_ltT, I_ltF, I_leT, I_leF, I_eqT, I_eqF, c_int, c_long, c_obj, c_arr, c_bool, c_boolN, c_boolF, vn_bool, c_charN, vn_char, b2_f, b2_t, Int.toNat_natCast, ↓reduceIte, eq_self, and_self, and_true, true_and, not_false_eq_true, not_true_eq_false, L_0_0, L_0_1, L_0_2, L_0_3, L_0_4, L_0_5, L_0_6, L_0_7, L_0_8, L_0_9, L_0_10, L_0_11, L_0_12, L_0_13, L_0_14, L_0_15, C_0, L_1_0, L_1_1, L_1_2, C_1, L_2_0, L_2_1, L_2_2, C_2, L_3_0, L_3_1, L_3_2, C_3, L_65_0, L_65_1, L_65_2, L_65_3, L_65_4, C_65, L_66_0, L_66_1, L_66_2, L_66_3, C_66, L_129_0, L_129_1, L_129_2, L_129_3, C_129, L_198_0, L_198_1, L_198_2, L_198_3, L_198_4, L_198_5, L_198_6, L_198_7, L_198_8, L_198_9, L_198_10, L_198_11, L_198_12, L_198_13, L_198_14, L_198_15, L_198_16, L_198_17, L_198_18, L_198_19, L_198_20, L_198_21, L_198_22, L_198_23, L_198_24, L_198_25, L_198_26, L_198_27, L_198_28, L_198_29, L_198_30, L_198_31, L_198_32, L_198_33, L_198_34, L_198_35, L_198_36, L_198_37, L_198_38, L_198_39, L_198_40, L_198_41, L_198_42, L_198_43, L_198_44, L_198_45, L_198_46, L_198_47, L_198_48, C_198, A_199, A_200, A_201, A_202, A_203, A_204, A_205, A_206, A_207, A_208, A_209, A_210, A_211, A_212, A_213, A_214, A_215, A_216, A_217, A_218, A_219, A_220, A_221, A_222, A_223, A_224, A_225, A_226, A_227, A_228, A_128, A_191, A_rf, A_rs, A_rt, Q_4, Q_67, Q_130, t_144_0_1, t_144_0_2, t_144_0_3, t_144_0_4, iltT, iltF, ileT, ileF, ieqT, ieqF, cif_T, cif_F, not_true_eq_false, not_false_eq_true, or_true, or_false, true_or, false_or, false_and, and_false, ne_eq, w, w1, s3, c3, ok]
theorem l_145_12 (hd : 4 ≤ d) (hw : MW B) (hg : GI B) (hR : CR K N G B ro (tw B) sh st pc cs ps) {r : Nat} (hr : r < 60) {x : gO} (hx : ∀ o4, gRn K d 145 4 [some (.ref N), some (.int (I (laidP (B.2.1 215) (12 * (r + 1))))), some (.int (I ((r : Int) + 1))), some (.int (I 12)), o4] [] (hH K N G B) = some x) : ∀ (n c : Nat) (o4 : Option Value), c + n = 12 → gRn K d 145 12 [some (.ref N), some (.int (I (laidP (B.2.1 215) (12 * r + c)))), some (.int (I (r : Int))), some (.int (I (c : Int))), o4] [] (hH K N G B) = some x := by
  intro n
  induction n with
  | zero =>
    intro c o4 hn
    obtain rfl : c = 12 := by omega
    have hx := hx o4
    rw [show 12 * (r + 1) = 12 * r + 12 by omega] at hx
    rw [show ((12 : Nat) : Int) = 12 from rfl]
    refine e_145_12 _ ?_
    unfold t_145_12
    simp (disch := omega) only [rI_d, rJ_d, rR_d, rN_d, wF_d, xI_d, xJ_d, xD_d, xQ_d, yI_d, yJ_d, yD_d, yQ_d, dI_s, dJ_s, dR_s, dN_s, dN_n, dH_s, dX_s, dL_s, dD_s, dQ_s, bC_r, bC_t, kI_s, kJ_s, kF_s, kD_s, kR_s, kV_s, I_lit, I_neg, I_add, I_sub, I_mul, I_ltT, I_ltF, I_leT, I_leF, I_eqT, I_eqF, c_int, c_long, c_obj, c_arr, c_bool, c_boolN, c_boolF, vn_bool, c_charN, vn_char, b2_f, b2_t, Int.toNat_natCast, ↓reduceIte, eq_self, and_self, and_true, true_and, not_false_eq_true, not_true_eq_false, L_0_0, L_0_1, L_0_2, L_0_3, L_0_4, L_0_5, L_0_6, L_0_7, L_0_8, L_0_9, L_0_10, L_0_11, L_0_12, L_0_13, L_0_14, L_0_15, C_0, L_1_0, L_1_1, L_1_2, C_1, L_2_0, L_2_1, L_2_2, C_2, L_3_0, L_3_1, L_3_2, C_3, L_65_0, L_65_1, L_65_2, L_65_3, L_65_4, C_65, L_66_0, L_66_1, L_66_2, L_66_3, C_66, L_129_0, L_129_1, L_129_2, L_129_3, C_129, L_198_0, L_198_1, L_198_2, L_198_3, L_198_4, L_198_5, L_198_6, L_198_7, L_198_8, L_198_9, L_198_10, L_198_11, L_198_12, L_198_13, L_198_14, L_198_15, L_198_16, L_198_17, L_198_18, L_198_19, L_198_20, L_198_21, L_198_22, L_198_23, L_198_24, L_198_25, L_198_26, L_198_27, L_198_28, L_198_29, L_198_30, L_198_31, L_198_32, L_198_33, L_198_34, L_198_35, L_198_36, L_198_37, L_198_38, L_198_39, L_198_40, L_198_41, L_198_42, L_198_43, L_198_44, L_198_45, L_198_46, L_198_47, L_198_48, C_198, A_199, A_200, A_201, A_202, A_203, A_204, A_205, A_206, A_207, A_208, A_209, A_210, A_211, A_212, A_213, A_214, A_215, A_216, A_217, A_218, A_219, A_220, A_221, A_222, A_223, A_224, A_225, A_226, A_227, A_228, A_128, A_191, A_rf, A_rs, A_rt, Q_4, Q_67, Q_130, t_145_4_1, t_145_12_1, t_145_12_2, t_145_12_3, t_145_12_4, hx]
  | succ n ih =>
    intro c o4 hn
    have w := w_152 (d := d) (K := K) (N := N) (G := G) (by omega) (s := 66) (Or.inl rfl) hR.2.2.1 (r := (r : Int)) (c := (c : Int)) (by omega) (by omega)
    rw [show (12 * (r : Int) + (c : Int)).toNat = 12 * r + c by omega] at w
    have w' : gCa K d 152 [.ref (N + 66), .int (I (r : Int)), .int (I (c : Int))] (hH K N G B) = some (.inl (some (.int (I (B.2.1 215 (12 * r + c))))), hH K N G B) := w
    have bc := mw_cloth hw (12 * r + c)
    have ih := ih (c + 1)
    rw [show ((c + 1 : Nat) : Int) = (c : Int) + 1 by omega, show 12 * r + (c + 1) = (12 * r + c) + 1 by omega] at ih
    have hlp : laidP (B.2.1 215) (12 * r + c + 1) = laidP (B.2.1 215) (12 * r + c) + (if B.2.1 215 (12 * r + c) = -1 then 0 else 1) := rfl
    rw [hlp] at ih
    have lb := laidP_b (B.2.1 215) (12 * r + c)
    have cS := show g_cls (hH K N G B) (N + 66) = some 2 from C_66
    refine e_145_12 _ ?_
    unfold t_145_12
    by_cases e : B.2.1 215 (12 * r + c) = -1
    · rw [if_pos e, Int.add_zero] at ih
      have ih := ih (some (.int (I (-1)))) (by omega)
      rw [e] at w'
      simp (disch := omega) only [rI_d, rJ_d, rR_d, rN_d, wF_d, xI_d, xJ_d, xD_d, xQ_d, yI_d, yJ_d, yD_d, yQ_d, dI_s, dJ_s, dR_s, dN_s, dN_n, dH_s, dX_s, dL_s, dD_s, dQ_s, bC_r, bC_t, kI_s, kJ_s, kF_s, kD_s, kR_s, kV_s, I_lit, I_neg, I_add, I_sub, I_mul, I_ltT, I_ltF, I_leT, I_leF, I_eqT, I_eqF, c_int, c_long, c_obj, c_arr, c_bool, c_boolN, c_boolF, vn_bool, c_charN, vn_char, b2_f, b2_t, Int.toNat_natCast, ↓reduceIte, eq_self, and_self, and_true, true_and, not_false_eq_true, not_true_eq_false, L_0_0, L_0_1, L_0_2, L_0_3, L_0_4, L_0_5, L_0_6, L_0_7, L_0_8, L_0_9, L_0_10, L_0_11, L_0_12, L_0_13, L_0_14, L_0_15, C_0, L_1_0, L_1_1, L_1_2, C_1, L_2_0, L_2_1, L_2_2, C_2, L_3_0, L_3_1, L_3_2, C_3, L_65_0, L_65_1, L_65_2, L_65_3, L_65_4, C_65, L_66_0, L_66_1, L_66_2, L_66_3, C_66, L_129_0, L_129_1, L_129_2, L_129_3, C_129, L_198_0, L_198_1, L_198_2, L_198_3, L_198_4, L_198_5, L_198_6, L_198_7, L_198_8, L_198_9, L_198_10, L_198_11, L_198_12, L_198_13, L_198_14, L_198_15, L_198_16, L_198_17, L_198_18, L_198_19, L_198_20, L_198_21, L_198_22, L_198_23, L_198_24, L_198_25, L_198_26, L_198_27, L_198_28, L_198_29, L_198_30, L_198_31, L_198_32, L_198_33, L_198_34, L_198_35, L_198_36, L_198_37, L_198_38, L_198_39, L_198_40, L_198_41, L_198_42, L_198_43, L_198_44, L_198_45, L_198_46, L_198_47, L_198_48, C_198, A_199, A_200, A_201, A_202, A_203, A_204, A_205, A_206, A_207, A_208, A_209, A_210, A_211, A_212, A_213, A_214, A_215, A_216, A_217, A_218, A_219, A_220, A_221, A_222, A_223, A_224, A_225, A_226, A_227, A_228, A_128, A_191, A_rf, A_rs, A_rt, Q_4, Q_67, Q_130, t_145_4_1, t_145_12_1, t_145_12_2, t_145_12_3, t_145_12_4, w', ih]
    · rw [if_neg e] at ih
      have ih := ih (some (.int (I (B.2.1 215 (12 * r + c))))) (by omega)
      have hm := mw_many hw
      have e3 : (B.1 198 17) = (pc.length : Int) := hR.nn.2.2
      have hc12 := (cols_b hw).2
      have hP : ∀ i : Nat, i < ((B.1 198 17)).toNat → PI (tw B) i := fun i hi => hg.2.2.2 i (by omega)
      have hcv := reC_cov hc12 (fun j => (mw_number hw j).1) (R := (r : Int)) (C := (c : Int)) (by omega) (by omega) ((B.1 198 17)).toNat hP
      rw [← hg.1, show (12 * (r : Int) + (c : Int)).toNat = 12 * r + c by omega] at hcv
      obtain ⟨i, hi, hci⟩ : ∃ i, i < ((B.1 198 17)).toNat ∧ cov (tw B) i (r : Int) (c : Int) := Classical.byContradiction fun h => e (hcv.2 (fun i hi hc => h ⟨i, hi, hc⟩))
      have hni := hcv.1 i hi hci
      obtain ⟨a, ha⟩ := at_lt (show i < pc.length by omega)
      have hup := hg.up
      have w1 := w_174 (d := d) (by omega) hR (by omega) (fun j => mw_number hw j) (p := B.2.1 215 (12 * r + c)) (by omega) ha hni.symm (fun j hj => by
        have h1 := hup i j (by show (i : Int) < (B.1 198 17); omega) hj
        rw [hni]
        omega)
      have w2 := w_179 (d := d) (by omega) hw hR ha (r := (r : Int)) (c := (c : Int)) (by omega) (by omega)
      rw [b2T hci] at w2
      obtain ⟨b, -, k2⟩ := hR.pp ha
      have c7 := cl_of k2
      simp (disch := omega) only [rI_d, rJ_d, rR_d, rN_d, wF_d, xI_d, xJ_d, xD_d, xQ_d, yI_d, yJ_d, yD_d, yQ_d, dI_s, dJ_s, dR_s, dN_s, dN_n, dH_s, dX_s, dL_s, dD_s, dQ_s, bC_r, bC_t, kI_s, kJ_s, kF_s, kD_s, kR_s, kV_s, I_lit, I_neg, I_add, I_sub, I_mul, I_ltT, I_ltF, I_leT, I_leF, I_eqT, I_eqF, c_int, c_long, c_obj, c_arr, c_bool, c_boolN, c_boolF, vn_bool, c_charN, vn_char, b2_f, b2_t, Int.toNat_natCast, ↓reduceIte, eq_self, and_self, and_true, true_and, not_false_eq_true, not_true_eq_false, L_0_0, L_0_1, L_0_2, L_0_3, L_0_4, L_0_5, L_0_6, L_0_7, L_0_8, L_0_9, L_0_10, L_0_11, L_0_12, L_0_13, L_0_14, L_0_15, C_0, L_1_0, L_1_1, L_1_2, C_1, L_2_0, L_2_1, L_2_2, C_2, L_3_0, L_3_1, L_3_2, C_3, L_65_0, L_65_1, L_65_2, L_65_3, L_65_4, C_65, L_66_0, L_66_1, L_66_2, L_66_3, C_66, L_129_0, L_129_1, L_129_2, L_129_3, C_129, L_198_0, L_198_1, L_198_2, L_198_3, L_198_4, L_198_5, L_198_6, L_198_7, L_198_8, L_198_9, L_198_10, L_198_11, L_198_12, L_198_13, L_198_14, L_198_15, L_198_16, L_198_17, L_198_18, L_198_19, L_198_20, L_198_21, L_198_22, L_198_23, L_198_24, L_198_25, L_198_26, L_198_27, L_198_28, L_198_29, L_198_30, L_198_31, L_198_32, L_198_33, L_198_34, L_198_35, L_198_36, L_198_37, L_198_38, L_198_39, L_198_40, L_198_41, L_198_42, L_198_43, L_198_44, L_198_45, L_198_46, L_198_47, L_198_48, C_198, A_199, A_200, A_201, A_202, A_203, A_204, A_205, A_206, A_207, A_208, A_209, A_210, A_211, A_212, A_213, A_214, A_215, A_216, A_217, A_218, A_219, A_220, A_221, A_222, A_223, A_224, A_225, A_226, A_227, A_228, A_128, A_191, A_rf, A_rs, A_rt, Q_4, Q_67, Q_130, t_145_4_1, t_145_12_1, t_145_12_2, t_145_12_3, t_145_12_4, w', w1, c7, w2, ih]
theorem l_145_4 (hd : 4 ≤ d) (hi : MI B) (hg : GI B) (hR : CR K N G B ro (tw B) sh st pc cs ps) : ∀ (n r : Nat) (o3 o4 : Option Value), r + n = 60 → gRn K d 145 4 [some (.ref N), some (.int (I (laidP (B.2.1 215) (12 * r)))), some (.int (I (r : Int))), o3, o4] [] (hH K N G B) = some (.inl (some (.int (I (b2 (laidP (B.2.1 215) 720 = used (tw B)))))), hH K N G B) := by
  intro n
  have w := w_118 (d := d) (by omega) hi hR
  have ub := used_b hi.1
  induction n with
  | zero =>
    intro r o3 o4 hn
    obtain rfl : r = 60 := by omega
    have lb := laidP_b (B.2.1 215) 720
    rw [show (12 * 60 : Nat) = 720 from rfl]
    refine e_145_4 _ ?_
    unfold t_145_4
    by_cases e : laidP (B.2.1 215) 720 = used (tw B)
    · rw [b2T e]
      simp (disch := omega) only [rI_d, rJ_d, rR_d, rN_d, wF_d, xI_d, xJ_d, xD_d, xQ_d, yI_d, yJ_d, yD_d, yQ_d, dI_s, dJ_s, dR_s, dN_s, dN_n, dH_s, dX_s, dL_s, dD_s, dQ_s, bC_r, bC_t, kI_s, kJ_s, kF_s, kD_s, kR_s, kV_s, I_lit, I_neg, I_add, I_sub, I_mul, I_ltT, I_ltF, I_leT, I_leF, I_eqT, I_eqF, c_int, c_long, c_obj, c_arr, c_bool, c_boolN, c_boolF, vn_bool, c_charN, vn_char, b2_f, b2_t, Int.toNat_natCast, ↓reduceIte, eq_self, and_self, and_true, true_and, not_false_eq_true, not_true_eq_false, L_0_0, L_0_1, L_0_2, L_0_3, L_0_4, L_0_5, L_0_6, L_0_7, L_0_8, L_0_9, L_0_10, L_0_11, L_0_12, L_0_13, L_0_14, L_0_15, C_0, L_1_0, L_1_1, L_1_2, C_1, L_2_0, L_2_1, L_2_2, C_2, L_3_0, L_3_1, L_3_2, C_3, L_65_0, L_65_1, L_65_2, L_65_3, L_65_4, C_65, L_66_0, L_66_1, L_66_2, L_66_3, C_66, L_129_0, L_129_1, L_129_2, L_129_3, C_129, L_198_0, L_198_1, L_198_2, L_198_3, L_198_4, L_198_5, L_198_6, L_198_7, L_198_8, L_198_9, L_198_10, L_198_11, L_198_12, L_198_13, L_198_14, L_198_15, L_198_16, L_198_17, L_198_18, L_198_19, L_198_20, L_198_21, L_198_22, L_198_23, L_198_24, L_198_25, L_198_26, L_198_27, L_198_28, L_198_29, L_198_30, L_198_31, L_198_32, L_198_33, L_198_34, L_198_35, L_198_36, L_198_37, L_198_38, L_198_39, L_198_40, L_198_41, L_198_42, L_198_43, L_198_44, L_198_45, L_198_46, L_198_47, L_198_48, C_198, A_199, A_200, A_201, A_202, A_203, A_204, A_205, A_206, A_207, A_208, A_209, A_210, A_211, A_212, A_213, A_214, A_215, A_216, A_217, A_218, A_219, A_220, A_221, A_222, A_223, A_224, A_225, A_226, A_227, A_228, A_128, A_191, A_rf, A_rs, A_rt, Q_4, Q_67, Q_130, t_145_4_1, t_145_12_1, t_145_12_2, t_145_12_3, t_145_12_4, w]
    · rw [b2F e]
      simp (disch := omega) only [rI_d, rJ_d, rR_d, rN_d, wF_d, xI_d, xJ_d, xD_d, xQ_d, yI_d, yJ_d, yD_d, yQ_d, dI_s, dJ_s, dR_s, dN_s, dN_n, dH_s, dX_s, dL_s, dD_s, dQ_s, bC_r, bC_t, kI_s, kJ_s, kF_s, kD_s, kR_s, kV_s, I_lit, I_neg, I_add, I_sub, I_mul, I_ltT, I_ltF, I_leT, I_leF, I_eqT, I_eqF, c_int, c_long, c_obj, c_arr, c_bool, c_boolN, c_boolF, vn_bool, c_charN, vn_char, b2_f, b2_t, Int.toNat_natCast, ↓reduceIte, eq_self, and_self, and_true, true_and, not_false_eq_true, not_true_eq_false, L_0_0, L_0_1, L_0_2, L_0_3, L_0_4, L_0_5, L_0_6, L_0_7, L_0_8, L_0_9, L_0_10, L_0_11, L_0_12, L_0_13, L_0_14, L_0_15, C_0, L_1_0, L_1_1, L_1_2, C_1, L_2_0, L_2_1, L_2_2, C_2, L_3_0, L_3_1, L_3_2, C_3, L_65_0, L_65_1, L_65_2, L_65_3, L_65_4, C_65, L_66_0, L_66_1, L_66_2, L_66_3, C_66, L_129_0, L_129_1, L_129_2, L_129_3, C_129, L_198_0, L_198_1, L_198_2, L_198_3, L_198_4, L_198_5, L_198_6, L_198_7, L_198_8, L_198_9, L_198_10, L_198_11, L_198_12, L_198_13, L_198_14, L_198_15, L_198_16, L_198_17, L_198_18, L_198_19, L_198_20, L_198_21, L_198_22, L_198_23, L_198_24, L_198_25, L_198_26, L_198_27, L_198_28, L_198_29, L_198_30, L_198_31, L_198_32, L_198_33, L_198_34, L_198_35, L_198_36, L_198_37, L_198_38, L_198_39, L_198_40, L_198_41, L_198_42, L_198_43, L_198_44, L_198_45, L_198_46, L_198_47, L_198_48, C_198, A_199, A_200, A_201, A_202, A_203, A_204, A_205, A_206, A_207, A_208, A_209, A_210, A_211, A_212, A_213, A_214, A_215, A_216, A_217, A_218, A_219, A_220, A_221, A_222, A_223, A_224, A_225, A_226, A_227, A_228, A_128, A_191, A_rf, A_rs, A_rt, Q_4, Q_67, Q_130, t_145_4_1, t_145_12_1, t_145_12_2, t_145_12_3, t_145_12_4, w]
  | succ n ih =>
    intro r o3 o4 hn
    have := l_145_12 hd hi.1 hg hR (r := r) (by omega) (fun o4 => by
      have := ih (r + 1) (some (.int (I 12))) o4 (by omega)
      rw [show ((r + 1 : Nat) : Int) = (r : Int) + 1 by omega] at this
      exact this) 12 0 o4 (by omega)
    refine e_145_4 _ ?_
    unfold t_145_4
    simp (disch := omega) only [rI_d, rJ_d, rR_d, rN_d, wF_d, xI_d, xJ_d, xD_d, xQ_d, yI_d, yJ_d, yD_d, yQ_d, dI_s, dJ_s, dR_s, dN_s, dN_n, dH_s, dX_s, dL_s, dD_s, dQ_s, bC_r, bC_t, kI_s, kJ_s, kF_s, kD_s, kR_s, kV_s, I_lit, I_neg, I_add, I_sub, I_mul, I_ltT, I_ltF, I_leT, I_leF, I_eqT, I_eqF, c_int, c_long, c_obj, c_arr, c_bool, c_boolN, c_boolF, vn_bool, c_charN, vn_char, b2_f, b2_t, Int.toNat_natCast, ↓reduceIte, eq_self, and_self, and_true, true_and, not_false_eq_true, not_true_eq_false, L_0_0, L_0_1, L_0_2, L_0_3, L_0_4, L_0_5, L_0_6, L_0_7, L_0_8, L_0_9, L_0_10, L_0_11, L_0_12, L_0_13, L_0_14, L_0_15, C_0, L_1_0, L_1_1, L_1_2, C_1, L_2_0, L_2_1, L_2_2, C_2, L_3_0, L_3_1, L_3_2, C_3, L_65_0, L_65_1, L_65_2, L_65_3, L_65_4, C_65, L_66_0, L_66_1, L_66_2, L_66_3, C_66, L_129_0, L_129_1, L_129_2, L_129_3, C_129, L_198_0, L_198_1, L_198_2, L_198_3, L_198_4, L_198_5, L_198_6, L_198_7, L_198_8, L_198_9, L_198_10, L_198_11, L_198_12, L_198_13, L_198_14, L_198_15, L_198_16, L_198_17, L_198_18, L_198_19, L_198_20, L_198_21, L_198_22, L_198_23, L_198_24, L_198_25, L_198_26, L_198_27, L_198_28, L_198_29, L_198_30, L_198_31, L_198_32, L_198_33, L_198_34, L_198_35, L_198_36, L_198_37, L_198_38, L_198_39, L_198_40, L_198_41, L_198_42, L_198_43, L_198_44, L_198_45, L_198_46, L_198_47, L_198_48, C_198, A_199, A_200, A_201, A_202, A_203, A_204, A_205, A_206, A_207, A_208, A_209, A_210, A_211, A_212, A_213, A_214, A_215, A_216, A_217, A_218, A_219, A_220, A_221, A_222, A_223, A_224, A_225, A_226, A_227, A_228, A_128, A_191, A_rf, A_rs, A_rt, Q_4, Q_67, Q_130, t_145_4_1, t_145_12_1, t_145_12_2, t_145_12_3, t_145_12_4]
    exact this
theorem w_145 (hd : 5 ≤ d) (hi : MI B) (hg : GI B) (hR : CR K N G B ro (tw B) sh st pc cs ps) : gCa K d 145 [.ref N] (hH K N G B) = some (.inl (some (.int (I (b2 (laidP (B.2.1 215) 720 = used (tw B)))))), hH K N G B) := by
  obtain ⟨d, rfl, hd'⟩ := d_succ (show 4 + 1 ≤ d by omega)
  have := l_145_4 (d := d) (by omega) hi hg hR 60 0 none none (by omega)
  refine c_145 _ ?_
  unfold t_145_0
  simp only [I_lit, I_neg, I_add, I_sub, I_mul, I_ltT, I_ltF, I_leT, I_leF, I_eqT, I_eqF, c_int, c_long, c_obj, c_arr, c_bool, c_boolN, c_boolF, vn_bool, c_charN, vn_char, b2_f, b2_t]
  exact this
theorem l_146_55 (hd : 4 ≤ d) (hw : MW B) (hR : CR K N G B ro (tw B) sh st pc cs ps) {x : Int} : ∀ (n y : Nat) (o4 : Option Value), y + n = st.length → gRn K d 146 55 [some (.ref N), some (.long (J (x + madP (tw B) y))), none, some (.int (I (y : Int))), o4] [] (hH K N G B) = some (.inl (some (.long (J (x + madP (tw B) st.length)))), hH K N G B) := by
  intro n
  have h8 := h8_of hw hR
  have s2 := hR.s2 (d := d) (by omega)
  have c2 := cl_of hR.l2.o2
  induction n with
  | zero =>
    intro y o4 hn
    obtain rfl : y = st.length := by omega
    refine e_146_55 _ ?_
    unfold t_146_55
    simp (disch := omega) only [rI_d, rJ_d, rR_d, rN_d, wF_d, xI_d, xJ_d, xD_d, xQ_d, yI_d, yJ_d, yD_d, yQ_d, dI_s, dJ_s, dR_s, dN_s, dN_n, dH_s, dX_s, dL_s, dD_s, dQ_s, bC_r, bC_t, kI_s, kJ_s, kF_s, kD_s, kR_s, kV_s, I_lit, I_neg, I_add, I_sub, I_mul, I_ltT, I_ltF, I_leT, I_leF, I_eqT, I_eqF, c_int, c_long, c_obj, c_arr, c_bool, c_boolN, c_boolF, vn_bool, c_charN, vn_char, b2_f, b2_t, Int.toNat_natCast, ↓reduceIte, eq_self, and_self, and_true, true_and, not_false_eq_true, not_true_eq_false, L_0_0, L_0_1, L_0_2, L_0_3, L_0_4, L_0_5, L_0_6, L_0_7, L_0_8, L_0_9, L_0_10, L_0_11, L_0_12, L_0_13, L_0_14, L_0_15, C_0, L_1_0, L_1_1, L_1_2, C_1, L_2_0, L_2_1, L_2_2, C_2, L_3_0, L_3_1, L_3_2, C_3, L_65_0, L_65_1, L_65_2, L_65_3, L_65_4, C_65, L_66_0, L_66_1, L_66_2, L_66_3, C_66, L_129_0, L_129_1, L_129_2, L_129_3, C_129, L_198_0, L_198_1, L_198_2, L_198_3, L_198_4, L_198_5, L_198_6, L_198_7, L_198_8, L_198_9, L_198_10, L_198_11, L_198_12, L_198_13, L_198_14, L_198_15, L_198_16, L_198_17, L_198_18, L_198_19, L_198_20, L_198_21, L_198_22, L_198_23, L_198_24, L_198_25, L_198_26, L_198_27, L_198_28, L_198_29, L_198_30, L_198_31, L_198_32, L_198_33, L_198_34, L_198_35, L_198_36, L_198_37, L_198_38, L_198_39, L_198_40, L_198_41, L_198_42, L_198_43, L_198_44, L_198_45, L_198_46, L_198_47, L_198_48, C_198, A_199, A_200, A_201, A_202, A_203, A_204, A_205, A_206, A_207, A_208, A_209, A_210, A_211, A_212, A_213, A_214, A_215, A_216, A_217, A_218, A_219, A_220, A_221, A_222, A_223, A_224, A_225, A_226, A_227, A_228, A_128, A_191, A_rf, A_rs, A_rt, Q_4, Q_67, Q_130, t_146_4_1, t_146_4_2, t_146_4_3, t_146_4_4, t_146_4_5, t_146_4_6, t_146_55_1, t_146_55_2, t_146_55_3, t_146_55_4, t_146_55_5, t_146_55_6, c2, s2]
  | succ n ih =>
    intro y o4 hn
    obtain ⟨a, ha⟩ := at_lt (show y < st.length by omega)
    have g2 := hR.g2 (d := d) (by omega) (by omega) (y := (y : Int)) (by omega) (by rw [Int.toNat_natCast]; exact ha)
    have w := w_184 (d := d) (by omega) hw hR ha
    obtain ⟨p, mc, e', ca, h1, -⟩ := hR.part ha
    have v1 := cl_of h1
    have v2 := gf_of h1 1
    simp only [List.getElem?_cons_succ, List.getElem?_cons_zero] at v2
    have v2' : g_gf (hH K N G B) a 8 1 = some (.int (I (B.2.1 219 y))) := v2
    have bm := mw_made hw y
    have tb := tk_b hw (s := (y : Int))
    have ih := ih (y + 1) (some (.ref a)) (by omega)
    rw [show ((y + 1 : Nat) : Int) = (y : Int) + 1 by omega, show madP (tw B) (y + 1) = madP (tw B) y + B.2.1 219 y * tk (tw B) (y : Int) from rfl, ← Int.add_assoc] at ih
    refine e_146_55 _ ?_
    unfold t_146_55
    simp (disch := omega) only [rI_d, rJ_d, rR_d, rN_d, wF_d, xI_d, xJ_d, xD_d, xQ_d, yI_d, yJ_d, yD_d, yQ_d, dI_s, dJ_s, dR_s, dN_s, dN_n, dH_s, dX_s, dL_s, dD_s, dQ_s, bC_r, bC_t, kI_s, kJ_s, kF_s, kD_s, kR_s, kV_s, I_lit, I_neg, I_add, I_sub, I_mul, I_ltT, I_ltF, I_leT, I_leF, I_eqT, I_eqF, c_int, c_long, c_obj, c_arr, c_bool, c_boolN, c_boolF, vn_bool, c_charN, vn_char, b2_f, b2_t, Int.toNat_natCast, ↓reduceIte, eq_self, and_self, and_true, true_and, not_false_eq_true, not_true_eq_false, L_0_0, L_0_1, L_0_2, L_0_3, L_0_4, L_0_5, L_0_6, L_0_7, L_0_8, L_0_9, L_0_10, L_0_11, L_0_12, L_0_13, L_0_14, L_0_15, C_0, L_1_0, L_1_1, L_1_2, C_1, L_2_0, L_2_1, L_2_2, C_2, L_3_0, L_3_1, L_3_2, C_3, L_65_0, L_65_1, L_65_2, L_65_3, L_65_4, C_65, L_66_0, L_66_1, L_66_2, L_66_3, C_66, L_129_0, L_129_1, L_129_2, L_129_3, C_129, L_198_0, L_198_1, L_198_2, L_198_3, L_198_4, L_198_5, L_198_6, L_198_7, L_198_8, L_198_9, L_198_10, L_198_11, L_198_12, L_198_13, L_198_14, L_198_15, L_198_16, L_198_17, L_198_18, L_198_19, L_198_20, L_198_21, L_198_22, L_198_23, L_198_24, L_198_25, L_198_26, L_198_27, L_198_28, L_198_29, L_198_30, L_198_31, L_198_32, L_198_33, L_198_34, L_198_35, L_198_36, L_198_37, L_198_38, L_198_39, L_198_40, L_198_41, L_198_42, L_198_43, L_198_44, L_198_45, L_198_46, L_198_47, L_198_48, C_198, A_199, A_200, A_201, A_202, A_203, A_204, A_205, A_206, A_207, A_208, A_209, A_210, A_211, A_212, A_213, A_214, A_215, A_216, A_217, A_218, A_219, A_220, A_221, A_222, A_223, A_224, A_225, A_226, A_227, A_228, A_128, A_191, A_rf, A_rs, A_rt, Q_4, Q_67, Q_130, t_146_4_1, t_146_4_2, t_146_4_3, t_146_4_4, t_146_4_5, t_146_4_6, t_146_55_1, t_146_55_2, t_146_55_3, t_146_55_4, t_146_55_5, t_146_55_6, c2, s2, g2, v1, v2', w, IJ, J_mul, J_add, ih]
theorem l_146_4 (hd : 4 ≤ d) (hw : MW B) (hR : CR K N G B ro (tw B) sh st pc cs ps) : ∀ (n y : Nat) (o4 : Option Value), y + n = sh.length → gRn K d 146 4 [some (.ref N), some (.long (J (stkP (tw B) (2 * y)))), none, some (.int (I (y : Int))), o4] [] (hH K N G B) = some (.inl (some (.long (J (stkP (tw B) (2 * sh.length) + madP (tw B) st.length)))), hH K N G B) := by
  intro n
  have h8 := h8_of hw hR
  have s1 := hR.s1 (d := d) (by omega)
  have c1 := cl_of hR.l1.o1
  induction n with
  | zero =>
    intro y o4 hn
    obtain rfl : y = sh.length := by omega
    have := l_146_55 hd hw hR (x := stkP (tw B) (2 * sh.length)) st.length 0 o4 (by omega)
    rw [show madP (tw B) 0 = 0 from rfl, Int.add_zero, show ((0 : Nat) : Int) = 0 from rfl] at this
    refine e_146_4 _ ?_
    unfold t_146_4
    simp (disch := omega) only [rI_d, rJ_d, rR_d, rN_d, wF_d, xI_d, xJ_d, xD_d, xQ_d, yI_d, yJ_d, yD_d, yQ_d, dI_s, dJ_s, dR_s, dN_s, dN_n, dH_s, dX_s, dL_s, dD_s, dQ_s, bC_r, bC_t, kI_s, kJ_s, kF_s, kD_s, kR_s, kV_s, I_lit, I_neg, I_add, I_sub, I_mul, I_ltT, I_ltF, I_leT, I_leF, I_eqT, I_eqF, c_int, c_long, c_obj, c_arr, c_bool, c_boolN, c_boolF, vn_bool, c_charN, vn_char, b2_f, b2_t, Int.toNat_natCast, ↓reduceIte, eq_self, and_self, and_true, true_and, not_false_eq_true, not_true_eq_false, L_0_0, L_0_1, L_0_2, L_0_3, L_0_4, L_0_5, L_0_6, L_0_7, L_0_8, L_0_9, L_0_10, L_0_11, L_0_12, L_0_13, L_0_14, L_0_15, C_0, L_1_0, L_1_1, L_1_2, C_1, L_2_0, L_2_1, L_2_2, C_2, L_3_0, L_3_1, L_3_2, C_3, L_65_0, L_65_1, L_65_2, L_65_3, L_65_4, C_65, L_66_0, L_66_1, L_66_2, L_66_3, C_66, L_129_0, L_129_1, L_129_2, L_129_3, C_129, L_198_0, L_198_1, L_198_2, L_198_3, L_198_4, L_198_5, L_198_6, L_198_7, L_198_8, L_198_9, L_198_10, L_198_11, L_198_12, L_198_13, L_198_14, L_198_15, L_198_16, L_198_17, L_198_18, L_198_19, L_198_20, L_198_21, L_198_22, L_198_23, L_198_24, L_198_25, L_198_26, L_198_27, L_198_28, L_198_29, L_198_30, L_198_31, L_198_32, L_198_33, L_198_34, L_198_35, L_198_36, L_198_37, L_198_38, L_198_39, L_198_40, L_198_41, L_198_42, L_198_43, L_198_44, L_198_45, L_198_46, L_198_47, L_198_48, C_198, A_199, A_200, A_201, A_202, A_203, A_204, A_205, A_206, A_207, A_208, A_209, A_210, A_211, A_212, A_213, A_214, A_215, A_216, A_217, A_218, A_219, A_220, A_221, A_222, A_223, A_224, A_225, A_226, A_227, A_228, A_128, A_191, A_rf, A_rs, A_rt, Q_4, Q_67, Q_130, t_146_4_1, t_146_4_2, t_146_4_3, t_146_4_4, t_146_4_5, t_146_4_6, t_146_55_1, t_146_55_2, t_146_55_3, t_146_55_4, t_146_55_5, t_146_55_6, c1, s1, this]
  | succ n ih =>
    intro y o4 hn
    obtain ⟨a, ha⟩ := at_lt (show y < sh.length by omega)
    have g1 := hR.g1 (d := d) (by omega) (by omega) (y := (y : Int)) (by omega) (by rw [Int.toNat_natCast]; exact ha)
    obtain ⟨⟨p', mk, vr, h1, -⟩, -⟩ := hR.sp ha
    obtain ⟨u1, -, -, -, -, -, u7, u8, -⟩ := sh_rd h1
    have u7' : g_gf (hH K N G B) a 4 5 = some (.int (I (B.2.1 208 (2 * y)))) := u7
    have u8' : g_gf (hH K N G B) a 4 6 = some (.int (I (B.2.1 208 (2 * y + 1)))) := u8
    have t0 := mw_stock hw (2 * y)
    have t1 := mw_stock hw (2 * y + 1)
    have ih := ih (y + 1) (some (.ref a)) (by omega)
    rw [show ((y + 1 : Nat) : Int) = (y : Int) + 1 by omega, show stkP (tw B) (2 * (y + 1)) = stkP (tw B) (2 * y) + B.2.1 208 (2 * y) + B.2.1 208 (2 * y + 1) from rfl, Int.add_assoc] at ih
    refine e_146_4 _ ?_
    unfold t_146_4
    simp (disch := omega) only [rI_d, rJ_d, rR_d, rN_d, wF_d, xI_d, xJ_d, xD_d, xQ_d, yI_d, yJ_d, yD_d, yQ_d, dI_s, dJ_s, dR_s, dN_s, dN_n, dH_s, dX_s, dL_s, dD_s, dQ_s, bC_r, bC_t, kI_s, kJ_s, kF_s, kD_s, kR_s, kV_s, I_lit, I_neg, I_add, I_sub, I_mul, I_ltT, I_ltF, I_leT, I_leF, I_eqT, I_eqF, c_int, c_long, c_obj, c_arr, c_bool, c_boolN, c_boolF, vn_bool, c_charN, vn_char, b2_f, b2_t, Int.toNat_natCast, ↓reduceIte, eq_self, and_self, and_true, true_and, not_false_eq_true, not_true_eq_false, L_0_0, L_0_1, L_0_2, L_0_3, L_0_4, L_0_5, L_0_6, L_0_7, L_0_8, L_0_9, L_0_10, L_0_11, L_0_12, L_0_13, L_0_14, L_0_15, C_0, L_1_0, L_1_1, L_1_2, C_1, L_2_0, L_2_1, L_2_2, C_2, L_3_0, L_3_1, L_3_2, C_3, L_65_0, L_65_1, L_65_2, L_65_3, L_65_4, C_65, L_66_0, L_66_1, L_66_2, L_66_3, C_66, L_129_0, L_129_1, L_129_2, L_129_3, C_129, L_198_0, L_198_1, L_198_2, L_198_3, L_198_4, L_198_5, L_198_6, L_198_7, L_198_8, L_198_9, L_198_10, L_198_11, L_198_12, L_198_13, L_198_14, L_198_15, L_198_16, L_198_17, L_198_18, L_198_19, L_198_20, L_198_21, L_198_22, L_198_23, L_198_24, L_198_25, L_198_26, L_198_27, L_198_28, L_198_29, L_198_30, L_198_31, L_198_32, L_198_33, L_198_34, L_198_35, L_198_36, L_198_37, L_198_38, L_198_39, L_198_40, L_198_41, L_198_42, L_198_43, L_198_44, L_198_45, L_198_46, L_198_47, L_198_48, C_198, A_199, A_200, A_201, A_202, A_203, A_204, A_205, A_206, A_207, A_208, A_209, A_210, A_211, A_212, A_213, A_214, A_215, A_216, A_217, A_218, A_219, A_220, A_221, A_222, A_223, A_224, A_225, A_226, A_227, A_228, A_128, A_191, A_rf, A_rs, A_rt, Q_4, Q_67, Q_130, t_146_4_1, t_146_4_2, t_146_4_3, t_146_4_4, t_146_4_5, t_146_4_6, t_146_55_1, t_146_55_2, t_146_55_3, t_146_55_4, t_146_55_5, t_146_55_6, c1, s1, g1, u1, u7', u8', IJ, J_add, ih]
theorem w_146 (hd : 5 ≤ d) (hw : MW B) (hR : CR K N G B ro (tw B) sh st pc cs ps) : gCa K d 146 [.ref N] (hH K N G B) = some (.inl (some (.long (J (stkP (tw B) (2 * (B.1 198 7)).toNat + madP (tw B) ((B.1 198 28)).toNat)))), hH K N G B) := by
  obtain ⟨d, rfl, hd'⟩ := d_succ (show 4 + 1 ≤ d by omega)
  have e1 : (B.1 198 7) = (sh.length : Int) := hR.nn.1
  have e2 : (B.1 198 28) = (st.length : Int) := hR.nn.2.1
  have := l_146_4 (d := d) (by omega) hw hR sh.length 0 none (by omega)
  rw [show (2 * (B.1 198 7)).toNat = 2 * sh.length by omega, show ((B.1 198 28)).toNat = st.length by omega]
  refine c_146 _ ?_
  unfold t_146_0
  simp only [I_lit, I_neg, I_add, I_sub, I_mul, I_ltT, I_ltF, I_leT, I_leF, I_eqT, I_eqF, c_int, c_long, c_obj, c_arr, c_bool, c_boolN, c_boolF, vn_bool, c_charN, vn_char, b2_f, b2_t, J_lit]
  exact this
theorem w_82 (hd : 6 ≤ d) (hi : MI B) (hg : GI B) (hR : CR K N G B ro (tw B) sh st pc cs ps) : gCa K d 82 [.ref N] (hH K N G B) = some (.inl (some (.int (I (b2 (sound B))))), hH K N G B) := by
  obtain ⟨d, rfl, hd'⟩ := d_succ (show 5 + 1 ≤ d by omega)
  have hw := hi.1
  have w1 := w_145 (d := d) (by omega) hi hg hR
  have w2 := w_146 (d := d) (by omega) hw hR
  have hct : B.1 0 15 = (B.1 198 32) := hR.2.1.2.2.2.2.2.2.2.1
  have b1 := stkP_b hw (2 * (B.1 198 7)).toNat
  have b2' := madP_b hw ((B.1 198 28)).toNat
  have b3 := mw_shapes hw
  have b4 := mw_styles hw
  have b5 := mw_cutAll hw
  have lc := lg_cmpJ (a := stkP (tw B) (2 * (B.1 198 7)).toNat + madP (tw B) ((B.1 198 28)).toNat) (b := (B.1 198 32)) (by omega) (by omega)
  refine c_82 _ ?_
  unfold t_82_0
  by_cases e1 : laidP (B.2.1 215) 720 = used (tw B)
  · rw [b2T e1] at w1
    by_cases e2 : stkP (tw B) (2 * (B.1 198 7)).toNat + madP (tw B) ((B.1 198 28)).toNat = (B.1 198 32)
    · rw [b2T (show sound B from ⟨e1, e2⟩)]
      rw [eq_true e2] at lc
      simp (disch := omega) only [rI_d, rJ_d, rR_d, rN_d, wF_d, xI_d, xJ_d, xD_d, xQ_d, yI_d, yJ_d, yD_d, yQ_d, dI_s, dJ_s, dR_s, dN_s, dN_n, dH_s, dX_s, dL_s, dD_s, dQ_s, bC_r, bC_t, kI_s, kJ_s, kF_s, kD_s, kR_s, kV_s, I_lit, I_neg, I_add, I_sub, I_mul, I_ltT, I_ltF, I_leT, I_leF, I_eqT, I_eqF, c_int, c_long, c_obj, c_arr, c_bool, c_boolN, c_boolF, vn_bool, c_charN, vn_char, b2_f, b2_t, Int.toNat_natCast, ↓reduceIte, eq_self, and_self, and_true, true_and, not_false_eq_true, not_true_eq_false, L_0_0, L_0_1, L_0_2, L_0_3, L_0_4, L_0_5, L_0_6, L_0_7, L_0_8, L_0_9, L_0_10, L_0_11, L_0_12, L_0_13, L_0_14, L_0_15, C_0, L_1_0, L_1_1, L_1_2, C_1, L_2_0, L_2_1, L_2_2, C_2, L_3_0, L_3_1, L_3_2, C_3, L_65_0, L_65_1, L_65_2, L_65_3, L_65_4, C_65, L_66_0, L_66_1, L_66_2, L_66_3, C_66, L_129_0, L_129_1, L_129_2, L_129_3, C_129, L_198_0, L_198_1, L_198_2, L_198_3, L_198_4, L_198_5, L_198_6, L_198_7, L_198_8, L_198_9, L_198_10, L_198_11, L_198_12, L_198_13, L_198_14, L_198_15, L_198_16, L_198_17, L_198_18, L_198_19, L_198_20, L_198_21, L_198_22, L_198_23, L_198_24, L_198_25, L_198_26, L_198_27, L_198_28, L_198_29, L_198_30, L_198_31, L_198_32, L_198_33, L_198_34, L_198_35, L_198_36, L_198_37, L_198_38, L_198_39, L_198_40, L_198_41, L_198_42, L_198_43, L_198_44, L_198_45, L_198_46, L_198_47, L_198_48, C_198, A_199, A_200, A_201, A_202, A_203, A_204, A_205, A_206, A_207, A_208, A_209, A_210, A_211, A_212, A_213, A_214, A_215, A_216, A_217, A_218, A_219, A_220, A_221, A_222, A_223, A_224, A_225, A_226, A_227, A_228, A_128, A_191, A_rf, A_rs, A_rt, Q_4, Q_67, Q_130, t_82_0_1, t_82_0_2, t_82_0_3, w1, w2, hct, lc]
    · rw [b2F (fun h : sound B => e2 h.2)]
      rw [eq_false e2] at lc
      simp (disch := omega) only [rI_d, rJ_d, rR_d, rN_d, wF_d, xI_d, xJ_d, xD_d, xQ_d, yI_d, yJ_d, yD_d, yQ_d, dI_s, dJ_s, dR_s, dN_s, dN_n, dH_s, dX_s, dL_s, dD_s, dQ_s, bC_r, bC_t, kI_s, kJ_s, kF_s, kD_s, kR_s, kV_s, I_lit, I_neg, I_add, I_sub, I_mul, I_ltT, I_ltF, I_leT, I_leF, I_eqT, I_eqF, c_int, c_long, c_obj, c_arr, c_bool, c_boolN, c_boolF, vn_bool, c_charN, vn_char, b2_f, b2_t, Int.toNat_natCast, ↓reduceIte, eq_self, and_self, and_true, true_and, not_false_eq_true, not_true_eq_false, L_0_0, L_0_1, L_0_2, L_0_3, L_0_4, L_0_5, L_0_6, L_0_7, L_0_8, L_0_9, L_0_10, L_0_11, L_0_12, L_0_13, L_0_14, L_0_15, C_0, L_1_0, L_1_1, L_1_2, C_1, L_2_0, L_2_1, L_2_2, C_2, L_3_0, L_3_1, L_3_2, C_3, L_65_0, L_65_1, L_65_2, L_65_3, L_65_4, C_65, L_66_0, L_66_1, L_66_2, L_66_3, C_66, L_129_0, L_129_1, L_129_2, L_129_3, C_129, L_198_0, L_198_1, L_198_2, L_198_3, L_198_4, L_198_5, L_198_6, L_198_7, L_198_8, L_198_9, L_198_10, L_198_11, L_198_12, L_198_13, L_198_14, L_198_15, L_198_16, L_198_17, L_198_18, L_198_19, L_198_20, L_198_21, L_198_22, L_198_23, L_198_24, L_198_25, L_198_26, L_198_27, L_198_28, L_198_29, L_198_30, L_198_31, L_198_32, L_198_33, L_198_34, L_198_35, L_198_36, L_198_37, L_198_38, L_198_39, L_198_40, L_198_41, L_198_42, L_198_43, L_198_44, L_198_45, L_198_46, L_198_47, L_198_48, C_198, A_199, A_200, A_201, A_202, A_203, A_204, A_205, A_206, A_207, A_208, A_209, A_210, A_211, A_212, A_213, A_214, A_215, A_216, A_217, A_218, A_219, A_220, A_221, A_222, A_223, A_224, A_225, A_226, A_227, A_228, A_128, A_191, A_rf, A_rs, A_rt, Q_4, Q_67, Q_130, t_82_0_1, t_82_0_2, t_82_0_3, w1, w2, hct, lc]
  · rw [b2F e1] at w1
    rw [b2F (fun h : sound B => e1 h.1)]
    simp (disch := omega) only [rI_d, rJ_d, rR_d, rN_d, wF_d, xI_d, xJ_d, xD_d, xQ_d, yI_d, yJ_d, yD_d, yQ_d, dI_s, dJ_s, dR_s, dN_s, dN_n, dH_s, dX_s, dL_s, dD_s, dQ_s, bC_r, bC_t, kI_s, kJ_s, kF_s, kD_s, kR_s, kV_s, I_lit, I_neg, I_add, I_sub, I_mul, I_ltT, I_ltF, I_leT, I_leF, I_eqT, I_eqF, c_int, c_long, c_obj, c_arr, c_bool, c_boolN, c_boolF, vn_bool, c_charN, vn_char, b2_f, b2_t, Int.toNat_natCast, ↓reduceIte, eq_self, and_self, and_true, true_and, not_false_eq_true, not_true_eq_false, L_0_0, L_0_1, L_0_2, L_0_3, L_0_4, L_0_5, L_0_6, L_0_7, L_0_8, L_0_9, L_0_10, L_0_11, L_0_12, L_0_13, L_0_14, L_0_15, C_0, L_1_0, L_1_1, L_1_2, C_1, L_2_0, L_2_1, L_2_2, C_2, L_3_0, L_3_1, L_3_2, C_3, L_65_0, L_65_1, L_65_2, L_65_3, L_65_4, C_65, L_66_0, L_66_1, L_66_2, L_66_3, C_66, L_129_0, L_129_1, L_129_2, L_129_3, C_129, L_198_0, L_198_1, L_198_2, L_198_3, L_198_4, L_198_5, L_198_6, L_198_7, L_198_8, L_198_9, L_198_10, L_198_11, L_198_12, L_198_13, L_198_14, L_198_15, L_198_16, L_198_17, L_198_18, L_198_19, L_198_20, L_198_21, L_198_22, L_198_23, L_198_24, L_198_25, L_198_26, L_198_27, L_198_28, L_198_29, L_198_30, L_198_31, L_198_32, L_198_33, L_198_34, L_198_35, L_198_36, L_198_37, L_198_38, L_198_39, L_198_40, L_198_41, L_198_42, L_198_43, L_198_44, L_198_45, L_198_46, L_198_47, L_198_48, C_198, A_199, A_200, A_201, A_202, A_203, A_204, A_205, A_206, A_207, A_208, A_209, A_210, A_211, A_212, A_213, A_214, A_215, A_216, A_217, A_218, A_219, A_220, A_221, A_222, A_223, A_224, A_225, A_226, A_227, A_228, A_128, A_191, A_rf, A_rs, A_rt, Q_4, Q_67, Q_130, t_82_0_1, t_82_0_2, t_82_0_3, w1]
end
