/-! PURE 47: shapes are read -/
set_option maxRecDepth 100000
def ru (z : Int) : Nat := if z = 110 then 0 else if z = 104 then 1 else 2
abbrev shF (K : gK) (M : gM) (i p mk vr : Nat) : List Value := [.ref (K.2 (ru (M.2 200 i))), .int (I (M.2 201 i)), .ref p, .int (I (M.2 204 i)), .ref mk, .int (I (M.2 208 (2 * i))), .int (I (M.2 208 (2 * i + 1))), .int (I (M.2 207 i)), .ref vr]
/-- the shape i of the room, at a -/
def SHP (K : gK) (P : Nat → Prop) (H : gH) (ro : Nat → Nat) (a i : Nat) (M : gM) (cl : List Nat) : Prop := ∃ p mk vr, H.1 a = some (.inr (4, shF K M i p mk vr)) ∧ CLS K H (fun e => e = K.2 3 ∨ ro e = 10 + i) p cl ∧ CE H mk (M.2 205 i) (M.2 206 i) ∧ VAS P H vr cl (M.2 205 i) (M.2 206 i) 4 ∧ ro a = 10 + i ∧ ro p = 10 + i ∧ ro vr = 10 + i ∧ P p
section
variable {K : gK} {P : Nat → Prop} {d : Nat} {H : gH} {a v i : Nat} {cl : List Nat} {t m z : Int} {M : gM} {ro : Nat → Nat}
theorem w_217 (hd : 1 ≤ d) (h : SHP K P H ro a i M cl) (ht : 0 ≤ t ∧ t ≤ 3) (hm : 0 ≤ m ∧ m ≤ 1) : ∃ va, gCa K d 217 [.ref a, .int (I m), .int (I t)] H = some (.inl (some (.ref va)), H) ∧ VA P H va cl t m (mb M i cl t m) := by
  obtain ⟨d, rfl, hd'⟩ := d_succ (show 0 + 1 ≤ d by omega)
  obtain ⟨p, mk, vr, h1, -, -, ⟨vf, h2, h3⟩, -⟩ := h
  obtain ⟨va, h4, h5⟩ := h3 t m ht.1 (by omega) hm.1 hm.2
  have g8 := gf_of h1 8
  simp only [List.getElem?_cons_succ, List.getElem?_cons_zero] at g8
  refine ⟨va, c_217 _ ?_, h5⟩
  unfold t_217_0
  by_cases e : m = 0
  · subst e
    have qa := qa_of h2 (z := t) (by omega) (by omega)
    rw [show t.toNat = (4 * 0 + t).toNat by omega, h4] at qa
    simp (disch := omega) only [rI_d, rJ_d, rR_d, rN_d, wF_d, xI_d, xJ_d, xD_d, xQ_d, yI_d, yJ_d, yD_d, yQ_d, dI_s, dJ_s, dR_s, dN_s, dN_n, dH_s, dX_s, dL_s, dD_s, dQ_s, bC_r, bC_t, kI_s, kJ_s, kF_s, kD_s, kR_s, kV_s, I_lit, I_neg, I_add, I_sub, I_mul, I_ltT, I_ltF, I_leT, I_leF, I_eqT, I_eqF, c_int, c_long, c_obj, c_arr, c_bool, c_boolN, c_boolF, vn_bool, c_charN, vn_char, b2_f, b2_t, Int.toNat_natCast, ↓reduceIte, eq_self, and_self, and_true, true_and, not_false_eq_true, not_true_eq_false, L_0_0, L_0_1, L_0_2, L_0_3, L_0_4, L_0_5, L_0_6, L_0_7, L_0_8, L_0_9, L_0_10, L_0_11, L_0_12, L_0_13, L_0_14, L_0_15, C_0, L_1_0, L_1_1, L_1_2, C_1, L_2_0, L_2_1, L_2_2, C_2, L_3_0, L_3_1, L_3_2, C_3, L_65_0, L_65_1, L_65_2, L_65_3, L_65_4, C_65, L_66_0, L_66_1, L_66_2, L_66_3, C_66, L_129_0, L_129_1, L_129_2, L_129_3, C_129, L_198_0, L_198_1, L_198_2, L_198_3, L_198_4, L_198_5, L_198_6, L_198_7, L_198_8, L_198_9, L_198_10, L_198_11, L_198_12, L_198_13, L_198_14, L_198_15, L_198_16, L_198_17, L_198_18, L_198_19, L_198_20, L_198_21, L_198_22, L_198_23, L_198_24, L_198_25, L_198_26, L_198_27, L_198_28, L_198_29, L_198_30, L_198_31, L_198_32, L_198_33, L_198_34, L_198_35, L_198_36, L_198_37, L_198_38, L_198_39, L_198_40, L_198_41, L_198_42, L_198_43, L_198_44, L_198_45, L_198_46, L_198_47, L_198_48, C_198, A_199, A_200, A_201, A_202, A_203, A_204, A_205, A_206, A_207, A_208, A_209, A_210, A_211, A_212, A_213, A_214, A_215, A_216, A_217, A_218, A_219, A_220, A_221, A_222, A_223, A_224, A_225, A_226, A_227, A_228, A_128, A_191, A_rf, A_rs, A_rt, Q_4, Q_67, Q_130, t_217_0_1, t_217_0_2, t_217_0_3, g8, qa]
  · obtain rfl : m = 1 := by omega
    have qa := qa_of h2 (z := 4 + t) (by omega) (by omega)
    rw [show (4 + t).toNat = (4 * 1 + t).toNat by omega, h4] at qa
    simp (disch := omega) only [rI_d, rJ_d, rR_d, rN_d, wF_d, xI_d, xJ_d, xD_d, xQ_d, yI_d, yJ_d, yD_d, yQ_d, dI_s, dJ_s, dR_s, dN_s, dN_n, dH_s, dX_s, dL_s, dD_s, dQ_s, bC_r, bC_t, kI_s, kJ_s, kF_s, kD_s, kR_s, kV_s, I_lit, I_neg, I_add, I_sub, I_mul, I_ltT, I_ltF, I_leT, I_leF, I_eqT, I_eqF, c_int, c_long, c_obj, c_arr, c_bool, c_boolN, c_boolF, vn_bool, c_charN, vn_char, b2_f, b2_t, Int.toNat_natCast, ↓reduceIte, eq_self, and_self, and_true, true_and, not_false_eq_true, not_true_eq_false, L_0_0, L_0_1, L_0_2, L_0_3, L_0_4, L_0_5, L_0_6, L_0_7, L_0_8, L_0_9, L_0_10, L_0_11, L_0_12, L_0_13, L_0_14, L_0_15, C_0, L_1_0, L_1_1, L_1_2, C_1, L_2_0, L_2_1, L_2_2, C_2, L_3_0, L_3_1, L_3_2, C_3, L_65_0, L_65_1, L_65_2, L_65_3, L_65_4, C_65, L_66_0, L_66_1, L_66_2, L_66_3, C_66, L_129_0, L_129_1, L_129_2, L_129_3, C_129, L_198_0, L_198_1, L_198_2, L_198_3, L_198_4, L_198_5, L_198_6, L_198_7, L_198_8, L_198_9, L_198_10, L_198_11, L_198_12, L_198_13, L_198_14, L_198_15, L_198_16, L_198_17, L_198_18, L_198_19, L_198_20, L_198_21, L_198_22, L_198_23, L_198_24, L_198_25, L_198_26, L_198_27, L_198_28, L_198_29, L_198_30, L_198_31, L_198_32, L_198_33, L_198_34, L_198_35, L_198_36, L_198_37, L_198_38, L_198_39, L_198_40, L_198_41, L_198_42, L_198_43, L_198_44, L_198_45, L_198_46, L_198_47, L_198_48, C_198, A_199, A_200, A_201, A_202, A_203, A_204, A_205, A_206, A_207, A_208, A_209, A_210, A_211, A_212, A_213, A_214, A_215, A_216, A_217, A_218, A_219, A_220, A_221, A_222, A_223, A_224, A_225, A_226, A_227, A_228, A_128, A_191, A_rf, A_rs, A_rt, Q_4, Q_67, Q_130, t_217_0_1, t_217_0_2, t_217_0_3, g8, qa]
theorem l_218 (h : VA P H v cl t m z) (hl : cl.length ≤ 25) (hl2 : ∀ k ∈ cl, k < 25) {r c : Int} (hr : R32 r) (hc : R32 c) : ∀ (n : Nat) (y : Int), 0 ≤ y → y + n = cl.length →
    gRn K d 218 2 [some (.ref v), some (.int (I r)), some (.int (I c)), some (.int (I y))] [] H = some (.inl (some (.int (I (b2 (∃ k ∈ cl.drop y.toNat, oR cl t m k = r ∧ oC cl t m k = c))))), H) := by
  intro n
  obtain ⟨ra, ca, fr, fc, h1, -, h2, h3, h4⟩ := h
  have g0 := gf_of h1 0
  have g1 := gf_of h1 1
  simp only [List.getElem?_cons_succ, List.getElem?_cons_zero] at g0 g1
  have hxl : ∀ (g : Int32 → Option gO), xL K H ra g = g (I (cl.length : Int)) := fun g => by
    unfold xL
    rw [h2]
    show g (Int32.ofNat cl.length) = _
    rw [I_nat]
  induction n with
  | zero =>
    intro y hy hn
    rw [List.drop_eq_nil_of_le (by omega), b2F (by rintro ⟨k, hk, -⟩; cases hk)]
    refine e_218_2 _ ?_
    unfold t_218_2
    simp (disch := omega) only [rI_d, rJ_d, rR_d, rN_d, wF_d, xI_d, xJ_d, xD_d, xQ_d, yI_d, yJ_d, yD_d, yQ_d, dI_s, dJ_s, dR_s, dN_s, dN_n, dH_s, dX_s, dL_s, dD_s, dQ_s, bC_r, bC_t, kI_s, kJ_s, kF_s, kD_s, kR_s, kV_s, I_lit, I_neg, I_add, I_sub, I_mul, I_ltT, I_ltF, I_leT, I_leF, I_eqT, I_eqF, c_int, c_long, c_obj, c_arr, c_bool, c_boolN, c_boolF, vn_bool, c_charN, vn_char, b2_f, b2_t, Int.toNat_natCast, ↓reduceIte, eq_self, and_self, and_true, true_and, not_false_eq_true, not_true_eq_false, L_0_0, L_0_1, L_0_2, L_0_3, L_0_4, L_0_5, L_0_6, L_0_7, L_0_8, L_0_9, L_0_10, L_0_11, L_0_12, L_0_13, L_0_14, L_0_15, C_0, L_1_0, L_1_1, L_1_2, C_1, L_2_0, L_2_1, L_2_2, C_2, L_3_0, L_3_1, L_3_2, C_3, L_65_0, L_65_1, L_65_2, L_65_3, L_65_4, C_65, L_66_0, L_66_1, L_66_2, L_66_3, C_66, L_129_0, L_129_1, L_129_2, L_129_3, C_129, L_198_0, L_198_1, L_198_2, L_198_3, L_198_4, L_198_5, L_198_6, L_198_7, L_198_8, L_198_9, L_198_10, L_198_11, L_198_12, L_198_13, L_198_14, L_198_15, L_198_16, L_198_17, L_198_18, L_198_19, L_198_20, L_198_21, L_198_22, L_198_23, L_198_24, L_198_25, L_198_26, L_198_27, L_198_28, L_198_29, L_198_30, L_198_31, L_198_32, L_198_33, L_198_34, L_198_35, L_198_36, L_198_37, L_198_38, L_198_39, L_198_40, L_198_41, L_198_42, L_198_43, L_198_44, L_198_45, L_198_46, L_198_47, L_198_48, C_198, A_199, A_200, A_201, A_202, A_203, A_204, A_205, A_206, A_207, A_208, A_209, A_210, A_211, A_212, A_213, A_214, A_215, A_216, A_217, A_218, A_219, A_220, A_221, A_222, A_223, A_224, A_225, A_226, A_227, A_228, A_128, A_191, A_rf, A_rs, A_rt, Q_4, Q_67, Q_130, t_218_2_1, t_218_2_2, t_218_2_3, t_218_2_4, t_218_2_5, t_218_2_6, g0, hxl]
  | succ n ih =>
    intro y hy hn
    have hyl : y.toNat < cl.length := by omega
    have ih := ih (y + 1) (by omega) (by omega)
    rw [show (y + 1).toNat = y.toNat + 1 by omega] at ih
    have hk : cl[y.toNat]? = some cl[y.toNat] := List.getElem?_eq_getElem hyl
    rw [List.drop_eq_getElem_cons hyl]
    have hm := List.getElem_mem hyl
    generalize cl[y.toNat] = k at hk hm ⊢
    obtain ⟨c1, c2⟩ := h4 _ _ hk
    have b1 := oR_b (t := t) (m := m) hl2 hm
    have b2' := oC_b (t := t) (m := m) hl2 hm
    have ia := ia_of h2 (z := y) (by omega) (by omega)
    have ia2 := ia_of h3 (z := y) (by omega) (by omega)
    rw [c1] at ia
    rw [c2] at ia2
    refine e_218_2 _ ?_
    unfold t_218_2
    by_cases e1 : oR cl t m k = r
    · by_cases e2 : oC cl t m k = c
      · rw [b2T ⟨k, List.mem_cons_self, e1, e2⟩]
        simp (disch := omega) only [rI_d, rJ_d, rR_d, rN_d, wF_d, xI_d, xJ_d, xD_d, xQ_d, yI_d, yJ_d, yD_d, yQ_d, dI_s, dJ_s, dR_s, dN_s, dN_n, dH_s, dX_s, dL_s, dD_s, dQ_s, bC_r, bC_t, kI_s, kJ_s, kF_s, kD_s, kR_s, kV_s, I_lit, I_neg, I_add, I_sub, I_mul, I_ltT, I_ltF, I_leT, I_leF, I_eqT, I_eqF, c_int, c_long, c_obj, c_arr, c_bool, c_boolN, c_boolF, vn_bool, c_charN, vn_char, b2_f, b2_t, Int.toNat_natCast, ↓reduceIte, eq_self, and_self, and_true, true_and, not_false_eq_true, not_true_eq_false, L_0_0, L_0_1, L_0_2, L_0_3, L_0_4, L_0_5, L_0_6, L_0_7, L_0_8, L_0_9, L_0_10, L_0_11, L_0_12, L_0_13, L_0_14, L_0_15, C_0, L_1_0, L_1_1, L_1_2, C_1, L_2_0, L_2_1, L_2_2, C_2, L_3_0, L_3_1, L_3_2, C_3, L_65_0, L_65_1, L_65_2, L_65_3, L_65_4, C_65, L_66_0, L_66_1, L_66_2, L_66_3, C_66, L_129_0, L_129_1, L_129_2, L_129_3, C_129, L_198_0, L_198_1, L_198_2, L_198_3, L_198_4, L_198_5, L_198_6, L_198_7, L_198_8, L_198_9, L_198_10, L_198_11, L_198_12, L_198_13, L_198_14, L_198_15, L_198_16, L_198_17, L_198_18, L_198_19, L_198_20, L_198_21, L_198_22, L_198_23, L_198_24, L_198_25, L_198_26, L_198_27, L_198_28, L_198_29, L_198_30, L_198_31, L_198_32, L_198_33, L_198_34, L_198_35, L_198_36, L_198_37, L_198_38, L_198_39, L_198_40, L_198_41, L_198_42, L_198_43, L_198_44, L_198_45, L_198_46, L_198_47, L_198_48, C_198, A_199, A_200, A_201, A_202, A_203, A_204, A_205, A_206, A_207, A_208, A_209, A_210, A_211, A_212, A_213, A_214, A_215, A_216, A_217, A_218, A_219, A_220, A_221, A_222, A_223, A_224, A_225, A_226, A_227, A_228, A_128, A_191, A_rf, A_rs, A_rt, Q_4, Q_67, Q_130, t_218_2_1, t_218_2_2, t_218_2_3, t_218_2_4, t_218_2_5, t_218_2_6, g0, g1, hxl, ia, ia2]
      · rw [b2_of (q := ∃ k ∈ cl.drop (y.toNat + 1), oR cl t m k = r ∧ oC cl t m k = c)]
        · simp (disch := omega) only [rI_d, rJ_d, rR_d, rN_d, wF_d, xI_d, xJ_d, xD_d, xQ_d, yI_d, yJ_d, yD_d, yQ_d, dI_s, dJ_s, dR_s, dN_s, dN_n, dH_s, dX_s, dL_s, dD_s, dQ_s, bC_r, bC_t, kI_s, kJ_s, kF_s, kD_s, kR_s, kV_s, I_lit, I_neg, I_add, I_sub, I_mul, I_ltT, I_ltF, I_leT, I_leF, I_eqT, I_eqF, c_int, c_long, c_obj, c_arr, c_bool, c_boolN, c_boolF, vn_bool, c_charN, vn_char, b2_f, b2_t, Int.toNat_natCast, ↓reduceIte, eq_self, and_self, and_true, true_and, not_false_eq_true, not_true_eq_false, L_0_0, L_0_1, L_0_2, L_0_3, L_0_4, L_0_5, L_0_6, L_0_7, L_0_8, L_0_9, L_0_10, L_0_11, L_0_12, L_0_13, L_0_14, L_0_15, C_0, L_1_0, L_1_1, L_1_2, C_1, L_2_0, L_2_1, L_2_2, C_2, L_3_0, L_3_1, L_3_2, C_3, L_65_0, L_65_1, L_65_2, L_65_3, L_65_4, C_65, L_66_0, L_66_1, L_66_2, L_66_3, C_66, L_129_0, L_129_1, L_129_2, L_129_3, C_129, L_198_0, L_198_1, L_198_2, L_198_3, L_198_4, L_198_5, L_198_6, L_198_7, L_198_8, L_198_9, L_198_10, L_198_11, L_198_12, L_198_13, L_198_14, L_198_15, L_198_16, L_198_17, L_198_18, L_198_19, L_198_20, L_198_21, L_198_22, L_198_23, L_198_24, L_198_25, L_198_26, L_198_27, L_198_28, L_198_29, L_198_30, L_198_31, L_198_32, L_198_33, L_198_34, L_198_35, L_198_36, L_198_37, L_198_38, L_198_39, L_198_40, L_198_41, L_198_42, L_198_43, L_198_44, L_198_45, L_198_46, L_198_47, L_198_48, C_198, A_199, A_200, A_201, A_202, A_203, A_204, A_205, A_206, A_207, A_208, A_209, A_210, A_211, A_212, A_213, A_214, A_215, A_216, A_217, A_218, A_219, A_220, A_221, A_222, A_223, A_224, A_225, A_226, A_227, A_228, A_128, A_191, A_rf, A_rs, A_rt, Q_4, Q_67, Q_130, t_218_2_1, t_218_2_2, t_218_2_3, t_218_2_4, t_218_2_5, t_218_2_6, g0, g1, hxl, ia, ia2, ih]
        · constructor
          · rintro ⟨k', h1, h2⟩
            rcases List.mem_cons.mp h1 with rfl | h1
            · exact absurd h2.2 e2
            · exact ⟨k', h1, h2⟩
          · rintro ⟨k', h1, h2⟩
            exact ⟨k', List.mem_cons_of_mem _ h1, h2⟩
    · rw [b2_of (q := ∃ k ∈ cl.drop (y.toNat + 1), oR cl t m k = r ∧ oC cl t m k = c)]
      · simp (disch := omega) only [rI_d, rJ_d, rR_d, rN_d, wF_d, xI_d, xJ_d, xD_d, xQ_d, yI_d, yJ_d, yD_d, yQ_d, dI_s, dJ_s, dR_s, dN_s, dN_n, dH_s, dX_s, dL_s, dD_s, dQ_s, bC_r, bC_t, kI_s, kJ_s, kF_s, kD_s, kR_s, kV_s, I_lit, I_neg, I_add, I_sub, I_mul, I_ltT, I_ltF, I_leT, I_leF, I_eqT, I_eqF, c_int, c_long, c_obj, c_arr, c_bool, c_boolN, c_boolF, vn_bool, c_charN, vn_char, b2_f, b2_t, Int.toNat_natCast, ↓reduceIte, eq_self, and_self, and_true, true_and, not_false_eq_true, not_true_eq_false, L_0_0, L_0_1, L_0_2, L_0_3, L_0_4, L_0_5, L_0_6, L_0_7, L_0_8, L_0_9, L_0_10, L_0_11, L_0_12, L_0_13, L_0_14, L_0_15, C_0, L_1_0, L_1_1, L_1_2, C_1, L_2_0, L_2_1, L_2_2, C_2, L_3_0, L_3_1, L_3_2, C_3, L_65_0, L_65_1, L_65_2, L_65_3, L_65_4, C_65, L_66_0, L_66_1, L_66_2, L_66_3, C_66, L_129_0, L_129_1, L_129_2, L_129_3, C_129, L_198_0, L_198_1, L_198_2, L_198_3, L_198_4, L_198_5, L_198_6, L_198_7, L_198_8, L_198_9, L_198_10, L_198_11, L_198_12, L_198_13, L_198_14, L_198_15, L_198_16, L_198_17, L_198_18, L_198_19, L_198_20, L_198_21, L_198_22, L_198_23, L_198_24, L_198_25, L_198_26, L_198_27, L_198_28, L_198_29, L_198_30, L_198_31, L_198_32, L_198_33, L_198_34, L_198_35, L_198_36, L_198_37, L_198_38, L_198_39, L_198_40, L_198_41, L_198_42, L_198_43, L_198_44, L_198_45, L_198_46, L_198_47, L_198_48, C_198, A_199, A_200, A_201, A_202, A_203, A_204, A_205, A_206, A_207, A_208, A_209, A_210, A_211, A_212, A_213, A_214, A_215, A_216, A_217, A_218, A_219, A_220, A_221, A_222, A_223, A_224, A_225, A_226, A_227, A_228, A_128, A_191, A_rf, A_rs, A_rt, Q_4, Q_67, Q_130, t_218_2_1, t_218_2_2, t_218_2_3, t_218_2_4, t_218_2_5, t_218_2_6, g0, g1, hxl, ia, ia2, ih]
      · constructor
        · rintro ⟨k', h1, h2⟩
          rcases List.mem_cons.mp h1 with rfl | h1
          · exact absurd h2.1 e1
          · exact ⟨k', h1, h2⟩
        · rintro ⟨k', h1, h2⟩
          exact ⟨k', List.mem_cons_of_mem _ h1, h2⟩
theorem w_218 (hd : 1 ≤ d) (h : VA P H v cl t m z) (hl : cl.length ≤ 25) (hl2 : ∀ k ∈ cl, k < 25) {r c : Int} (hr : R32 r) (hc : R32 c) : gCa K d 218 [.ref v, .int (I r), .int (I c)] H = some (.inl (some (.int (I (b2 (∃ k ∈ cl, oR cl t m k = r ∧ oC cl t m k = c))))), H) := by
  obtain ⟨d, rfl, hd'⟩ := d_succ (show 0 + 1 ≤ d by omega)
  have := l_218 (K := K) (d := d) h hl hl2 hr hc cl.length 0 (by omega) (by omega)
  refine c_218 _ ?_
  unfold t_218_0
  simp only [I_lit, I_neg, I_add, I_sub, I_mul, I_ltT, I_ltF, I_leT, I_leF, I_eqT, I_eqF, c_int, c_long, c_obj, c_arr, c_bool, c_boolN, c_boolF, vn_bool, c_charN, vn_char, b2_f, b2_t]
  exact this
theorem l_159 (hd : 3 ≤ d) (h : SHP K P H ro a i M cl) (hl : cl.length ≤ 25) (hl2 : ∀ k ∈ cl, k < 25) {r c : Int} (hr : R32 r) (hc : R32 c) : ∀ (n : Nat) (y : Int) (o4 : Option Value), 0 ≤ y → y + n = cl.length →
    gRn K d 159 2 [some (.ref a), some (.int (I r)), some (.int (I c)), some (.int (I y)), o4] [] H = some (.inl (some (.int (I (b2 (∃ k ∈ cl.drop y.toNat, ((k / 5 : Nat) : Int) = r ∧ ((k % 5 : Nat) : Int) = c))))), H) := by
  intro n
  obtain ⟨p, mk, vr, h1, ⟨lmc, le, ca, c1, c2, hQ, c3, c4⟩, -⟩ := h
  have g2 := gf_of h1 2
  simp only [List.getElem?_cons_succ, List.getElem?_cons_zero] at g2
  have clp := cl_of c1
  have ws := w_110 (K := K) (d := d) (by omega) c1
  rw [c3] at ws
  induction n with
  | zero =>
    intro y o4 hy hn
    rw [List.drop_eq_nil_of_le (by omega), b2F (by rintro ⟨k, hk, -⟩; cases hk)]
    refine e_159_2 _ ?_
    unfold t_159_2
    simp (disch := omega) only [rI_d, rJ_d, rR_d, rN_d, wF_d, xI_d, xJ_d, xD_d, xQ_d, yI_d, yJ_d, yD_d, yQ_d, dI_s, dJ_s, dR_s, dN_s, dN_n, dH_s, dX_s, dL_s, dD_s, dQ_s, bC_r, bC_t, kI_s, kJ_s, kF_s, kD_s, kR_s, kV_s, I_lit, I_neg, I_add, I_sub, I_mul, I_ltT, I_ltF, I_leT, I_leF, I_eqT, I_eqF, c_int, c_long, c_obj, c_arr, c_bool, c_boolN, c_boolF, vn_bool, c_charN, vn_char, b2_f, b2_t, Int.toNat_natCast, ↓reduceIte, eq_self, and_self, and_true, true_and, not_false_eq_true, not_true_eq_false, L_0_0, L_0_1, L_0_2, L_0_3, L_0_4, L_0_5, L_0_6, L_0_7, L_0_8, L_0_9, L_0_10, L_0_11, L_0_12, L_0_13, L_0_14, L_0_15, C_0, L_1_0, L_1_1, L_1_2, C_1, L_2_0, L_2_1, L_2_2, C_2, L_3_0, L_3_1, L_3_2, C_3, L_65_0, L_65_1, L_65_2, L_65_3, L_65_4, C_65, L_66_0, L_66_1, L_66_2, L_66_3, C_66, L_129_0, L_129_1, L_129_2, L_129_3, C_129, L_198_0, L_198_1, L_198_2, L_198_3, L_198_4, L_198_5, L_198_6, L_198_7, L_198_8, L_198_9, L_198_10, L_198_11, L_198_12, L_198_13, L_198_14, L_198_15, L_198_16, L_198_17, L_198_18, L_198_19, L_198_20, L_198_21, L_198_22, L_198_23, L_198_24, L_198_25, L_198_26, L_198_27, L_198_28, L_198_29, L_198_30, L_198_31, L_198_32, L_198_33, L_198_34, L_198_35, L_198_36, L_198_37, L_198_38, L_198_39, L_198_40, L_198_41, L_198_42, L_198_43, L_198_44, L_198_45, L_198_46, L_198_47, L_198_48, C_198, A_199, A_200, A_201, A_202, A_203, A_204, A_205, A_206, A_207, A_208, A_209, A_210, A_211, A_212, A_213, A_214, A_215, A_216, A_217, A_218, A_219, A_220, A_221, A_222, A_223, A_224, A_225, A_226, A_227, A_228, A_128, A_191, A_rf, A_rs, A_rt, Q_4, Q_67, Q_130, t_159_2_1, t_159_2_2, t_159_2_3, t_159_2_4, t_159_2_5, g2, clp, ws]
  | succ n ih =>
    intro y o4 hy hn
    have hyl : y.toNat < cl.length := by omega
    have hk : cl[y.toNat]? = some cl[y.toNat] := List.getElem?_eq_getElem hyl
    rw [List.drop_eq_getElem_cons hyl]
    have hm := List.getElem_mem hyl
    generalize cl[y.toNat] = k at hk hm ⊢
    have hk25 := hl2 k hm
    obtain ⟨x, hx⟩ : ∃ x, ca[y.toNat]? = some x := ⟨_, List.getElem?_eq_getElem (by omega)⟩
    have hxc := c4 _ _ _ hx hk
    have wg := w_178 (K := K) (d := d) (by omega) c1 c2 hy hx (by omega)
    have clx := cl_of hxc
    have wa := w_198 (K := K) (d := d) (by omega) hxc (by omega) (by omega) hr hc
    have ih := ih (y + 1) (some (.ref x)) (by omega) (by omega)
    rw [show (y + 1).toNat = y.toNat + 1 by omega] at ih
    refine e_159_2 _ ?_
    unfold t_159_2
    by_cases e : ((k / 5 : Nat) : Int) = r ∧ ((k % 5 : Nat) : Int) = c
    · rw [b2T ⟨k, List.mem_cons_self, e⟩]
      rw [b2T e] at wa
      simp (disch := omega) only [rI_d, rJ_d, rR_d, rN_d, wF_d, xI_d, xJ_d, xD_d, xQ_d, yI_d, yJ_d, yD_d, yQ_d, dI_s, dJ_s, dR_s, dN_s, dN_n, dH_s, dX_s, dL_s, dD_s, dQ_s, bC_r, bC_t, kI_s, kJ_s, kF_s, kD_s, kR_s, kV_s, I_lit, I_neg, I_add, I_sub, I_mul, I_ltT, I_ltF, I_leT, I_leF, I_eqT, I_eqF, c_int, c_long, c_obj, c_arr, c_bool, c_boolN, c_boolF, vn_bool, c_charN, vn_char, b2_f, b2_t, Int.toNat_natCast, ↓reduceIte, eq_self, and_self, and_true, true_and, not_false_eq_true, not_true_eq_false, L_0_0, L_0_1, L_0_2, L_0_3, L_0_4, L_0_5, L_0_6, L_0_7, L_0_8, L_0_9, L_0_10, L_0_11, L_0_12, L_0_13, L_0_14, L_0_15, C_0, L_1_0, L_1_1, L_1_2, C_1, L_2_0, L_2_1, L_2_2, C_2, L_3_0, L_3_1, L_3_2, C_3, L_65_0, L_65_1, L_65_2, L_65_3, L_65_4, C_65, L_66_0, L_66_1, L_66_2, L_66_3, C_66, L_129_0, L_129_1, L_129_2, L_129_3, C_129, L_198_0, L_198_1, L_198_2, L_198_3, L_198_4, L_198_5, L_198_6, L_198_7, L_198_8, L_198_9, L_198_10, L_198_11, L_198_12, L_198_13, L_198_14, L_198_15, L_198_16, L_198_17, L_198_18, L_198_19, L_198_20, L_198_21, L_198_22, L_198_23, L_198_24, L_198_25, L_198_26, L_198_27, L_198_28, L_198_29, L_198_30, L_198_31, L_198_32, L_198_33, L_198_34, L_198_35, L_198_36, L_198_37, L_198_38, L_198_39, L_198_40, L_198_41, L_198_42, L_198_43, L_198_44, L_198_45, L_198_46, L_198_47, L_198_48, C_198, A_199, A_200, A_201, A_202, A_203, A_204, A_205, A_206, A_207, A_208, A_209, A_210, A_211, A_212, A_213, A_214, A_215, A_216, A_217, A_218, A_219, A_220, A_221, A_222, A_223, A_224, A_225, A_226, A_227, A_228, A_128, A_191, A_rf, A_rs, A_rt, Q_4, Q_67, Q_130, t_159_2_1, t_159_2_2, t_159_2_3, t_159_2_4, t_159_2_5, g2, clp, ws, wg, clx, wa]
    · rw [b2F e] at wa
      rw [b2_of (q := ∃ k ∈ cl.drop (y.toNat + 1), ((k / 5 : Nat) : Int) = r ∧ ((k % 5 : Nat) : Int) = c)]
      · simp (disch := omega) only [rI_d, rJ_d, rR_d, rN_d, wF_d, xI_d, xJ_d, xD_d, xQ_d, yI_d, yJ_d, yD_d, yQ_d, dI_s, dJ_s, dR_s, dN_s, dN_n, dH_s, dX_s, dL_s, dD_s, dQ_s, bC_r, bC_t, kI_s, kJ_s, kF_s, kD_s, kR_s, kV_s, I_lit, I_neg, I_add, I_sub, I_mul, I_ltT, I_ltF, I_leT, I_leF, I_eqT, I_eqF, c_int, c_long, c_obj, c_arr, c_bool, c_boolN, c_boolF, vn_bool, c_charN, vn_char, b2_f, b2_t, Int.toNat_natCast, ↓reduceIte, eq_self, and_self, and_true, true_and, not_false_eq_true, not_true_eq_false, L_0_0, L_0_1, L_0_2, L_0_3, L_0_4, L_0_5, L_0_6, L_0_7, L_0_8, L_0_9, L_0_10, L_0_11, L_0_12, L_0_13, L_0_14, L_0_15, C_0, L_1_0, L_1_1, L_1_2, C_1, L_2_0, L_2_1, L_2_2, C_2, L_3_0, L_3_1, L_3_2, C_3, L_65_0, L_65_1, L_65_2, L_65_3, L_65_4, C_65, L_66_0, L_66_1, L_66_2, L_66_3, C_66, L_129_0, L_129_1, L_129_2, L_129_3, C_129, L_198_0, L_198_1, L_198_2, L_198_3, L_198_4, L_198_5, L_198_6, L_198_7, L_198_8, L_198_9, L_198_10, L_198_11, L_198_12, L_198_13, L_198_14, L_198_15, L_198_16, L_198_17, L_198_18, L_198_19, L_198_20, L_198_21, L_198_22, L_198_23, L_198_24, L_198_25, L_198_26, L_198_27, L_198_28, L_198_29, L_198_30, L_198_31, L_198_32, L_198_33, L_198_34, L_198_35, L_198_36, L_198_37, L_198_38, L_198_39, L_198_40, L_198_41, L_198_42, L_198_43, L_198_44, L_198_45, L_198_46, L_198_47, L_198_48, C_198, A_199, A_200, A_201, A_202, A_203, A_204, A_205, A_206, A_207, A_208, A_209, A_210, A_211, A_212, A_213, A_214, A_215, A_216, A_217, A_218, A_219, A_220, A_221, A_222, A_223, A_224, A_225, A_226, A_227, A_228, A_128, A_191, A_rf, A_rs, A_rt, Q_4, Q_67, Q_130, t_159_2_1, t_159_2_2, t_159_2_3, t_159_2_4, t_159_2_5, g2, clp, ws, wg, clx, wa, ih]
      · constructor
        · rintro ⟨k', h1, h2⟩
          rcases List.mem_cons.mp h1 with rfl | h1
          · exact absurd h2 e
          · exact ⟨k', h1, h2⟩
        · rintro ⟨k', h1, h2⟩
          exact ⟨k', List.mem_cons_of_mem _ h1, h2⟩
theorem w_159 (hd : 4 ≤ d) (h : SHP K P H ro a i M cl) (hl : cl.length ≤ 25) (hl2 : ∀ k ∈ cl, k < 25) {r c : Int} (hr : R32 r) (hc : R32 c) : gCa K d 159 [.ref a, .int (I r), .int (I c)] H = some (.inl (some (.int (I (b2 (∃ k ∈ cl, ((k / 5 : Nat) : Int) = r ∧ ((k % 5 : Nat) : Int) = c))))), H) := by
  obtain ⟨d, rfl, hd'⟩ := d_succ (show 3 + 1 ≤ d by omega)
  have := l_159 (K := K) (d := d) (by omega) h hl hl2 hr hc cl.length 0 none (by omega) (by omega)
  refine c_159 _ ?_
  unfold t_159_0
  simp only [I_lit, I_neg, I_add, I_sub, I_mul, I_ltT, I_ltF, I_leT, I_leF, I_eqT, I_eqF, c_int, c_long, c_obj, c_arr, c_bool, c_boolN, c_boolF, vn_bool, c_charN, vn_char, b2_f, b2_t]
  exact this
theorem w_223 (hd : 2 ≤ d) (h : SHP K P H ro a i M cl) (hp : 0 ≤ M.2 201 i ∧ M.2 201 i ≤ 1) (h1 : 0 ≤ M.2 208 (2 * i) ∧ M.2 208 (2 * i) ≤ 9999) (h2 : 0 ≤ M.2 208 (2 * i + 1) ∧ M.2 208 (2 * i + 1) ≤ 9999) {c : Int} (hc : 1 ≤ c ∧ c ≤ 4) : gCa K d 223 [.ref a, .int (I c)] H = some (.inl (some (.int (I ((if M.2 201 i = 0 then M.2 208 (2 * i) else min (M.2 208 (2 * i)) (M.2 208 (2 * i + 1))) / c)))), H) := by
  obtain ⟨d, rfl, hd'⟩ := d_succ (show 1 + 1 ≤ d by omega)
  obtain ⟨p, mk, vr, h0, -⟩ := h
  have g1 := gf_of h0 1
  have g5 := gf_of h0 5
  have g6 := gf_of h0 6
  simp only [List.getElem?_cons_succ, List.getElem?_cons_zero] at g1 g5 g6
  have w := w_224 (K := K) (H := H) (d := d) (a := M.2 208 (2 * i)) (b := M.2 208 (2 * i + 1)) (by omega) (by omega) (by omega)
  refine c_223 _ ?_
  unfold t_223_0
  by_cases e : M.2 201 i = 0
  · rw [if_pos e]
    simp (disch := omega) only [rI_d, rJ_d, rR_d, rN_d, wF_d, xI_d, xJ_d, xD_d, xQ_d, yI_d, yJ_d, yD_d, yQ_d, dI_s, dJ_s, dR_s, dN_s, dN_n, dH_s, dX_s, dL_s, dD_s, dQ_s, bC_r, bC_t, kI_s, kJ_s, kF_s, kD_s, kR_s, kV_s, I_lit, I_neg, I_add, I_sub, I_mul, I_ltT, I_ltF, I_leT, I_leF, I_eqT, I_eqF, c_int, c_long, c_obj, c_arr, c_bool, c_boolN, c_boolF, vn_bool, c_charN, vn_char, b2_f, b2_t, Int.toNat_natCast, ↓reduceIte, eq_self, and_self, and_true, true_and, not_false_eq_true, not_true_eq_false, L_0_0, L_0_1, L_0_2, L_0_3, L_0_4, L_0_5, L_0_6, L_0_7, L_0_8, L_0_9, L_0_10, L_0_11, L_0_12, L_0_13, L_0_14, L_0_15, C_0, L_1_0, L_1_1, L_1_2, C_1, L_2_0, L_2_1, L_2_2, C_2, L_3_0, L_3_1, L_3_2, C_3, L_65_0, L_65_1, L_65_2, L_65_3, L_65_4, C_65, L_66_0, L_66_1, L_66_2, L_66_3, C_66, L_129_0, L_129_1, L_129_2, L_129_3, C_129, L_198_0, L_198_1, L_198_2, L_198_3, L_198_4, L_198_5, L_198_6, L_198_7, L_198_8, L_198_9, L_198_10, L_198_11, L_198_12, L_198_13, L_198_14, L_198_15, L_198_16, L_198_17, L_198_18, L_198_19, L_198_20, L_198_21, L_198_22, L_198_23, L_198_24, L_198_25, L_198_26, L_198_27, L_198_28, L_198_29, L_198_30, L_198_31, L_198_32, L_198_33, L_198_34, L_198_35, L_198_36, L_198_37, L_198_38, L_198_39, L_198_40, L_198_41, L_198_42, L_198_43, L_198_44, L_198_45, L_198_46, L_198_47, L_198_48, C_198, A_199, A_200, A_201, A_202, A_203, A_204, A_205, A_206, A_207, A_208, A_209, A_210, A_211, A_212, A_213, A_214, A_215, A_216, A_217, A_218, A_219, A_220, A_221, A_222, A_223, A_224, A_225, A_226, A_227, A_228, A_128, A_191, A_rf, A_rs, A_rt, Q_4, Q_67, Q_130, t_223_0_1, t_223_0_2, t_223_0_3, t_223_0_4, t_223_0_5, g1, g5, I_div]
  · rw [if_neg e]
    simp (disch := omega) only [rI_d, rJ_d, rR_d, rN_d, wF_d, xI_d, xJ_d, xD_d, xQ_d, yI_d, yJ_d, yD_d, yQ_d, dI_s, dJ_s, dR_s, dN_s, dN_n, dH_s, dX_s, dL_s, dD_s, dQ_s, bC_r, bC_t, kI_s, kJ_s, kF_s, kD_s, kR_s, kV_s, I_lit, I_neg, I_add, I_sub, I_mul, I_ltT, I_ltF, I_leT, I_leF, I_eqT, I_eqF, c_int, c_long, c_obj, c_arr, c_bool, c_boolN, c_boolF, vn_bool, c_charN, vn_char, b2_f, b2_t, Int.toNat_natCast, ↓reduceIte, eq_self, and_self, and_true, true_and, not_false_eq_true, not_true_eq_false, L_0_0, L_0_1, L_0_2, L_0_3, L_0_4, L_0_5, L_0_6, L_0_7, L_0_8, L_0_9, L_0_10, L_0_11, L_0_12, L_0_13, L_0_14, L_0_15, C_0, L_1_0, L_1_1, L_1_2, C_1, L_2_0, L_2_1, L_2_2, C_2, L_3_0, L_3_1, L_3_2, C_3, L_65_0, L_65_1, L_65_2, L_65_3, L_65_4, C_65, L_66_0, L_66_1, L_66_2, L_66_3, C_66, L_129_0, L_129_1, L_129_2, L_129_3, C_129, L_198_0, L_198_1, L_198_2, L_198_3, L_198_4, L_198_5, L_198_6, L_198_7, L_198_8, L_198_9, L_198_10, L_198_11, L_198_12, L_198_13, L_198_14, L_198_15, L_198_16, L_198_17, L_198_18, L_198_19, L_198_20, L_198_21, L_198_22, L_198_23, L_198_24, L_198_25, L_198_26, L_198_27, L_198_28, L_198_29, L_198_30, L_198_31, L_198_32, L_198_33, L_198_34, L_198_35, L_198_36, L_198_37, L_198_38, L_198_39, L_198_40, L_198_41, L_198_42, L_198_43, L_198_44, L_198_45, L_198_46, L_198_47, L_198_48, C_198, A_199, A_200, A_201, A_202, A_203, A_204, A_205, A_206, A_207, A_208, A_209, A_210, A_211, A_212, A_213, A_214, A_215, A_216, A_217, A_218, A_219, A_220, A_221, A_222, A_223, A_224, A_225, A_226, A_227, A_228, A_128, A_191, A_rf, A_rs, A_rt, Q_4, Q_67, Q_130, t_223_0_1, t_223_0_2, t_223_0_3, t_223_0_4, t_223_0_5, g1, g5, g6, w, I_div]
/-- a shape's stock taken -/
theorem w_225 (hd : 1 ≤ d) {fs : List Value} {x1 x5 x6 c : Int} (h : H.1 a = some (.inr (4, fs))) (hl : fs.length = 9) (g1 : fs[1]? = some (.int (I x1))) (g5 : fs[5]? = some (.int (I x5))) (g6 : fs[6]? = some (.int (I x6))) (hp : 0 ≤ x1 ∧ x1 ≤ 1) : gCa K d 225 [.ref a, .int (I c)] H = some (.inl none, gset H a (.inr (4, (fs.set 5 (.int (I (x5 - c)))).set 6 (.int (I (x6 - (if x1 = 0 then 0 else c))))))) := by
  obtain ⟨d, rfl, hd'⟩ := d_succ (show 0 + 1 ≤ d by omega)
  have q5 := gf_of h 5
  rw [g5] at q5
  have pf5 := pf_of (k := 5) (v := .int (I (x5 - c))) h (by omega)
  have h2 : (gset H a (.inr (4, fs.set 5 (.int (I (x5 - c)))))).1 a = some (.inr (4, fs.set 5 (.int (I (x5 - c))))) := gs_eq
  have q6 := gf_of h2 6
  have q1 := gf_of h2 1
  rw [List.getElem?_set_ne (by decide), g6] at q6
  rw [List.getElem?_set_ne (by decide), g1] at q1
  have pf6 := pf_of (k := 6) (v := .int (I (x6 - (if x1 = 0 then 0 else c)))) h2 (by rw [List.length_set]; omega)
  rw [gs_gs] at pf6
  refine c_225 _ ?_
  unfold t_225_0
  by_cases e : x1 = 0
  · rw [if_pos e] at pf6 ⊢
    simp (disch := omega) only [rI_d, rJ_d, rR_d, rN_d, wF_d, xI_d, xJ_d, xD_d, xQ_d, yI_d, yJ_d, yD_d, yQ_d, dI_s, dJ_s, dR_s, dN_s, dN_n, dH_s, dX_s, dL_s, dD_s, dQ_s, bC_r, bC_t, kI_s, kJ_s, kF_s, kD_s, kR_s, kV_s, I_lit, I_neg, I_add, I_sub, I_mul, I_ltT, I_ltF, I_leT, I_leF, I_eqT, I_eqF, c_int, c_long, c_obj, c_arr, c_bool, c_boolN, c_boolF, vn_bool, c_charN, vn_char, b2_f, b2_t, Int.toNat_natCast, ↓reduceIte, eq_self, and_self, and_true, true_and, not_false_eq_true, not_true_eq_false, L_0_0, L_0_1, L_0_2, L_0_3, L_0_4, L_0_5, L_0_6, L_0_7, L_0_8, L_0_9, L_0_10, L_0_11, L_0_12, L_0_13, L_0_14, L_0_15, C_0, L_1_0, L_1_1, L_1_2, C_1, L_2_0, L_2_1, L_2_2, C_2, L_3_0, L_3_1, L_3_2, C_3, L_65_0, L_65_1, L_65_2, L_65_3, L_65_4, C_65, L_66_0, L_66_1, L_66_2, L_66_3, C_66, L_129_0, L_129_1, L_129_2, L_129_3, C_129, L_198_0, L_198_1, L_198_2, L_198_3, L_198_4, L_198_5, L_198_6, L_198_7, L_198_8, L_198_9, L_198_10, L_198_11, L_198_12, L_198_13, L_198_14, L_198_15, L_198_16, L_198_17, L_198_18, L_198_19, L_198_20, L_198_21, L_198_22, L_198_23, L_198_24, L_198_25, L_198_26, L_198_27, L_198_28, L_198_29, L_198_30, L_198_31, L_198_32, L_198_33, L_198_34, L_198_35, L_198_36, L_198_37, L_198_38, L_198_39, L_198_40, L_198_41, L_198_42, L_198_43, L_198_44, L_198_45, L_198_46, L_198_47, L_198_48, C_198, A_199, A_200, A_201, A_202, A_203, A_204, A_205, A_206, A_207, A_208, A_209, A_210, A_211, A_212, A_213, A_214, A_215, A_216, A_217, A_218, A_219, A_220, A_221, A_222, A_223, A_224, A_225, A_226, A_227, A_228, A_128, A_191, A_rf, A_rs, A_rt, Q_4, Q_67, Q_130, t_225_0_1, t_225_0_2, t_225_0_3, t_225_0_4, t_225_0_5, t_225_0_6, q5, pf5, q6, q1, pf6]
  · rw [if_neg e] at pf6 ⊢
    simp (disch := omega) only [rI_d, rJ_d, rR_d, rN_d, wF_d, xI_d, xJ_d, xD_d, xQ_d, yI_d, yJ_d, yD_d, yQ_d, dI_s, dJ_s, dR_s, dN_s, dN_n, dH_s, dX_s, dL_s, dD_s, dQ_s, bC_r, bC_t, kI_s, kJ_s, kF_s, kD_s, kR_s, kV_s, I_lit, I_neg, I_add, I_sub, I_mul, I_ltT, I_ltF, I_leT, I_leF, I_eqT, I_eqF, c_int, c_long, c_obj, c_arr, c_bool, c_boolN, c_boolF, vn_bool, c_charN, vn_char, b2_f, b2_t, Int.toNat_natCast, ↓reduceIte, eq_self, and_self, and_true, true_and, not_false_eq_true, not_true_eq_false, L_0_0, L_0_1, L_0_2, L_0_3, L_0_4, L_0_5, L_0_6, L_0_7, L_0_8, L_0_9, L_0_10, L_0_11, L_0_12, L_0_13, L_0_14, L_0_15, C_0, L_1_0, L_1_1, L_1_2, C_1, L_2_0, L_2_1, L_2_2, C_2, L_3_0, L_3_1, L_3_2, C_3, L_65_0, L_65_1, L_65_2, L_65_3, L_65_4, C_65, L_66_0, L_66_1, L_66_2, L_66_3, C_66, L_129_0, L_129_1, L_129_2, L_129_3, C_129, L_198_0, L_198_1, L_198_2, L_198_3, L_198_4, L_198_5, L_198_6, L_198_7, L_198_8, L_198_9, L_198_10, L_198_11, L_198_12, L_198_13, L_198_14, L_198_15, L_198_16, L_198_17, L_198_18, L_198_19, L_198_20, L_198_21, L_198_22, L_198_23, L_198_24, L_198_25, L_198_26, L_198_27, L_198_28, L_198_29, L_198_30, L_198_31, L_198_32, L_198_33, L_198_34, L_198_35, L_198_36, L_198_37, L_198_38, L_198_39, L_198_40, L_198_41, L_198_42, L_198_43, L_198_44, L_198_45, L_198_46, L_198_47, L_198_48, C_198, A_199, A_200, A_201, A_202, A_203, A_204, A_205, A_206, A_207, A_208, A_209, A_210, A_211, A_212, A_213, A_214, A_215, A_216, A_217, A_218, A_219, A_220, A_221, A_222, A_223, A_224, A_225, A_226, A_227, A_228, A_128, A_191, A_rf, A_rs, A_rt, Q_4, Q_67, Q_130, t_225_0_1, t_225_0_2, t_225_0_3, t_225_0_4, t_225_0_5, t_225_0_6, q5, pf5, q6, q1, pf6]
end
