/-! PURE 44: cells and variants -/
set_option maxRecDepth 100000
def CE (H : gH) (a : Nat) (r c : Int) : Prop := H.1 a = some (.inr (5, [.int (I r), .int (I c)]))
theorem gs_gs {H : gH} {a : Nat} {e e' : gE} : gset (gset H a e) a e' = gset H a e' := by
  refine Prod.ext (funext fun q => ?_) rfl
  show (if q = a then some e' else if q = a then some e else H.1 q) = (if q = a then some e' else H.1 q)
  by_cases h : q = a
  · rw [if_pos h, if_pos h]
  · rw [if_neg h, if_neg h, if_neg h]
theorem gs_gn {H : gH} {e e' : gE} {n : Nat} : gset (gnew H e n) H.2.1 e' = gnew H e' n := by
  refine Prod.ext (funext fun q => ?_) rfl
  show (if q = H.2.1 then some e' else if q = H.2.1 then some e else H.1 q) = (if q = H.2.1 then some e' else H.1 q)
  by_cases h : q = H.2.1
  · rw [if_pos h, if_pos h]
  · rw [if_neg h, if_neg h, if_neg h]
abbrev noW : Nat → Prop := fun _ => False
section
variable {K : gK} {d : Nat} {H : gH} {a : Nat} {r c : Int}
theorem w_161 (hd : 1 ≤ d) {x y : Value} (h : H.1 a = some (.inr (5, [x, y]))) : gCa K d 161 [.ref a, .int (I r), .int (I c)] H = some (.inl none, gset H a (.inr (5, [.int (I r), .int (I c)]))) := by
  obtain ⟨d, rfl, -⟩ := d_succ hd
  have pf := pf_of (k := 0) (v := .int (I r)) h (Nat.le_of_ble_eq_true rfl)
  rw [List.set_cons_zero] at pf
  have h2 : (gset H a (.inr (5, [.int (I r), y]))).1 a = some (.inr (5, [.int (I r), y])) := gs_eq
  have pf2 := pf_of (k := 1) (v := .int (I c)) h2 (Nat.le_of_ble_eq_true rfl)
  rw [List.set_cons_succ, List.set_cons_zero, gs_gs] at pf2
  refine c_161 _ ?_
  unfold t_161_0
  simp (disch := omega) only [rI_d, rJ_d, rR_d, rN_d, wF_d, xI_d, xJ_d, xD_d, xQ_d, yI_d, yJ_d, yD_d, yQ_d, dI_s, dJ_s, dR_s, dN_s, dN_n, dH_s, dX_s, dL_s, dD_s, dQ_s, bC_r, bC_t, kI_s, kJ_s, kF_s, kD_s, kR_s, kV_s, I_lit, I_neg, I_add, I_sub, I_mul, I_ltT, I_ltF, I_leT, I_leF, I_eqT, I_eqF, c_int, c_long, c_obj, c_arr, c_bool, c_boolN, c_boolF, vn_bool, c_charN, vn_char, b2_f, b2_t, Int.toNat_natCast, ↓reduceIte, eq_self, and_self, and_true, true_and, not_false_eq_true, not_true_eq_false, L_0_0, L_0_1, L_0_2, L_0_3, L_0_4, L_0_5, L_0_6, L_0_7, L_0_8, L_0_9, L_0_10, L_0_11, L_0_12, L_0_13, L_0_14, L_0_15, C_0, L_1_0, L_1_1, L_1_2, C_1, L_2_0, L_2_1, L_2_2, C_2, L_3_0, L_3_1, L_3_2, C_3, L_65_0, L_65_1, L_65_2, L_65_3, L_65_4, C_65, L_66_0, L_66_1, L_66_2, L_66_3, C_66, L_129_0, L_129_1, L_129_2, L_129_3, C_129, L_198_0, L_198_1, L_198_2, L_198_3, L_198_4, L_198_5, L_198_6, L_198_7, L_198_8, L_198_9, L_198_10, L_198_11, L_198_12, L_198_13, L_198_14, L_198_15, L_198_16, L_198_17, L_198_18, L_198_19, L_198_20, L_198_21, L_198_22, L_198_23, L_198_24, L_198_25, L_198_26, L_198_27, L_198_28, L_198_29, L_198_30, L_198_31, L_198_32, L_198_33, L_198_34, L_198_35, L_198_36, L_198_37, L_198_38, L_198_39, L_198_40, L_198_41, L_198_42, L_198_43, L_198_44, L_198_45, L_198_46, L_198_47, L_198_48, C_198, A_199, A_200, A_201, A_202, A_203, A_204, A_205, A_206, A_207, A_208, A_209, A_210, A_211, A_212, A_213, A_214, A_215, A_216, A_217, A_218, A_219, A_220, A_221, A_222, A_223, A_224, A_225, A_226, A_227, A_228, A_128, A_191, A_rf, A_rs, A_rt, Q_4, Q_67, Q_130, t_161_0_1, t_161_0_2, pf, pf2]
/-- a cell made -/
theorem mkCell (hd : 1 ≤ d) : gCa K d 161 [.ref H.2.1, .int (I r), .int (I c)] (gnew H (.inr (5, [.int (I 0), .int (I 0)])) 2) = some (.inl none, gnew H (.inr (5, [.int (I r), .int (I c)])) 2) := by
  have := w_161 (K := K) (d := d) (r := r) (c := c) hd (gn_eq (H := H) (e := .inr (5, [.int (I 0), .int (I 0)])) (n := 2))
  rw [gs_gn] at this
  exact this
theorem w_198 (hd : 1 ≤ d) (h : CE H a r c) (hr : 0 ≤ r ∧ r ≤ 4) (hc : 0 ≤ c ∧ c ≤ 4) {y x : Int} (hy : R32 y) (hx : R32 x) : gCa K d 198 [.ref a, .int (I y), .int (I x)] H = some (.inl (some (.int (I (b2 (r = y ∧ c = x))))), H) := by
  obtain ⟨d, rfl, -⟩ := d_succ hd
  have g0 := gf_of h 0
  have g1 := gf_of h 1
  simp only [List.getElem?_cons_succ, List.getElem?_cons_zero] at g0 g1
  refine c_198 _ ?_
  unfold t_198_0
  by_cases e1 : r = y
  · by_cases e2 : c = x
    · rw [b2T ⟨e1, e2⟩]
      simp (disch := omega) only [rI_d, rJ_d, rR_d, rN_d, wF_d, xI_d, xJ_d, xD_d, xQ_d, yI_d, yJ_d, yD_d, yQ_d, dI_s, dJ_s, dR_s, dN_s, dN_n, dH_s, dX_s, dL_s, dD_s, dQ_s, bC_r, bC_t, kI_s, kJ_s, kF_s, kD_s, kR_s, kV_s, I_lit, I_neg, I_add, I_sub, I_mul, I_ltT, I_ltF, I_leT, I_leF, I_eqT, I_eqF, c_int, c_long, c_obj, c_arr, c_bool, c_boolN, c_boolF, vn_bool, c_charN, vn_char, b2_f, b2_t, Int.toNat_natCast, ↓reduceIte, eq_self, and_self, and_true, true_and, not_false_eq_true, not_true_eq_false, L_0_0, L_0_1, L_0_2, L_0_3, L_0_4, L_0_5, L_0_6, L_0_7, L_0_8, L_0_9, L_0_10, L_0_11, L_0_12, L_0_13, L_0_14, L_0_15, C_0, L_1_0, L_1_1, L_1_2, C_1, L_2_0, L_2_1, L_2_2, C_2, L_3_0, L_3_1, L_3_2, C_3, L_65_0, L_65_1, L_65_2, L_65_3, L_65_4, C_65, L_66_0, L_66_1, L_66_2, L_66_3, C_66, L_129_0, L_129_1, L_129_2, L_129_3, C_129, L_198_0, L_198_1, L_198_2, L_198_3, L_198_4, L_198_5, L_198_6, L_198_7, L_198_8, L_198_9, L_198_10, L_198_11, L_198_12, L_198_13, L_198_14, L_198_15, L_198_16, L_198_17, L_198_18, L_198_19, L_198_20, L_198_21, L_198_22, L_198_23, L_198_24, L_198_25, L_198_26, L_198_27, L_198_28, L_198_29, L_198_30, L_198_31, L_198_32, L_198_33, L_198_34, L_198_35, L_198_36, L_198_37, L_198_38, L_198_39, L_198_40, L_198_41, L_198_42, L_198_43, L_198_44, L_198_45, L_198_46, L_198_47, L_198_48, C_198, A_199, A_200, A_201, A_202, A_203, A_204, A_205, A_206, A_207, A_208, A_209, A_210, A_211, A_212, A_213, A_214, A_215, A_216, A_217, A_218, A_219, A_220, A_221, A_222, A_223, A_224, A_225, A_226, A_227, A_228, A_128, A_191, A_rf, A_rs, A_rt, Q_4, Q_67, Q_130, t_198_0_1, t_198_0_2, g0, g1]
    · rw [b2F (fun q => e2 q.2)]
      simp (disch := omega) only [rI_d, rJ_d, rR_d, rN_d, wF_d, xI_d, xJ_d, xD_d, xQ_d, yI_d, yJ_d, yD_d, yQ_d, dI_s, dJ_s, dR_s, dN_s, dN_n, dH_s, dX_s, dL_s, dD_s, dQ_s, bC_r, bC_t, kI_s, kJ_s, kF_s, kD_s, kR_s, kV_s, I_lit, I_neg, I_add, I_sub, I_mul, I_ltT, I_ltF, I_leT, I_leF, I_eqT, I_eqF, c_int, c_long, c_obj, c_arr, c_bool, c_boolN, c_boolF, vn_bool, c_charN, vn_char, b2_f, b2_t, Int.toNat_natCast, ↓reduceIte, eq_self, and_self, and_true, true_and, not_false_eq_true, not_true_eq_false, L_0_0, L_0_1, L_0_2, L_0_3, L_0_4, L_0_5, L_0_6, L_0_7, L_0_8, L_0_9, L_0_10, L_0_11, L_0_12, L_0_13, L_0_14, L_0_15, C_0, L_1_0, L_1_1, L_1_2, C_1, L_2_0, L_2_1, L_2_2, C_2, L_3_0, L_3_1, L_3_2, C_3, L_65_0, L_65_1, L_65_2, L_65_3, L_65_4, C_65, L_66_0, L_66_1, L_66_2, L_66_3, C_66, L_129_0, L_129_1, L_129_2, L_129_3, C_129, L_198_0, L_198_1, L_198_2, L_198_3, L_198_4, L_198_5, L_198_6, L_198_7, L_198_8, L_198_9, L_198_10, L_198_11, L_198_12, L_198_13, L_198_14, L_198_15, L_198_16, L_198_17, L_198_18, L_198_19, L_198_20, L_198_21, L_198_22, L_198_23, L_198_24, L_198_25, L_198_26, L_198_27, L_198_28, L_198_29, L_198_30, L_198_31, L_198_32, L_198_33, L_198_34, L_198_35, L_198_36, L_198_37, L_198_38, L_198_39, L_198_40, L_198_41, L_198_42, L_198_43, L_198_44, L_198_45, L_198_46, L_198_47, L_198_48, C_198, A_199, A_200, A_201, A_202, A_203, A_204, A_205, A_206, A_207, A_208, A_209, A_210, A_211, A_212, A_213, A_214, A_215, A_216, A_217, A_218, A_219, A_220, A_221, A_222, A_223, A_224, A_225, A_226, A_227, A_228, A_128, A_191, A_rf, A_rs, A_rt, Q_4, Q_67, Q_130, t_198_0_1, t_198_0_2, g0, g1]
  · rw [b2F (fun q => e1 q.1)]
    simp (disch := omega) only [rI_d, rJ_d, rR_d, rN_d, wF_d, xI_d, xJ_d, xD_d, xQ_d, yI_d, yJ_d, yD_d, yQ_d, dI_s, dJ_s, dR_s, dN_s, dN_n, dH_s, dX_s, dL_s, dD_s, dQ_s, bC_r, bC_t, kI_s, kJ_s, kF_s, kD_s, kR_s, kV_s, I_lit, I_neg, I_add, I_sub, I_mul, I_ltT, I_ltF, I_leT, I_leF, I_eqT, I_eqF, c_int, c_long, c_obj, c_arr, c_bool, c_boolN, c_boolF, vn_bool, c_charN, vn_char, b2_f, b2_t, Int.toNat_natCast, ↓reduceIte, eq_self, and_self, and_true, true_and, not_false_eq_true, not_true_eq_false, L_0_0, L_0_1, L_0_2, L_0_3, L_0_4, L_0_5, L_0_6, L_0_7, L_0_8, L_0_9, L_0_10, L_0_11, L_0_12, L_0_13, L_0_14, L_0_15, C_0, L_1_0, L_1_1, L_1_2, C_1, L_2_0, L_2_1, L_2_2, C_2, L_3_0, L_3_1, L_3_2, C_3, L_65_0, L_65_1, L_65_2, L_65_3, L_65_4, C_65, L_66_0, L_66_1, L_66_2, L_66_3, C_66, L_129_0, L_129_1, L_129_2, L_129_3, C_129, L_198_0, L_198_1, L_198_2, L_198_3, L_198_4, L_198_5, L_198_6, L_198_7, L_198_8, L_198_9, L_198_10, L_198_11, L_198_12, L_198_13, L_198_14, L_198_15, L_198_16, L_198_17, L_198_18, L_198_19, L_198_20, L_198_21, L_198_22, L_198_23, L_198_24, L_198_25, L_198_26, L_198_27, L_198_28, L_198_29, L_198_30, L_198_31, L_198_32, L_198_33, L_198_34, L_198_35, L_198_36, L_198_37, L_198_38, L_198_39, L_198_40, L_198_41, L_198_42, L_198_43, L_198_44, L_198_45, L_198_46, L_198_47, L_198_48, C_198, A_199, A_200, A_201, A_202, A_203, A_204, A_205, A_206, A_207, A_208, A_209, A_210, A_211, A_212, A_213, A_214, A_215, A_216, A_217, A_218, A_219, A_220, A_221, A_222, A_223, A_224, A_225, A_226, A_227, A_228, A_128, A_191, A_rf, A_rs, A_rt, Q_4, Q_67, Q_130, t_198_0_1, t_198_0_2, g0, g1]
theorem l_227 (hd : 1 ≤ d) {l0 : Nat} {m t R C : Int} (ht : 0 ≤ t ∧ t ≤ 3) : ∀ (n : Nat) (z : Int) (b : Nat) (H : gH), HB H → 0 ≤ z → z + n = t → CE H b (tR z R C) (tC z R C) →
    ∃ H' b', gRn K d 227 29 [some (.ref l0), some (.int (I m)), some (.int (I t)), some (.ref b), some (.int (I z))] [] H = some (.inl (some (.ref b')), H') ∧ CE H' b' (tR t R C) (tC t R C) ∧ FR noW n (2 * n) H H' := by
  intro n
  induction n with
  | zero =>
    intro z b H hb hz hn h
    rw [show z = t by omega] at h ⊢
    refine ⟨H, b, e_227_29 _ ?_, h, FR.rf hb⟩
    unfold t_227_29
    simp (disch := omega) only [rI_d, rJ_d, rR_d, rN_d, wF_d, xI_d, xJ_d, xD_d, xQ_d, yI_d, yJ_d, yD_d, yQ_d, dI_s, dJ_s, dR_s, dN_s, dN_n, dH_s, dX_s, dL_s, dD_s, dQ_s, bC_r, bC_t, kI_s, kJ_s, kF_s, kD_s, kR_s, kV_s, I_lit, I_neg, I_add, I_sub, I_mul, I_ltT, I_ltF, I_leT, I_leF, I_eqT, I_eqF, c_int, c_long, c_obj, c_arr, c_bool, c_boolN, c_boolF, vn_bool, c_charN, vn_char, b2_f, b2_t, Int.toNat_natCast, ↓reduceIte, eq_self, and_self, and_true, true_and, not_false_eq_true, not_true_eq_false, L_0_0, L_0_1, L_0_2, L_0_3, L_0_4, L_0_5, L_0_6, L_0_7, L_0_8, L_0_9, L_0_10, L_0_11, L_0_12, L_0_13, L_0_14, L_0_15, C_0, L_1_0, L_1_1, L_1_2, C_1, L_2_0, L_2_1, L_2_2, C_2, L_3_0, L_3_1, L_3_2, C_3, L_65_0, L_65_1, L_65_2, L_65_3, L_65_4, C_65, L_66_0, L_66_1, L_66_2, L_66_3, C_66, L_129_0, L_129_1, L_129_2, L_129_3, C_129, L_198_0, L_198_1, L_198_2, L_198_3, L_198_4, L_198_5, L_198_6, L_198_7, L_198_8, L_198_9, L_198_10, L_198_11, L_198_12, L_198_13, L_198_14, L_198_15, L_198_16, L_198_17, L_198_18, L_198_19, L_198_20, L_198_21, L_198_22, L_198_23, L_198_24, L_198_25, L_198_26, L_198_27, L_198_28, L_198_29, L_198_30, L_198_31, L_198_32, L_198_33, L_198_34, L_198_35, L_198_36, L_198_37, L_198_38, L_198_39, L_198_40, L_198_41, L_198_42, L_198_43, L_198_44, L_198_45, L_198_46, L_198_47, L_198_48, C_198, A_199, A_200, A_201, A_202, A_203, A_204, A_205, A_206, A_207, A_208, A_209, A_210, A_211, A_212, A_213, A_214, A_215, A_216, A_217, A_218, A_219, A_220, A_221, A_222, A_223, A_224, A_225, A_226, A_227, A_228, A_128, A_191, A_rf, A_rs, A_rt, Q_4, Q_67, Q_130, t_227_0_1, t_227_0_2, t_227_0_3, t_227_29_1, t_227_29_2, t_227_29_3]
  | succ n ih =>
    intro z b H hb hz hn h
    have hlt := hb.lt h
    have h' : CE (gnew H (.inr (5, [.int (I 0), .int (I 0)])) 2) b (tR z R C) (tC z R C) := (gn_lt hlt).trans h
    have g0 := gf_of h' 0
    have g1 := gf_of h' 1
    simp only [List.getElem?_cons_succ, List.getElem?_cons_zero] at g0 g1
    have e1 : tC z R C = tR (z + 1) R C := by
      unfold tC tR
      rcases (show z = 0 ∨ z = 1 ∨ z = 2 by omega) with rfl | rfl | rfl <;> simp
    have e2 : 4 - tR z R C = tC (z + 1) R C := by
      unfold tC tR
      rcases (show z = 0 ∨ z = 1 ∨ z = 2 by omega) with rfl | rfl | rfl <;> simp
      omega
    have w := mkCell (K := K) (d := d) (H := H) (r := tC z R C) (c := 4 - tR z R C) hd
    obtain ⟨H', b', k1, k2, k3⟩ := ih (z + 1) H.2.1 (gnew H (.inr (5, [.int (I (tC z R C)), .int (I (4 - tR z R C))])) 2) hb.new (by omega) (by omega) (by rw [← e1, ← e2]; exact gn_eq)
    refine ⟨H', b', e_227_29 _ ?_, k2, ((FR.new hb).tr k3).le (by omega) (by omega)⟩
    unfold t_227_29
    simp (disch := omega) only [rI_d, rJ_d, rR_d, rN_d, wF_d, xI_d, xJ_d, xD_d, xQ_d, yI_d, yJ_d, yD_d, yQ_d, dI_s, dJ_s, dR_s, dN_s, dN_n, dH_s, dX_s, dL_s, dD_s, dQ_s, bC_r, bC_t, kI_s, kJ_s, kF_s, kD_s, kR_s, kV_s, I_lit, I_neg, I_add, I_sub, I_mul, I_ltT, I_ltF, I_leT, I_leF, I_eqT, I_eqF, c_int, c_long, c_obj, c_arr, c_bool, c_boolN, c_boolF, vn_bool, c_charN, vn_char, b2_f, b2_t, Int.toNat_natCast, ↓reduceIte, eq_self, and_self, and_true, true_and, not_false_eq_true, not_true_eq_false, L_0_0, L_0_1, L_0_2, L_0_3, L_0_4, L_0_5, L_0_6, L_0_7, L_0_8, L_0_9, L_0_10, L_0_11, L_0_12, L_0_13, L_0_14, L_0_15, C_0, L_1_0, L_1_1, L_1_2, C_1, L_2_0, L_2_1, L_2_2, C_2, L_3_0, L_3_1, L_3_2, C_3, L_65_0, L_65_1, L_65_2, L_65_3, L_65_4, C_65, L_66_0, L_66_1, L_66_2, L_66_3, C_66, L_129_0, L_129_1, L_129_2, L_129_3, C_129, L_198_0, L_198_1, L_198_2, L_198_3, L_198_4, L_198_5, L_198_6, L_198_7, L_198_8, L_198_9, L_198_10, L_198_11, L_198_12, L_198_13, L_198_14, L_198_15, L_198_16, L_198_17, L_198_18, L_198_19, L_198_20, L_198_21, L_198_22, L_198_23, L_198_24, L_198_25, L_198_26, L_198_27, L_198_28, L_198_29, L_198_30, L_198_31, L_198_32, L_198_33, L_198_34, L_198_35, L_198_36, L_198_37, L_198_38, L_198_39, L_198_40, L_198_41, L_198_42, L_198_43, L_198_44, L_198_45, L_198_46, L_198_47, L_198_48, C_198, A_199, A_200, A_201, A_202, A_203, A_204, A_205, A_206, A_207, A_208, A_209, A_210, A_211, A_212, A_213, A_214, A_215, A_216, A_217, A_218, A_219, A_220, A_221, A_222, A_223, A_224, A_225, A_226, A_227, A_228, A_128, A_191, A_rf, A_rs, A_rt, Q_4, Q_67, Q_130, t_227_0_1, t_227_0_2, t_227_0_3, t_227_29_1, t_227_29_2, t_227_29_3, g0, g1, w, k1]
theorem w_227 (hd : 2 ≤ d) (hb : HB H) (h : CE H a r c) {m t : Int} (hm : 0 ≤ m ∧ m ≤ 1) (ht : 0 ≤ t ∧ t ≤ 3) : ∃ H' b', gCa K d 227 [.ref a, .int (I m), .int (I t)] H = some (.inl (some (.ref b')), H') ∧ CE H' b' (tR t r (mC m c)) (tC t r (mC m c)) ∧ FR noW 4 8 H H' := by
  obtain ⟨d, rfl, hd'⟩ := d_succ (show 1 + 1 ≤ d by omega)
  have hlt := hb.lt h
  by_cases e : m = 0
  · subst e
    obtain ⟨H', b', k1, k2, k3⟩ := l_227 (K := K) (d := d) (l0 := a) (m := 0) (t := t) (R := r) (C := mC 0 c) (by omega) ht t.toNat 0 a H hb (by omega) (by omega) h
    refine ⟨H', b', c_227 _ ?_, k2, k3.le (by omega) (by omega)⟩
    unfold t_227_0
    simp (disch := omega) only [rI_d, rJ_d, rR_d, rN_d, wF_d, xI_d, xJ_d, xD_d, xQ_d, yI_d, yJ_d, yD_d, yQ_d, dI_s, dJ_s, dR_s, dN_s, dN_n, dH_s, dX_s, dL_s, dD_s, dQ_s, bC_r, bC_t, kI_s, kJ_s, kF_s, kD_s, kR_s, kV_s, I_lit, I_neg, I_add, I_sub, I_mul, I_ltT, I_ltF, I_leT, I_leF, I_eqT, I_eqF, c_int, c_long, c_obj, c_arr, c_bool, c_boolN, c_boolF, vn_bool, c_charN, vn_char, b2_f, b2_t, Int.toNat_natCast, ↓reduceIte, eq_self, and_self, and_true, true_and, not_false_eq_true, not_true_eq_false, L_0_0, L_0_1, L_0_2, L_0_3, L_0_4, L_0_5, L_0_6, L_0_7, L_0_8, L_0_9, L_0_10, L_0_11, L_0_12, L_0_13, L_0_14, L_0_15, C_0, L_1_0, L_1_1, L_1_2, C_1, L_2_0, L_2_1, L_2_2, C_2, L_3_0, L_3_1, L_3_2, C_3, L_65_0, L_65_1, L_65_2, L_65_3, L_65_4, C_65, L_66_0, L_66_1, L_66_2, L_66_3, C_66, L_129_0, L_129_1, L_129_2, L_129_3, C_129, L_198_0, L_198_1, L_198_2, L_198_3, L_198_4, L_198_5, L_198_6, L_198_7, L_198_8, L_198_9, L_198_10, L_198_11, L_198_12, L_198_13, L_198_14, L_198_15, L_198_16, L_198_17, L_198_18, L_198_19, L_198_20, L_198_21, L_198_22, L_198_23, L_198_24, L_198_25, L_198_26, L_198_27, L_198_28, L_198_29, L_198_30, L_198_31, L_198_32, L_198_33, L_198_34, L_198_35, L_198_36, L_198_37, L_198_38, L_198_39, L_198_40, L_198_41, L_198_42, L_198_43, L_198_44, L_198_45, L_198_46, L_198_47, L_198_48, C_198, A_199, A_200, A_201, A_202, A_203, A_204, A_205, A_206, A_207, A_208, A_209, A_210, A_211, A_212, A_213, A_214, A_215, A_216, A_217, A_218, A_219, A_220, A_221, A_222, A_223, A_224, A_225, A_226, A_227, A_228, A_128, A_191, A_rf, A_rs, A_rt, Q_4, Q_67, Q_130, t_227_0_1, t_227_0_2, t_227_0_3, t_227_29_1, t_227_29_2, t_227_29_3, k1]
  · have h' : CE (gnew H (.inr (5, [.int (I 0), .int (I 0)])) 2) a r c := (gn_lt hlt).trans h
    have g0 := gf_of h' 0
    have g1 := gf_of h' 1
    simp only [List.getElem?_cons_succ, List.getElem?_cons_zero] at g0 g1
    have em : mC m c = 4 - c := if_neg e
    have w := mkCell (K := K) (d := d) (H := H) (r := r) (c := 4 - c) hd'
    obtain ⟨H', b', k1, k2, k3⟩ := l_227 (K := K) (d := d) (l0 := a) (m := m) (t := t) (R := r) (C := mC m c) (by omega) ht t.toNat 0 H.2.1 (gnew H (.inr (5, [.int (I r), .int (I (4 - c))])) 2) hb.new (by omega) (by omega) (by rw [em]; exact gn_eq)
    refine ⟨H', b', c_227 _ ?_, k2, ((FR.new hb).tr k3).le (by omega) (by omega)⟩
    unfold t_227_0
    simp (disch := omega) only [rI_d, rJ_d, rR_d, rN_d, wF_d, xI_d, xJ_d, xD_d, xQ_d, yI_d, yJ_d, yD_d, yQ_d, dI_s, dJ_s, dR_s, dN_s, dN_n, dH_s, dX_s, dL_s, dD_s, dQ_s, bC_r, bC_t, kI_s, kJ_s, kF_s, kD_s, kR_s, kV_s, I_lit, I_neg, I_add, I_sub, I_mul, I_ltT, I_ltF, I_leT, I_leF, I_eqT, I_eqF, c_int, c_long, c_obj, c_arr, c_bool, c_boolN, c_boolF, vn_bool, c_charN, vn_char, b2_f, b2_t, Int.toNat_natCast, ↓reduceIte, eq_self, and_self, and_true, true_and, not_false_eq_true, not_true_eq_false, L_0_0, L_0_1, L_0_2, L_0_3, L_0_4, L_0_5, L_0_6, L_0_7, L_0_8, L_0_9, L_0_10, L_0_11, L_0_12, L_0_13, L_0_14, L_0_15, C_0, L_1_0, L_1_1, L_1_2, C_1, L_2_0, L_2_1, L_2_2, C_2, L_3_0, L_3_1, L_3_2, C_3, L_65_0, L_65_1, L_65_2, L_65_3, L_65_4, C_65, L_66_0, L_66_1, L_66_2, L_66_3, C_66, L_129_0, L_129_1, L_129_2, L_129_3, C_129, L_198_0, L_198_1, L_198_2, L_198_3, L_198_4, L_198_5, L_198_6, L_198_7, L_198_8, L_198_9, L_198_10, L_198_11, L_198_12, L_198_13, L_198_14, L_198_15, L_198_16, L_198_17, L_198_18, L_198_19, L_198_20, L_198_21, L_198_22, L_198_23, L_198_24, L_198_25, L_198_26, L_198_27, L_198_28, L_198_29, L_198_30, L_198_31, L_198_32, L_198_33, L_198_34, L_198_35, L_198_36, L_198_37, L_198_38, L_198_39, L_198_40, L_198_41, L_198_42, L_198_43, L_198_44, L_198_45, L_198_46, L_198_47, L_198_48, C_198, A_199, A_200, A_201, A_202, A_203, A_204, A_205, A_206, A_207, A_208, A_209, A_210, A_211, A_212, A_213, A_214, A_215, A_216, A_217, A_218, A_219, A_220, A_221, A_222, A_223, A_224, A_225, A_226, A_227, A_228, A_128, A_191, A_rf, A_rs, A_rt, Q_4, Q_67, Q_130, t_227_0_1, t_227_0_2, t_227_0_3, t_227_29_1, t_227_29_2, t_227_29_3, g0, g1, w, k1]
end
/-- the cells of a shape: a list's object, its array, the cells' objects -/
def CLS (K : gK) (H : gH) (Q : Nat → Prop) (p : Nat) (cl : List Nat) : Prop := ∃ (mc : Int) (e : Nat) (ca : List Nat), ALo H p mc e ca.length ∧ ARR K H e ca ∧ Q e ∧ ca.length = cl.length ∧ ∀ (j c k : Nat), ca[j]? = some c → cl[j]? = some k → CE H c ((k / 5 : Nat) : Int) ((k % 5 : Nat) : Int)
/-- a variant -/
def VA (P : Nat → Prop) (H : gH) (v : Nat) (cl : List Nat) (t m z : Int) : Prop := ∃ ra ca fr fc, H.1 v = some (.inr (6, [.ref ra, .ref ca, .int (I z)])) ∧ (P ra ∧ P ca) ∧ H.1 ra = some (.inl (0, cl.length, .inl fr)) ∧ H.1 ca = some (.inl (0, cl.length, .inl fc)) ∧ ∀ (j k : Nat), cl[j]? = some k → fr j = I (oR cl t m k) ∧ fc j = I (oC cl t m k)
theorem CLS.fr {K : gK} {Q : Nat → Prop} {H H' : gH} {W : Nat → Prop} {m s p : Nat} {cl : List Nat} (h : CLS K H Q p cl) (hb : HB H) (hk3 : K.2 3 < H.2.1) (hf : FR W m s H H') (hw : ∀ a, W a → (∃ fs, H.1 a = some (.inr (12, fs))) → a ≠ p) (hw2 : ∀ a x, W a → H.1 a ≠ some (.inl (5, x))) (hw3 : ∀ a fs, W a → H.1 a ≠ some (.inr (5, fs))) (hw4 : ¬ W (K.2 3)) : CLS K H' Q p cl := by
  obtain ⟨mc, e, ca, h1, h2, hQ, h3, h4⟩ := h
  refine ⟨mc, e, ca, hf.at hb h1 (fun q => hw p q ⟨_, h1⟩ rfl), ?_, hQ, h3, fun j c k q1 q2 => hf.at hb (h4 j c k q1 q2) (fun q => hw3 c _ q (h4 j c k q1 q2))⟩
  rcases h2 with ⟨e1, e2, e3⟩ | ⟨e0, cap, f, e1, e2⟩
  · refine Or.inl ⟨e1, ?_, e3⟩
    rw [e1] at e2 ⊢
    exact (hf.2.2.2.2.2 _ hk3 hw4).trans e2
  · exact Or.inr ⟨e0, cap, f, hf.at hb e1 (fun q => hw2 e _ q e1), e2⟩
