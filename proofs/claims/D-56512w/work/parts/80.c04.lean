/-! PURE 43: a list's remove -/
set_option maxRecDepth 100000
section
variable {K : gK} {d : Nat} {H : gH} {p e n v i : Nat} {mc : Int} {xs : List Nat}
theorem w_212 (hd : 1 ≤ d) {a b : Nat} : gCa K d 212 [.ref a, .ref b] H = some (.inl (some (.int (I (b2 (a = b))))), H) := by
  obtain ⟨d, rfl, -⟩ := d_succ hd
  refine c_212 _ ?_
  unfold t_212_0
  by_cases h : a = b
  · rw [b2T h]
    simp (disch := omega) only [rI_d, rJ_d, rR_d, rN_d, wF_d, xI_d, xJ_d, xD_d, xQ_d, yI_d, yJ_d, yD_d, yQ_d, dI_s, dJ_s, dR_s, dN_s, dN_n, dH_s, dX_s, dL_s, dD_s, dQ_s, bC_r, bC_t, kI_s, kJ_s, kF_s, kD_s, kR_s, kV_s, I_lit, I_neg, I_add, I_sub, I_mul, I_ltT, I_ltF, I_leT, I_leF, I_eqT, I_eqF, c_int, c_long, c_obj, c_arr, c_bool, c_boolN, c_boolF, vn_bool, c_charN, vn_char, b2_f, b2_t, Int.toNat_natCast, ↓reduceIte, eq_self, and_self, and_true, true_and, not_false_eq_true, not_true_eq_false, L_0_0, L_0_1, L_0_2, L_0_3, L_0_4, L_0_5, L_0_6, L_0_7, L_0_8, L_0_9, L_0_10, L_0_11, L_0_12, L_0_13, L_0_14, L_0_15, C_0, L_1_0, L_1_1, L_1_2, C_1, L_2_0, L_2_1, L_2_2, C_2, L_3_0, L_3_1, L_3_2, C_3, L_65_0, L_65_1, L_65_2, L_65_3, L_65_4, C_65, L_66_0, L_66_1, L_66_2, L_66_3, C_66, L_129_0, L_129_1, L_129_2, L_129_3, C_129, L_198_0, L_198_1, L_198_2, L_198_3, L_198_4, L_198_5, L_198_6, L_198_7, L_198_8, L_198_9, L_198_10, L_198_11, L_198_12, L_198_13, L_198_14, L_198_15, L_198_16, L_198_17, L_198_18, L_198_19, L_198_20, L_198_21, L_198_22, L_198_23, L_198_24, L_198_25, L_198_26, L_198_27, L_198_28, L_198_29, L_198_30, L_198_31, L_198_32, L_198_33, L_198_34, L_198_35, L_198_36, L_198_37, L_198_38, L_198_39, L_198_40, L_198_41, L_198_42, L_198_43, L_198_44, L_198_45, L_198_46, L_198_47, L_198_48, C_198, A_199, A_200, A_201, A_202, A_203, A_204, A_205, A_206, A_207, A_208, A_209, A_210, A_211, A_212, A_213, A_214, A_215, A_216, A_217, A_218, A_219, A_220, A_221, A_222, A_223, A_224, A_225, A_226, A_227, A_228, A_128, A_191, A_rf, A_rs, A_rt, Q_4, Q_67, Q_130, if_pos h]
  · rw [b2F h]
    simp (disch := omega) only [rI_d, rJ_d, rR_d, rN_d, wF_d, xI_d, xJ_d, xD_d, xQ_d, yI_d, yJ_d, yD_d, yQ_d, dI_s, dJ_s, dR_s, dN_s, dN_n, dH_s, dX_s, dL_s, dD_s, dQ_s, bC_r, bC_t, kI_s, kJ_s, kF_s, kD_s, kR_s, kV_s, I_lit, I_neg, I_add, I_sub, I_mul, I_ltT, I_ltF, I_leT, I_leF, I_eqT, I_eqF, c_int, c_long, c_obj, c_arr, c_bool, c_boolN, c_boolF, vn_bool, c_charN, vn_char, b2_f, b2_t, Int.toNat_natCast, ↓reduceIte, eq_self, and_self, and_true, true_and, not_false_eq_true, not_true_eq_false, L_0_0, L_0_1, L_0_2, L_0_3, L_0_4, L_0_5, L_0_6, L_0_7, L_0_8, L_0_9, L_0_10, L_0_11, L_0_12, L_0_13, L_0_14, L_0_15, C_0, L_1_0, L_1_1, L_1_2, C_1, L_2_0, L_2_1, L_2_2, C_2, L_3_0, L_3_1, L_3_2, C_3, L_65_0, L_65_1, L_65_2, L_65_3, L_65_4, C_65, L_66_0, L_66_1, L_66_2, L_66_3, C_66, L_129_0, L_129_1, L_129_2, L_129_3, C_129, L_198_0, L_198_1, L_198_2, L_198_3, L_198_4, L_198_5, L_198_6, L_198_7, L_198_8, L_198_9, L_198_10, L_198_11, L_198_12, L_198_13, L_198_14, L_198_15, L_198_16, L_198_17, L_198_18, L_198_19, L_198_20, L_198_21, L_198_22, L_198_23, L_198_24, L_198_25, L_198_26, L_198_27, L_198_28, L_198_29, L_198_30, L_198_31, L_198_32, L_198_33, L_198_34, L_198_35, L_198_36, L_198_37, L_198_38, L_198_39, L_198_40, L_198_41, L_198_42, L_198_43, L_198_44, L_198_45, L_198_46, L_198_47, L_198_48, C_198, A_199, A_200, A_201, A_202, A_203, A_204, A_205, A_206, A_207, A_208, A_209, A_210, A_211, A_212, A_213, A_214, A_215, A_216, A_217, A_218, A_219, A_220, A_221, A_222, A_223, A_224, A_225, A_226, A_227, A_228, A_128, A_191, A_rf, A_rs, A_rt, Q_4, Q_67, Q_130, if_neg h]
theorem w_213 (hd : 1 ≤ d) (hb : HB H) (h : ALo H p mc e xs.length) {cap : Nat} {f : Nat → Option Nat} (e0 : e ≠ K.2 3) (e1 : H.1 e = some (.inl (5, cap, gQ f))) (e2 : xs.length ≤ cap) (e3 : cap ≤ 200) (e4 : ∀ j x, xs[j]? = some x → f j = some x) (hi : i < xs.length) (ho : ∀ x ∈ xs, OBJ H x) :
    ∃ H' mc', gCa K d 213 [.ref p, .ref e, .int (I (i : Int))] H = some (.inl none, H') ∧ ALo H' p mc' e (xs.length - 1) ∧ ARR K H' e (xs.eraseIdx i) ∧ FR (fun q => q = p ∨ q = e) 0 0 H H' := by
  obtain ⟨d, rfl, hd'⟩ := d_succ (show 0 + 1 ≤ d by omega)
  have h0 := gf_of h 0
  simp only [List.getElem?_cons_succ, List.getElem?_cons_zero] at h0
  have pf := pf_of (k := 0) (v := .int (I (mc + 1))) h (Nat.le_of_ble_eq_true rfl)
  rw [List.set_cons_zero] at pf
  have hA : ALo (gset H p (.inr (12, [.int (I (mc + 1)), .ref e, .int (I (xs.length : Int))]))) p (mc + 1) e xs.length := gs_eq
  have f1 : FR (fun q => q = p) 0 0 H (gset H p (.inr (12, [.int (I (mc + 1)), .ref e, .int (I (xs.length : Int))]))) := FR.set hb h
  have hep : e ≠ p := ne_ac e1 h
  have he1 : (gset H p (.inr (12, [.int (I (mc + 1)), .ref e, .int (I (xs.length : Int))]))).1 e = some (.inl (5, cap, gQ f)) := (gs_ne hep).trans e1
  have oo : ∀ x, OBJ H x → OBJ (gset H p (.inr (12, [.int (I (mc + 1)), .ref e, .int (I (xs.length : Int))]))) x := fun x hx => hx.fr hb f1 (fun c fs he q => by
    subst q
    cases h.symm.trans he
    exact ⟨_, gs_eq⟩)
  have g2 := gf_of hA 2
  simp only [List.getElem?_cons_succ, List.getElem?_cons_zero] at g2
  generalize hH1 : gset H p (.inr (12, [.int (I (mc + 1)), .ref e, .int (I (xs.length : Int))])) = H1 at *
  have hn : (xs.length : Int) - 1 = ((xs.length - 1 : Nat) : Int) := by omega
  have hlen : (xs.eraseIdx i).length = xs.length - 1 := List.length_eraseIdx_of_lt hi
  -- what follows the shift of the tail
  have fin : ∀ (H2 : gH) (g : Nat → Option Nat), H2.1 p = some (.inr (12, [.int (I (mc + 1)), .ref e, .int (I (xs.length : Int))])) → H2.1 e = some (.inl (5, cap, gQ g)) → FR (fun q => q = p ∨ q = e) 0 0 H H2 → (∀ j x, (xs.eraseIdx i)[j]? = some x → g j = some x) →
      ∃ H', (g_pf H2 p 12 2 (.int (I ((xs.length - 1 : Nat) : Int))) = some (gset H2 p (.inr (12, [.int (I (mc + 1)), .ref e, .int (I ((xs.length - 1 : Nat) : Int))])))) ∧ g_qs (gset H2 p (.inr (12, [.int (I (mc + 1)), .ref e, .int (I ((xs.length - 1 : Nat) : Int))]))) e 5 (I ((xs.length - 1 : Nat) : Int)) none = some H' ∧ ALo H' p (mc + 1) e (xs.length - 1) ∧ ARR K H' e (xs.eraseIdx i) ∧ FR (fun q => q = p ∨ q = e) 0 0 H H' := by
    intro H2 g k1 k2 k3 k4
    have pf := pf_of (k := 2) (v := .int (I ((xs.length - 1 : Nat) : Int))) k1 (Nat.le_of_ble_eq_true rfl)
    rw [List.set_cons_succ, List.set_cons_succ, List.set_cons_zero] at pf
    have k5 : (gset H2 p (.inr (12, [.int (I (mc + 1)), .ref e, .int (I ((xs.length - 1 : Nat) : Int))]))).1 e = some (.inl (5, cap, gQ g)) := (gs_ne hep).trans k2
    have qs := qs_of k5 (z := ((xs.length - 1 : Nat) : Int)) (x := none) (by omega) (by omega)
    rw [Int.toNat_natCast] at qs
    refine ⟨_, pf, qs, (gs_ne (Ne.symm hep)).trans gs_eq, Or.inr ⟨e0, cap, _, gs_eq, by omega, by omega, e3, fun j x hj => ?_⟩, ?_⟩
    · have hj2 := (List.getElem?_eq_some_iff.mp hj).1
      unfold va_up
      rw [if_neg (by omega)]
      exact k4 j x hj
    · have a1 : FR (fun q => q = p ∨ q = e) 0 0 H2 (gset H2 p (.inr (12, [.int (I (mc + 1)), .ref e, .int (I ((xs.length - 1 : Nat) : Int))]))) := (FR.set k3.hb k1).mono (fun a _ q => Or.inl q)
      exact ((k3.tr a1).tr ((FR.set a1.hb k5).mono (fun a _ q => Or.inr q))).le (by omega) (by omega)
  have f1' : FR (fun q => q = p ∨ q = e) 0 0 H H1 := f1.mono (fun a _ q => Or.inl q)
  by_cases hlast : xs.length - 1 ≤ i
  · obtain ⟨H', k1, k2, k3, k4, k5⟩ := fin H1 f hA he1 f1' (fun j x hj => by
      rw [List.getElem?_eraseIdx] at hj
      have hj2 : j < xs.length - 1 := by
        by_cases q : j < i
        · omega
        · rw [if_neg q] at hj
          have := (List.getElem?_eq_some_iff.mp hj).1
          omega
      rw [if_pos (by omega)] at hj
      exact e4 j x hj)
    refine ⟨H', mc + 1, c_213 _ ?_, k3, k4, k5⟩
    unfold t_213_0
    simp (disch := omega) only [rI_d, rJ_d, rR_d, rN_d, wF_d, xI_d, xJ_d, xD_d, xQ_d, yI_d, yJ_d, yD_d, yQ_d, dI_s, dJ_s, dR_s, dN_s, dN_n, dH_s, dX_s, dL_s, dD_s, dQ_s, bC_r, bC_t, kI_s, kJ_s, kF_s, kD_s, kR_s, kV_s, I_lit, I_neg, I_add, I_sub, I_mul, I_ltT, I_ltF, I_leT, I_leF, I_eqT, I_eqF, c_int, c_long, c_obj, c_arr, c_bool, c_boolN, c_boolF, vn_bool, c_charN, vn_char, b2_f, b2_t, Int.toNat_natCast, ↓reduceIte, eq_self, and_self, and_true, true_and, not_false_eq_true, not_true_eq_false, L_0_0, L_0_1, L_0_2, L_0_3, L_0_4, L_0_5, L_0_6, L_0_7, L_0_8, L_0_9, L_0_10, L_0_11, L_0_12, L_0_13, L_0_14, L_0_15, C_0, L_1_0, L_1_1, L_1_2, C_1, L_2_0, L_2_1, L_2_2, C_2, L_3_0, L_3_1, L_3_2, C_3, L_65_0, L_65_1, L_65_2, L_65_3, L_65_4, C_65, L_66_0, L_66_1, L_66_2, L_66_3, C_66, L_129_0, L_129_1, L_129_2, L_129_3, C_129, L_198_0, L_198_1, L_198_2, L_198_3, L_198_4, L_198_5, L_198_6, L_198_7, L_198_8, L_198_9, L_198_10, L_198_11, L_198_12, L_198_13, L_198_14, L_198_15, L_198_16, L_198_17, L_198_18, L_198_19, L_198_20, L_198_21, L_198_22, L_198_23, L_198_24, L_198_25, L_198_26, L_198_27, L_198_28, L_198_29, L_198_30, L_198_31, L_198_32, L_198_33, L_198_34, L_198_35, L_198_36, L_198_37, L_198_38, L_198_39, L_198_40, L_198_41, L_198_42, L_198_43, L_198_44, L_198_45, L_198_46, L_198_47, L_198_48, C_198, A_199, A_200, A_201, A_202, A_203, A_204, A_205, A_206, A_207, A_208, A_209, A_210, A_211, A_212, A_213, A_214, A_215, A_216, A_217, A_218, A_219, A_220, A_221, A_222, A_223, A_224, A_225, A_226, A_227, A_228, A_128, A_191, A_rf, A_rs, A_rt, Q_4, Q_67, Q_130, t_213_0_1, t_213_0_2, t_213_0_3, t_213_0_4, t_213_0_5, t_213_0_6, t_213_0_7, t_213_0_8, h0, pf, g2, hn, k1, k2]
  · have cp : ∀ (L : gL) (g : gH → Option gO), wC L [.int (I ((xs.length - 1 : Nat) - (i : Int))), .int (I (i : Int)), .ref e, .int (I ((i : Int) + 1)), .ref e] H1 34 g = g (gset H1 e (.inl (5, cap, gQ (va_cpy f f (i + 1) i (xs.length - 1 - i))))) := fun L g => by
      have e0' : (I (i : Int)).toNatClampNeg = i := by rw [I_cn (by omega) (by omega)]; omega
      have e1' : (I ((i : Int) + 1)).toNatClampNeg = i + 1 := by rw [I_cn (by omega) (by omega)]; omega
      have e2' : (I ((xs.length - 1 : Nat) - (i : Int))).toNatClampNeg = xs.length - 1 - i := by rw [I_cn (by omega) (by omega)]; omega
      have ng : ∀ z : Int, 0 ≤ z → z < 1000 → ¬ I z < 0 := fun z h1 h2 => by
        rw [show (0 : Int32) = I 0 from I_lit 0, I_lt (by omega) (by omega) (by omega) (by omega)]
        omega
      have oc : o_copy 34 L [.int (I ((xs.length - 1 : Nat) - (i : Int))), .int (I (i : Int)), .ref e, .int (I ((i : Int) + 1)), .ref e] H1 = some (.inl (34, L, [], gset H1 e (.inl (5, cap, gQ (va_cpy f f (i + 1) i (xs.length - 1 - i)))))) := by
        unfold o_copy
        dsimp only
        rw [he1]
        dsimp only
        rw [e0', e1', e2', if_pos]
        refine ⟨rfl, rfl, ng _ (by omega) (by omega), ng _ (by omega) (by omega), ng _ (by omega) (by omega), by omega, by omega, by decide, ?_⟩
        rw [List.all_eq_true]
        intro j hj
        have hj := List.mem_range.mp hj
        have hx := e4 (i + 1 + j) _ (List.getElem?_eq_getElem (by omega))
        rw [hx]
        obtain ⟨c, hc1, hc2⟩ := oo _ (ho _ (List.getElem_mem (show i + 1 + j < xs.length by omega)))
        dsimp only
        rw [hc1]
        simpa using hc2
      unfold wC
      rw [oc]
    have k0 : (gset H1 e (.inl (5, cap, gQ (va_cpy f f (i + 1) i (xs.length - 1 - i))))).1 p = some (.inr (12, [.int (I (mc + 1)), .ref e, .int (I (xs.length : Int))])) := (gs_ne (Ne.symm hep)).trans hA
    obtain ⟨H', k1, k2, k3, k4, k5⟩ := fin (gset H1 e (.inl (5, cap, gQ (va_cpy f f (i + 1) i (xs.length - 1 - i))))) _ k0 gs_eq ((f1'.tr ((FR.set f1.hb he1).mono (fun a _ q => Or.inr q))).le (by omega) (by omega)) (fun j x hj => by
      rw [List.getElem?_eraseIdx] at hj
      unfold va_cpy
      by_cases q : j < i
      · rw [if_pos q] at hj
        rw [if_neg (by omega)]
        exact e4 j x hj
      · rw [if_neg q] at hj
        have := (List.getElem?_eq_some_iff.mp hj).1
        rw [if_pos (by omega), show i + 1 + (j - i) = j + 1 by omega]
        exact e4 _ x hj)
    refine ⟨H', mc + 1, c_213 _ ?_, k3, k4, k5⟩
    unfold t_213_0
    simp (disch := omega) only [rI_d, rJ_d, rR_d, rN_d, wF_d, xI_d, xJ_d, xD_d, xQ_d, yI_d, yJ_d, yD_d, yQ_d, dI_s, dJ_s, dR_s, dN_s, dN_n, dH_s, dX_s, dL_s, dD_s, dQ_s, bC_r, bC_t, kI_s, kJ_s, kF_s, kD_s, kR_s, kV_s, I_lit, I_neg, I_add, I_sub, I_mul, I_ltT, I_ltF, I_leT, I_leF, I_eqT, I_eqF, c_int, c_long, c_obj, c_arr, c_bool, c_boolN, c_boolF, vn_bool, c_charN, vn_char, b2_f, b2_t, Int.toNat_natCast, ↓reduceIte, eq_self, and_self, and_true, true_and, not_false_eq_true, not_true_eq_false, L_0_0, L_0_1, L_0_2, L_0_3, L_0_4, L_0_5, L_0_6, L_0_7, L_0_8, L_0_9, L_0_10, L_0_11, L_0_12, L_0_13, L_0_14, L_0_15, C_0, L_1_0, L_1_1, L_1_2, C_1, L_2_0, L_2_1, L_2_2, C_2, L_3_0, L_3_1, L_3_2, C_3, L_65_0, L_65_1, L_65_2, L_65_3, L_65_4, C_65, L_66_0, L_66_1, L_66_2, L_66_3, C_66, L_129_0, L_129_1, L_129_2, L_129_3, C_129, L_198_0, L_198_1, L_198_2, L_198_3, L_198_4, L_198_5, L_198_6, L_198_7, L_198_8, L_198_9, L_198_10, L_198_11, L_198_12, L_198_13, L_198_14, L_198_15, L_198_16, L_198_17, L_198_18, L_198_19, L_198_20, L_198_21, L_198_22, L_198_23, L_198_24, L_198_25, L_198_26, L_198_27, L_198_28, L_198_29, L_198_30, L_198_31, L_198_32, L_198_33, L_198_34, L_198_35, L_198_36, L_198_37, L_198_38, L_198_39, L_198_40, L_198_41, L_198_42, L_198_43, L_198_44, L_198_45, L_198_46, L_198_47, L_198_48, C_198, A_199, A_200, A_201, A_202, A_203, A_204, A_205, A_206, A_207, A_208, A_209, A_210, A_211, A_212, A_213, A_214, A_215, A_216, A_217, A_218, A_219, A_220, A_221, A_222, A_223, A_224, A_225, A_226, A_227, A_228, A_128, A_191, A_rf, A_rs, A_rt, Q_4, Q_67, Q_130, t_213_0_1, t_213_0_2, t_213_0_3, t_213_0_4, t_213_0_5, t_213_0_6, t_213_0_7, t_213_0_8, h0, pf, g2, hn, cp, k1, k2]
theorem l_175 (hd : 2 ≤ d) (hb : HB H) (h : ALo H p mc e xs.length) {cap : Nat} {f : Nat → Option Nat} (e0 : e ≠ K.2 3) (e1 : H.1 e = some (.inl (5, cap, gQ f))) (e2 : xs.length ≤ cap) (e3 : cap ≤ 200) (e4 : ∀ j x, xs[j]? = some x → f j = some x) (hi : xs[i]? = some v) (hne : ∀ j, j < i → xs[j]? ≠ some v) (hc7 : g_cls H v = some 7) (ho : ∀ x ∈ xs, OBJ H x) : ∀ (m : Nat) (z : Int), 0 ≤ z → z + m = i →
    ∃ H' mc', gRn K d 175 39 [some (.ref p), some (.ref v), some (.ref e), some (.int (I (xs.length : Int))), some (.int (I z))] [] H = some (.inl (some (.int (I 1))), H') ∧ ALo H' p mc' e (xs.length - 1) ∧ ARR K H' e (xs.eraseIdx i) ∧ FR (fun q => q = p ∨ q = e) 0 0 H H' := by
  intro m
  have hil := (List.getElem?_eq_some_iff.mp hi).1
  have hcp := cl_of h
  induction m with
  | zero =>
    intro z hz hm
    have qa := qa_of e1 (z := z) (by omega) (by omega)
    rw [show z.toNat = i by omega, e4 i v hi] at qa
    have w1 := w_212 (K := K) (H := H) (d := d) (a := v) (b := v) (by omega)
    rw [b2T rfl] at w1
    obtain ⟨H', mc', k1, k2⟩ := w_213 (K := K) (d := d) (by omega) hb h e0 e1 e2 e3 e4 hil ho
    rw [show (i : Int) = z by omega] at k1
    refine ⟨H', mc', e_175_39 _ ?_, k2⟩
    unfold t_175_39
    simp (disch := omega) only [rI_d, rJ_d, rR_d, rN_d, wF_d, xI_d, xJ_d, xD_d, xQ_d, yI_d, yJ_d, yD_d, yQ_d, dI_s, dJ_s, dR_s, dN_s, dN_n, dH_s, dX_s, dL_s, dD_s, dQ_s, bC_r, bC_t, kI_s, kJ_s, kF_s, kD_s, kR_s, kV_s, I_lit, I_neg, I_add, I_sub, I_mul, I_ltT, I_ltF, I_leT, I_leF, I_eqT, I_eqF, c_int, c_long, c_obj, c_arr, c_bool, c_boolN, c_boolF, vn_bool, c_charN, vn_char, b2_f, b2_t, Int.toNat_natCast, ↓reduceIte, eq_self, and_self, and_true, true_and, not_false_eq_true, not_true_eq_false, L_0_0, L_0_1, L_0_2, L_0_3, L_0_4, L_0_5, L_0_6, L_0_7, L_0_8, L_0_9, L_0_10, L_0_11, L_0_12, L_0_13, L_0_14, L_0_15, C_0, L_1_0, L_1_1, L_1_2, C_1, L_2_0, L_2_1, L_2_2, C_2, L_3_0, L_3_1, L_3_2, C_3, L_65_0, L_65_1, L_65_2, L_65_3, L_65_4, C_65, L_66_0, L_66_1, L_66_2, L_66_3, C_66, L_129_0, L_129_1, L_129_2, L_129_3, C_129, L_198_0, L_198_1, L_198_2, L_198_3, L_198_4, L_198_5, L_198_6, L_198_7, L_198_8, L_198_9, L_198_10, L_198_11, L_198_12, L_198_13, L_198_14, L_198_15, L_198_16, L_198_17, L_198_18, L_198_19, L_198_20, L_198_21, L_198_22, L_198_23, L_198_24, L_198_25, L_198_26, L_198_27, L_198_28, L_198_29, L_198_30, L_198_31, L_198_32, L_198_33, L_198_34, L_198_35, L_198_36, L_198_37, L_198_38, L_198_39, L_198_40, L_198_41, L_198_42, L_198_43, L_198_44, L_198_45, L_198_46, L_198_47, L_198_48, C_198, A_199, A_200, A_201, A_202, A_203, A_204, A_205, A_206, A_207, A_208, A_209, A_210, A_211, A_212, A_213, A_214, A_215, A_216, A_217, A_218, A_219, A_220, A_221, A_222, A_223, A_224, A_225, A_226, A_227, A_228, A_128, A_191, A_rf, A_rs, A_rt, Q_4, Q_67, Q_130, t_175_0_1, t_175_0_2, t_175_39_1, t_175_39_2, t_175_39_3, qa, hc7, hcp, w1, k1]
  | succ m ih =>
    intro z hz hm
    obtain ⟨H', mc', k1, k2⟩ := ih (z + 1) (by omega) (by omega)
    obtain ⟨x, hx⟩ : ∃ x, xs[z.toNat]? = some x := ⟨_, List.getElem?_eq_getElem (by omega)⟩
    have hxv : v ≠ x := fun q => hne z.toNat (by omega) (by rw [hx, q])
    have qa := qa_of e1 (z := z) (by omega) (by omega)
    rw [e4 _ x hx] at qa
    have w1 := w_212 (K := K) (H := H) (d := d) (a := v) (b := x) (by omega)
    rw [b2F hxv] at w1
    refine ⟨H', mc', e_175_39 _ ?_, k2⟩
    unfold t_175_39
    simp (disch := omega) only [rI_d, rJ_d, rR_d, rN_d, wF_d, xI_d, xJ_d, xD_d, xQ_d, yI_d, yJ_d, yD_d, yQ_d, dI_s, dJ_s, dR_s, dN_s, dN_n, dH_s, dX_s, dL_s, dD_s, dQ_s, bC_r, bC_t, kI_s, kJ_s, kF_s, kD_s, kR_s, kV_s, I_lit, I_neg, I_add, I_sub, I_mul, I_ltT, I_ltF, I_leT, I_leF, I_eqT, I_eqF, c_int, c_long, c_obj, c_arr, c_bool, c_boolN, c_boolF, vn_bool, c_charN, vn_char, b2_f, b2_t, Int.toNat_natCast, ↓reduceIte, eq_self, and_self, and_true, true_and, not_false_eq_true, not_true_eq_false, L_0_0, L_0_1, L_0_2, L_0_3, L_0_4, L_0_5, L_0_6, L_0_7, L_0_8, L_0_9, L_0_10, L_0_11, L_0_12, L_0_13, L_0_14, L_0_15, C_0, L_1_0, L_1_1, L_1_2, C_1, L_2_0, L_2_1, L_2_2, C_2, L_3_0, L_3_1, L_3_2, C_3, L_65_0, L_65_1, L_65_2, L_65_3, L_65_4, C_65, L_66_0, L_66_1, L_66_2, L_66_3, C_66, L_129_0, L_129_1, L_129_2, L_129_3, C_129, L_198_0, L_198_1, L_198_2, L_198_3, L_198_4, L_198_5, L_198_6, L_198_7, L_198_8, L_198_9, L_198_10, L_198_11, L_198_12, L_198_13, L_198_14, L_198_15, L_198_16, L_198_17, L_198_18, L_198_19, L_198_20, L_198_21, L_198_22, L_198_23, L_198_24, L_198_25, L_198_26, L_198_27, L_198_28, L_198_29, L_198_30, L_198_31, L_198_32, L_198_33, L_198_34, L_198_35, L_198_36, L_198_37, L_198_38, L_198_39, L_198_40, L_198_41, L_198_42, L_198_43, L_198_44, L_198_45, L_198_46, L_198_47, L_198_48, C_198, A_199, A_200, A_201, A_202, A_203, A_204, A_205, A_206, A_207, A_208, A_209, A_210, A_211, A_212, A_213, A_214, A_215, A_216, A_217, A_218, A_219, A_220, A_221, A_222, A_223, A_224, A_225, A_226, A_227, A_228, A_128, A_191, A_rf, A_rs, A_rt, Q_4, Q_67, Q_130, t_175_0_1, t_175_0_2, t_175_39_1, t_175_39_2, t_175_39_3, qa, hc7, hcp, w1, k1]
theorem w_175 (hd : 3 ≤ d) (hb : HB H) (h : ALo H p mc e xs.length) (ha : ARR K H e xs) (hl : xs.length ≤ 100) (hi : xs[i]? = some v) (hne : ∀ j, j < i → xs[j]? ≠ some v) (hc7 : g_cls H v = some 7) (ho : ∀ x ∈ xs, OBJ H x) :
    ∃ H' mc', gCa K d 175 [.ref p, .ref v] H = some (.inl (some (.int (I 1))), H') ∧ ALo H' p mc' e (xs.length - 1) ∧ ARR K H' e (xs.eraseIdx i) ∧ FR (fun q => q = p ∨ q = e) 0 0 H H' := by
  obtain ⟨d, rfl, hd'⟩ := d_succ (show 2 + 1 ≤ d by omega)
  have g1 := gf_of h 1
  have g2 := gf_of h 2
  simp only [List.getElem?_cons_succ, List.getElem?_cons_zero] at g1 g2
  rcases ha with ⟨-, -, rfl⟩ | ⟨e0, cap, f, e1, e2, e20, e3, e4⟩
  · cases hi
  · obtain ⟨H', mc', k1, k2⟩ := l_175 (K := K) (d := d) (by omega) hb h e0 e1 e2 e3 e4 hi hne hc7 ho i 0 (by omega) (by omega)
    refine ⟨H', mc', c_175 _ ?_, k2⟩
    unfold t_175_0
    simp (disch := omega) only [rI_d, rJ_d, rR_d, rN_d, wF_d, xI_d, xJ_d, xD_d, xQ_d, yI_d, yJ_d, yD_d, yQ_d, dI_s, dJ_s, dR_s, dN_s, dN_n, dH_s, dX_s, dL_s, dD_s, dQ_s, bC_r, bC_t, kI_s, kJ_s, kF_s, kD_s, kR_s, kV_s, I_lit, I_neg, I_add, I_sub, I_mul, I_ltT, I_ltF, I_leT, I_leF, I_eqT, I_eqF, c_int, c_long, c_obj, c_arr, c_bool, c_boolN, c_boolF, vn_bool, c_charN, vn_char, b2_f, b2_t, Int.toNat_natCast, ↓reduceIte, eq_self, and_self, and_true, true_and, not_false_eq_true, not_true_eq_false, L_0_0, L_0_1, L_0_2, L_0_3, L_0_4, L_0_5, L_0_6, L_0_7, L_0_8, L_0_9, L_0_10, L_0_11, L_0_12, L_0_13, L_0_14, L_0_15, C_0, L_1_0, L_1_1, L_1_2, C_1, L_2_0, L_2_1, L_2_2, C_2, L_3_0, L_3_1, L_3_2, C_3, L_65_0, L_65_1, L_65_2, L_65_3, L_65_4, C_65, L_66_0, L_66_1, L_66_2, L_66_3, C_66, L_129_0, L_129_1, L_129_2, L_129_3, C_129, L_198_0, L_198_1, L_198_2, L_198_3, L_198_4, L_198_5, L_198_6, L_198_7, L_198_8, L_198_9, L_198_10, L_198_11, L_198_12, L_198_13, L_198_14, L_198_15, L_198_16, L_198_17, L_198_18, L_198_19, L_198_20, L_198_21, L_198_22, L_198_23, L_198_24, L_198_25, L_198_26, L_198_27, L_198_28, L_198_29, L_198_30, L_198_31, L_198_32, L_198_33, L_198_34, L_198_35, L_198_36, L_198_37, L_198_38, L_198_39, L_198_40, L_198_41, L_198_42, L_198_43, L_198_44, L_198_45, L_198_46, L_198_47, L_198_48, C_198, A_199, A_200, A_201, A_202, A_203, A_204, A_205, A_206, A_207, A_208, A_209, A_210, A_211, A_212, A_213, A_214, A_215, A_216, A_217, A_218, A_219, A_220, A_221, A_222, A_223, A_224, A_225, A_226, A_227, A_228, A_128, A_191, A_rf, A_rs, A_rt, Q_4, Q_67, Q_130, t_175_0_1, t_175_0_2, t_175_39_1, t_175_39_2, t_175_39_3, g1, g2, k1]
end
