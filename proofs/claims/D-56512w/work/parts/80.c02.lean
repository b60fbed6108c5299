/-! PURE 41: a list grows -/
set_option maxRecDepth 100000
/-- objects of the program -/
def OBJ (H : gH) (x : Nat) : Prop := ∃ c, g_cls H x = some c ∧ c < 13
/-- H' has what H had but at W; at most m cells and s slots more -/
def FR (W : Nat → Prop) (m s : Nat) (H H' : gH) : Prop := H.2.1 ≤ H'.2.1 ∧ H'.2.1 ≤ H.2.1 + m ∧ H.2.2 ≤ H'.2.2 ∧ H'.2.2 ≤ H.2.2 + s ∧ HB H' ∧ ∀ a, a < H.2.1 → ¬ W a → H'.1 a = H.1 a
section
variable {W : Nat → Prop} {m s m' s' : Nat} {H H' H'' : gH}
theorem FR.rf (h : HB H) : FR W 0 0 H H := ⟨Nat.le_refl _, Nat.le_refl _, Nat.le_refl _, Nat.le_refl _, h, fun _ _ _ => rfl⟩
theorem FR.tr (h : FR W m s H H') (h' : FR W m' s' H' H'') : FR W (m + m') (s + s') H H'' := ⟨Nat.le_trans h.1 h'.1, by have := h.2.1; have := h'.2.1; omega, by have := h.2.2.1; have := h'.2.2.1; omega, by have := h.2.2.2.1; have := h'.2.2.2.1; omega, h'.2.2.2.2.1, fun a q1 q2 => (h'.2.2.2.2.2 a (Nat.lt_of_lt_of_le q1 h.1) q2).trans (h.2.2.2.2.2 a q1 q2)⟩
theorem FR.le (h : FR W m s H H') (h1 : m ≤ m') (h2 : s ≤ s') : FR W m' s' H H' := ⟨h.1, by have := h.2.1; omega, h.2.2.1, by have := h.2.2.2.1; omega, h.2.2.2.2.1, h.2.2.2.2.2⟩
theorem FR.mono {W' : Nat → Prop} (h : FR W m s H H') (hw : ∀ a, a < H.2.1 → W a → W' a) : FR W' m s H H' := ⟨h.1, h.2.1, h.2.2.1, h.2.2.2.1, h.2.2.2.2.1, fun a q1 q2 => h.2.2.2.2.2 a q1 (fun q => q2 (hw a q1 q))⟩
theorem FR.hb (h : FR W m s H H') : HB H' := h.2.2.2.2.1
theorem FR.at (h : FR W m s H H') {a : Nat} {e : gE} (hb : HB H) (ha : H.1 a = some e) (hn : ¬ W a) : H'.1 a = some e := (h.2.2.2.2.2 a (hb.lt ha) hn).trans ha
theorem FR.set (hb : HB H) {a : Nat} {e e' : gE} (ha : H.1 a = some e') : FR (fun q => q = a) 0 0 H (gset H a e) := ⟨Nat.le_refl _, Nat.le_refl _, Nat.le_refl _, Nat.le_refl _, hb.set ha, fun b _ q => gs_ne q⟩
theorem FR.new (hb : HB H) {e : gE} {n : Nat} : FR W 1 n H (gnew H e n) := ⟨Nat.le_succ _, Nat.le_refl _, Nat.le_add_right _ _, Nat.le_refl _, hb.new, fun b q _ => gn_lt q⟩
end
section
variable {K : gK} {d : Nat} {H : gH} {p e n : Nat} {mc : Int} {xs : List Nat}
theorem shr1 : ∀ n : Fin 200, (I ((n.val : Nat) : Int)) >>> ((I 1) &&& I 31) = I ((n.val / 2 : Nat) : Int) := by decide
theorem w_252 (hd : 2 ≤ d) {n : Nat} (hn : 1 ≤ n) (hn2 : n < 200) : gCa K d 252 [.int (I (n : Int)), .int (I 1), .int (I ((n / 2 : Nat) : Int))] H = some (.inl (some (.int (I ((n + max 1 (n / 2) : Nat) : Int)))), H) := by
  obtain ⟨d, rfl, hd'⟩ := d_succ hd
  refine c_252 _ ?_
  have w := w_236 (K := K) (H := H) (d := d) (a := 1) (b := ((n / 2 : Nat) : Int)) (by omega) (by omega) (by omega)
  have e : (n : Int) + max 1 ((n / 2 : Nat) : Int) = ((n + max 1 (n / 2) : Nat) : Int) := by omega
  unfold t_252_0
  simp (disch := omega) only [rI_d, rJ_d, rR_d, rN_d, wF_d, xI_d, xJ_d, xD_d, xQ_d, yI_d, yJ_d, yD_d, yQ_d, dI_s, dJ_s, dR_s, dN_s, dN_n, dH_s, dX_s, dL_s, dD_s, dQ_s, bC_r, bC_t, kI_s, kJ_s, kF_s, kD_s, kR_s, kV_s, I_lit, I_neg, I_add, I_sub, I_mul, I_ltT, I_ltF, I_leT, I_leF, I_eqT, I_eqF, c_int, c_long, c_obj, c_arr, c_bool, c_boolN, c_boolF, vn_bool, c_charN, vn_char, b2_f, b2_t, Int.toNat_natCast, ↓reduceIte, eq_self, and_self, and_true, true_and, not_false_eq_true, not_true_eq_false, L_0_0, L_0_1, L_0_2, L_0_3, L_0_4, L_0_5, L_0_6, L_0_7, L_0_8, L_0_9, L_0_10, L_0_11, L_0_12, L_0_13, L_0_14, L_0_15, C_0, L_1_0, L_1_1, L_1_2, C_1, L_2_0, L_2_1, L_2_2, C_2, L_3_0, L_3_1, L_3_2, C_3, L_65_0, L_65_1, L_65_2, L_65_3, L_65_4, C_65, L_66_0, L_66_1, L_66_2, L_66_3, C_66, L_129_0, L_129_1, L_129_2, L_129_3, C_129, L_198_0, L_198_1, L_198_2, L_198_3, L_198_4, L_198_5, L_198_6, L_198_7, L_198_8, L_198_9, L_198_10, L_198_11, L_198_12, L_198_13, L_198_14, L_198_15, L_198_16, L_198_17, L_198_18, L_198_19, L_198_20, L_198_21, L_198_22, L_198_23, L_198_24, L_198_25, L_198_26, L_198_27, L_198_28, L_198_29, L_198_30, L_198_31, L_198_32, L_198_33, L_198_34, L_198_35, L_198_36, L_198_37, L_198_38, L_198_39, L_198_40, L_198_41, L_198_42, L_198_43, L_198_44, L_198_45, L_198_46, L_198_47, L_198_48, C_198, A_199, A_200, A_201, A_202, A_203, A_204, A_205, A_206, A_207, A_208, A_209, A_210, A_211, A_212, A_213, A_214, A_215, A_216, A_217, A_218, A_219, A_220, A_221, A_222, A_223, A_224, A_225, A_226, A_227, A_228, A_128, A_191, A_rf, A_rs, A_rt, Q_4, Q_67, Q_130, t_252_0_1, t_252_0_2, t_252_0_3, w]
  rw [e]
theorem w_255 (hd : 2 ≤ d) (hb : HB H) {cap n' : Nat} {f : Nat → Option Nat} (h3 : H.1 e = some (.inl (5, cap, gQ f))) (hc : cap < n') (hn : n' ≤ 200) (ho : ∀ j x, j < cap → f j = some x → OBJ H x) : gCa K d 255 [.ref e, .int (I (n' : Int)), .ref (K.2 6)] H = some (.inl (some (.ref H.2.1)), gset (gnew H (.inl (5, n', gQ (fun _ => none))) n') H.2.1 (.inl (5, n', gQ (va_cpy f (fun _ => none) 0 0 cap)))) := by
  obtain ⟨d, rfl, hd'⟩ := d_succ hd
  have hlt := hb.lt h3
  refine c_255 _ ?_
  have w := w_224 (K := K) (H := gnew H (.inl (5, n', gQ (fun _ => none))) n') (d := d) (a := (cap : Int)) (b := (n' : Int)) (by omega) (by omega) (by omega)
  rw [Int.min_eq_left (by omega)] at w
  have x1 : ∀ g, xL K (gnew H (.inl (5, n', gQ (fun _ => none))) n') e g = g (I (cap : Int)) := fun g => by
    unfold xL
    rw [gn_lt hlt, h3]
    show g (Int32.ofNat cap) = _
    rw [I_nat]
  have cp : ∀ (L : gL) (g : gH → Option gO), wC L [.int (I (cap : Int)), .int (I 0), .ref H.2.1, .int (I 0), .ref e] (gnew H (.inl (5, n', gQ (fun _ => none))) n') 38 g = g (gset (gnew H (.inl (5, n', gQ (fun _ => none))) n') H.2.1 (.inl (5, n', gQ (va_cpy f (fun _ => none) 0 0 cap)))) := fun L g => by
    have e0 : (I 0).toNatClampNeg = 0 := by decide
    have e1 : (I (cap : Int)).toNatClampNeg = cap := by rw [I_cn (by omega) (by omega)]; omega
    have hneg : ¬ I 0 < 0 := by decide
    have hneg2 : ¬ I (cap : Int) < 0 := by
      rw [show (0 : Int32) = I 0 from I_lit 0, I_lt (by omega) (by omega) (by omega) (by omega)]
      omega
    have oc : o_copy 38 L [.int (I (cap : Int)), .int (I 0), .ref H.2.1, .int (I 0), .ref e] (gnew H (.inl (5, n', gQ (fun _ => none))) n') = some (.inl (38, L, [], gset (gnew H (.inl (5, n', gQ (fun _ => none))) n') H.2.1 (.inl (5, n', gQ (va_cpy f (fun _ => none) 0 0 cap))))) := by
      unfold o_copy
      dsimp only
      rw [gn_lt hlt, h3, gn_eq]
      dsimp only
      rw [e0, e1, if_pos]
      refine ⟨rfl, rfl, hneg, hneg, hneg2, by omega, by omega, by decide, ?_⟩
      rw [List.all_eq_true]
      intro i hi
      have hi := List.mem_range.mp hi
      rw [Nat.zero_add]
      cases hf : f i with
      | none => rfl
      | some y =>
        obtain ⟨c, hc1, hc2⟩ := ho i y hi hf
        have : g_cls (gnew H (.inl (5, n', gQ (fun _ => none))) n') y = some c := by
          unfold g_cls at hc1 ⊢
          have : (gnew H (.inl (5, n', gQ (fun _ => none))) n').1 y = H.1 y := by
            rcases Nat.lt_or_ge y H.2.1 with q | q
            · exact gn_lt q
            · rw [hb y q] at hc1
              cases hc1
          rw [this]
          exact hc1
        dsimp only
        rw [this]
        simpa using hc2
    unfold wC
    rw [oc]
  have z1 : (I (n' : Int)).toNatClampNeg = n' := by rw [I_cn (by omega) (by omega)]; omega
  have z2 : (100000 < n') = False := eq_false (by omega)
  unfold t_255_0
  simp (disch := omega) only [rI_d, rJ_d, rR_d, rN_d, wF_d, xI_d, xJ_d, xD_d, xQ_d, yI_d, yJ_d, yD_d, yQ_d, dI_s, dJ_s, dR_s, dN_s, dN_n, dH_s, dX_s, dL_s, dD_s, dQ_s, bC_r, bC_t, kI_s, kJ_s, kF_s, kD_s, kR_s, kV_s, I_lit, I_neg, I_add, I_sub, I_mul, I_ltT, I_ltF, I_leT, I_leF, I_eqT, I_eqF, c_int, c_long, c_obj, c_arr, c_bool, c_boolN, c_boolF, vn_bool, c_charN, vn_char, b2_f, b2_t, Int.toNat_natCast, ↓reduceIte, eq_self, and_self, and_true, true_and, not_false_eq_true, not_true_eq_false, L_0_0, L_0_1, L_0_2, L_0_3, L_0_4, L_0_5, L_0_6, L_0_7, L_0_8, L_0_9, L_0_10, L_0_11, L_0_12, L_0_13, L_0_14, L_0_15, C_0, L_1_0, L_1_1, L_1_2, C_1, L_2_0, L_2_1, L_2_2, C_2, L_3_0, L_3_1, L_3_2, C_3, L_65_0, L_65_1, L_65_2, L_65_3, L_65_4, C_65, L_66_0, L_66_1, L_66_2, L_66_3, C_66, L_129_0, L_129_1, L_129_2, L_129_3, C_129, L_198_0, L_198_1, L_198_2, L_198_3, L_198_4, L_198_5, L_198_6, L_198_7, L_198_8, L_198_9, L_198_10, L_198_11, L_198_12, L_198_13, L_198_14, L_198_15, L_198_16, L_198_17, L_198_18, L_198_19, L_198_20, L_198_21, L_198_22, L_198_23, L_198_24, L_198_25, L_198_26, L_198_27, L_198_28, L_198_29, L_198_30, L_198_31, L_198_32, L_198_33, L_198_34, L_198_35, L_198_36, L_198_37, L_198_38, L_198_39, L_198_40, L_198_41, L_198_42, L_198_43, L_198_44, L_198_45, L_198_46, L_198_47, L_198_48, C_198, A_199, A_200, A_201, A_202, A_203, A_204, A_205, A_206, A_207, A_208, A_209, A_210, A_211, A_212, A_213, A_214, A_215, A_216, A_217, A_218, A_219, A_220, A_221, A_222, A_223, A_224, A_225, A_226, A_227, A_228, A_128, A_191, A_rf, A_rs, A_rt, Q_4, Q_67, Q_130, t_255_0_1, t_255_0_2, t_255_0_3, z1, z2, or_self, x1, w, cp]
/-- the list's array when one more is to be stored at its end -/
theorem w_226 (hd : 6 ≤ d) (hb : HB H) (hk3 : K.2 3 < H.2.1) (h : ALo H p mc e xs.length) (ha : (e = K.2 3 ∧ H.1 e = none ∧ xs = []) ∨ (e ≠ K.2 3 ∧ 1 ≤ xs.length ∧ ∃ f, H.1 e = some (.inl (5, xs.length, gQ f)) ∧ ∀ j x, xs[j]? = some x → f j = some x)) (hl : xs.length ≤ 100) (ho : ∀ x ∈ xs, OBJ H x) :
    ∃ H', gCa K d 226 [.ref p] H = some (.inl (some (.ref H.2.1)), H') ∧ ALo H' p mc H.2.1 xs.length ∧ (∃ cap f, H'.1 H.2.1 = some (.inl (5, cap, gQ f)) ∧ xs.length < cap ∧ cap ≤ 200 ∧ ∀ j x, xs[j]? = some x → f j = some x) ∧ FR (fun q => q = p) 1 200 H H' ∧ H'.2.1 = H.2.1 + 1 := by
  obtain ⟨d, rfl, hd'⟩ := d_succ (show 5 + 1 ≤ d by omega)
  have h2 := gf_of h 2
  have h1 := gf_of h 1
  have hc := cl_of h
  simp only [List.getElem?_cons_succ, List.getElem?_cons_zero] at h1 h2
  have hpl : p < H.2.1 := hb.lt h
  suffices hs : ∃ H', gCa K d 243 [.ref p, .int (I ((xs.length : Int) + 1))] H = some (.inl (some (.ref H.2.1)), H') ∧ ALo H' p mc H.2.1 xs.length ∧ (∃ cap f, H'.1 H.2.1 = some (.inl (5, cap, gQ f)) ∧ xs.length < cap ∧ cap ≤ 200 ∧ ∀ j x, xs[j]? = some x → f j = some x) ∧ FR (fun q => q = p) 1 200 H H' ∧ H'.2.1 = H.2.1 + 1 by
    obtain ⟨H', w1, w2⟩ := hs
    refine ⟨H', c_226 _ ?_, w2⟩
    unfold t_226_0
    simp (disch := omega) only [rI_d, rJ_d, rR_d, rN_d, wF_d, xI_d, xJ_d, xD_d, xQ_d, yI_d, yJ_d, yD_d, yQ_d, dI_s, dJ_s, dR_s, dN_s, dN_n, dH_s, dX_s, dL_s, dD_s, dQ_s, bC_r, bC_t, kI_s, kJ_s, kF_s, kD_s, kR_s, kV_s, I_lit, I_neg, I_add, I_sub, I_mul, I_ltT, I_ltF, I_leT, I_leF, I_eqT, I_eqF, c_int, c_long, c_obj, c_arr, c_bool, c_boolN, c_boolF, vn_bool, c_charN, vn_char, b2_f, b2_t, Int.toNat_natCast, ↓reduceIte, eq_self, and_self, and_true, true_and, not_false_eq_true, not_true_eq_false, L_0_0, L_0_1, L_0_2, L_0_3, L_0_4, L_0_5, L_0_6, L_0_7, L_0_8, L_0_9, L_0_10, L_0_11, L_0_12, L_0_13, L_0_14, L_0_15, C_0, L_1_0, L_1_1, L_1_2, C_1, L_2_0, L_2_1, L_2_2, C_2, L_3_0, L_3_1, L_3_2, C_3, L_65_0, L_65_1, L_65_2, L_65_3, L_65_4, C_65, L_66_0, L_66_1, L_66_2, L_66_3, C_66, L_129_0, L_129_1, L_129_2, L_129_3, C_129, L_198_0, L_198_1, L_198_2, L_198_3, L_198_4, L_198_5, L_198_6, L_198_7, L_198_8, L_198_9, L_198_10, L_198_11, L_198_12, L_198_13, L_198_14, L_198_15, L_198_16, L_198_17, L_198_18, L_198_19, L_198_20, L_198_21, L_198_22, L_198_23, L_198_24, L_198_25, L_198_26, L_198_27, L_198_28, L_198_29, L_198_30, L_198_31, L_198_32, L_198_33, L_198_34, L_198_35, L_198_36, L_198_37, L_198_38, L_198_39, L_198_40, L_198_41, L_198_42, L_198_43, L_198_44, L_198_45, L_198_46, L_198_47, L_198_48, C_198, A_199, A_200, A_201, A_202, A_203, A_204, A_205, A_206, A_207, A_208, A_209, A_210, A_211, A_212, A_213, A_214, A_215, A_216, A_217, A_218, A_219, A_220, A_221, A_222, A_223, A_224, A_225, A_226, A_227, A_228, A_128, A_191, A_rf, A_rs, A_rt, Q_4, Q_67, Q_130, t_226_0_1, t_226_0_2, h2, hc, w1]
  obtain ⟨d, rfl, hd'⟩ := d_succ (show 4 + 1 ≤ d by omega)
  rcases ha with ⟨e1, e2, e3⟩ | ⟨e0, e1, f, e2, e3⟩
  · have hx : ∀ g, xL K H e g = g (I 0) := fun g => by
      unfold xL
      rw [e2]
      dsimp only
      rw [if_pos e1]; rfl
    have hn : xs.length = 0 := by rw [e3]; rfl
    have w := w_236 (K := K) (H := H) (d := d) (a := 10) (b := 1) (by omega) (by omega) (by omega)
    rw [show max (10 : Int) 1 = 10 by decide] at w
    have hnp : (gnew H (.inl (5, 10, gQ (fun _ => none))) 10).1 p = some (.inr (12, [.int (I mc), .ref e, .int (I (xs.length : Int))])) := (gn_lt hpl).trans h
    have pf := pf_of (k := 1) (v := .ref H.2.1) hnp (Nat.le_of_ble_eq_true rfl)
    rw [List.set_cons_succ, List.set_cons_zero] at pf
    have hbn : HB (gnew H (.inl (5, 10, gQ (fun _ => none))) 10) := hb.new
    refine ⟨gset (gnew H (.inl (5, 10, gQ (fun _ => none))) 10) p (.inr (12, [.int (I mc), .ref H.2.1, .int (I (xs.length : Int))])), c_243 _ ?_, gs_eq, ⟨10, fun _ => none, ?_, by omega, by omega, fun j x hj => by rw [e3] at hj; cases hj⟩, ?_, rfl⟩
    · have t1 : (I 10).toNatClampNeg = 10 := by decide
      unfold t_243_0
      rw [e1] at h1 hx
      rw [hn] at h2 pf ⊢
      simp (disch := omega) only [rI_d, rJ_d, rR_d, rN_d, wF_d, xI_d, xJ_d, xD_d, xQ_d, yI_d, yJ_d, yD_d, yQ_d, dI_s, dJ_s, dR_s, dN_s, dN_n, dH_s, dX_s, dL_s, dD_s, dQ_s, bC_r, bC_t, kI_s, kJ_s, kF_s, kD_s, kR_s, kV_s, I_lit, I_neg, I_add, I_sub, I_mul, I_ltT, I_ltF, I_leT, I_leF, I_eqT, I_eqF, c_int, c_long, c_obj, c_arr, c_bool, c_boolN, c_boolF, vn_bool, c_charN, vn_char, b2_f, b2_t, Int.toNat_natCast, ↓reduceIte, eq_self, and_self, and_true, true_and, not_false_eq_true, not_true_eq_false, L_0_0, L_0_1, L_0_2, L_0_3, L_0_4, L_0_5, L_0_6, L_0_7, L_0_8, L_0_9, L_0_10, L_0_11, L_0_12, L_0_13, L_0_14, L_0_15, C_0, L_1_0, L_1_1, L_1_2, C_1, L_2_0, L_2_1, L_2_2, C_2, L_3_0, L_3_1, L_3_2, C_3, L_65_0, L_65_1, L_65_2, L_65_3, L_65_4, C_65, L_66_0, L_66_1, L_66_2, L_66_3, C_66, L_129_0, L_129_1, L_129_2, L_129_3, C_129, L_198_0, L_198_1, L_198_2, L_198_3, L_198_4, L_198_5, L_198_6, L_198_7, L_198_8, L_198_9, L_198_10, L_198_11, L_198_12, L_198_13, L_198_14, L_198_15, L_198_16, L_198_17, L_198_18, L_198_19, L_198_20, L_198_21, L_198_22, L_198_23, L_198_24, L_198_25, L_198_26, L_198_27, L_198_28, L_198_29, L_198_30, L_198_31, L_198_32, L_198_33, L_198_34, L_198_35, L_198_36, L_198_37, L_198_38, L_198_39, L_198_40, L_198_41, L_198_42, L_198_43, L_198_44, L_198_45, L_198_46, L_198_47, L_198_48, C_198, A_199, A_200, A_201, A_202, A_203, A_204, A_205, A_206, A_207, A_208, A_209, A_210, A_211, A_212, A_213, A_214, A_215, A_216, A_217, A_218, A_219, A_220, A_221, A_222, A_223, A_224, A_225, A_226, A_227, A_228, A_128, A_191, A_rf, A_rs, A_rt, Q_4, Q_67, Q_130, t_226_0_1, t_226_0_2, t_243_0_1, t_243_0_2, t_243_0_3, t_243_0_4, t_243_0_5, t_243_0_6, t_243_0_7, t_243_0_8, t_243_0_9, t_243_0_10, t_243_0_11, t_243_0_12, t_243_0_13, h1, hx, w, t1, e1, Int.ofNat_zero, show ((0 : Nat) : Int) = 0 from rfl, Int.zero_add, show ¬ (100000 < 10) by decide, or_self, pf]
    · rw [gs_ne (by omega)]; exact gn_eq
    · have f1 : FR (fun q => q = p) 1 10 H (gnew H (.inl (5, 10, gQ (fun _ => none))) 10) := FR.new hb
      exact (f1.tr (FR.set hbn hnp)).le (by omega) (by omega)
  · have hx : ∀ g, xL K H e g = g (I (xs.length : Int)) := fun g => by
      unfold xL
      rw [e2]
      show g (Int32.ofNat xs.length) = _
      rw [I_nat]
    have hsh : (I (xs.length : Int)) >>> ((I 1) &&& I 31) = I ((xs.length / 2 : Nat) : Int) := shr1 ⟨xs.length, by omega⟩
    have w := w_252 (K := K) (H := H) (d := d) (n := xs.length) (by omega) e1 (by omega)
    have w2 := w_255 (K := K) (d := d - 1) (n' := xs.length + max 1 (xs.length / 2)) (by omega) hb e2 (by omega) (by omega) (fun j x hj hf => by
      have := e3 j _ (List.getElem?_eq_getElem hj)
      rw [hf] at this
      cases this
      exact ho _ (List.getElem_mem hj))
    have w3 : gCa K d 253 [.ref e, .int (I ((xs.length + max 1 (xs.length / 2) : Nat) : Int))] H = some (.inl (some (.ref H.2.1)), gset (gnew H (.inl (5, xs.length + max 1 (xs.length / 2), gQ (fun _ => none))) (xs.length + max 1 (xs.length / 2))) H.2.1 (.inl (5, xs.length + max 1 (xs.length / 2), gQ (va_cpy f (fun _ => none) 0 0 xs.length)))) := by
      obtain ⟨d, rfl, hd'⟩ := d_succ (show 3 + 1 ≤ d by omega)
      rw [Nat.add_sub_cancel] at w2
      refine c_253 _ ?_
      have ak : g_akind H e = some 5 := by
        unfold g_akind
        rw [e2]
      unfold t_253_0
      simp (disch := omega) only [rI_d, rJ_d, rR_d, rN_d, wF_d, xI_d, xJ_d, xD_d, xQ_d, yI_d, yJ_d, yD_d, yQ_d, dI_s, dJ_s, dR_s, dN_s, dN_n, dH_s, dX_s, dL_s, dD_s, dQ_s, bC_r, bC_t, kI_s, kJ_s, kF_s, kD_s, kR_s, kV_s, I_lit, I_neg, I_add, I_sub, I_mul, I_ltT, I_ltF, I_leT, I_leF, I_eqT, I_eqF, c_int, c_long, c_obj, c_arr, c_bool, c_boolN, c_boolF, vn_bool, c_charN, vn_char, b2_f, b2_t, Int.toNat_natCast, ↓reduceIte, eq_self, and_self, and_true, true_and, not_false_eq_true, not_true_eq_false, L_0_0, L_0_1, L_0_2, L_0_3, L_0_4, L_0_5, L_0_6, L_0_7, L_0_8, L_0_9, L_0_10, L_0_11, L_0_12, L_0_13, L_0_14, L_0_15, C_0, L_1_0, L_1_1, L_1_2, C_1, L_2_0, L_2_1, L_2_2, C_2, L_3_0, L_3_1, L_3_2, C_3, L_65_0, L_65_1, L_65_2, L_65_3, L_65_4, C_65, L_66_0, L_66_1, L_66_2, L_66_3, C_66, L_129_0, L_129_1, L_129_2, L_129_3, C_129, L_198_0, L_198_1, L_198_2, L_198_3, L_198_4, L_198_5, L_198_6, L_198_7, L_198_8, L_198_9, L_198_10, L_198_11, L_198_12, L_198_13, L_198_14, L_198_15, L_198_16, L_198_17, L_198_18, L_198_19, L_198_20, L_198_21, L_198_22, L_198_23, L_198_24, L_198_25, L_198_26, L_198_27, L_198_28, L_198_29, L_198_30, L_198_31, L_198_32, L_198_33, L_198_34, L_198_35, L_198_36, L_198_37, L_198_38, L_198_39, L_198_40, L_198_41, L_198_42, L_198_43, L_198_44, L_198_45, L_198_46, L_198_47, L_198_48, C_198, A_199, A_200, A_201, A_202, A_203, A_204, A_205, A_206, A_207, A_208, A_209, A_210, A_211, A_212, A_213, A_214, A_215, A_216, A_217, A_218, A_219, A_220, A_221, A_222, A_223, A_224, A_225, A_226, A_227, A_228, A_128, A_191, A_rf, A_rs, A_rt, Q_4, Q_67, Q_130, t_226_0_1, t_226_0_2, t_253_0_1, ak, w2]
    generalize hn' : xs.length + max 1 (xs.length / 2) = n' at *
    generalize hg : gnew H (.inl (5, n', gQ (fun _ => none))) n' = G1 at *
    have hG1n : G1.2.1 = H.2.1 + 1 := by rw [← hg]; rfl
    have hG1s : G1.2.2 = H.2.2 + n' := by rw [← hg]; rfl
    have hG1a : G1.1 H.2.1 = some (.inl (5, n', gQ (fun _ => none))) := by rw [← hg]; exact gn_eq
    have hG1 : HB G1 := by rw [← hg]; exact hb.new
    have hfr : FR (fun q => q = p) 1 n' H G1 := by rw [← hg]; exact FR.new hb
    have hG1p : G1.1 p = some (.inr (12, [.int (I mc), .ref e, .int (I (xs.length : Int))])) := by rw [← hg]; exact (gn_lt hpl).trans h
    have hnp : (gset G1 H.2.1 (.inl (5, n', gQ (va_cpy f (fun _ => none) 0 0 xs.length)))).1 p = some (.inr (12, [.int (I mc), .ref e, .int (I (xs.length : Int))])) := (gs_ne (by omega)).trans hG1p
    have pf := pf_of (k := 1) (v := .ref H.2.1) hnp (Nat.le_of_ble_eq_true rfl)
    rw [List.set_cons_succ, List.set_cons_zero] at pf
    have hb2 : HB (gset G1 H.2.1 (.inl (5, n', gQ (va_cpy f (fun _ => none) 0 0 xs.length)))) := hG1.set hG1a
    have hl1 : (xs.length : Int) + 1 - xs.length = 1 := by omega
    refine ⟨gset (gset G1 H.2.1 (.inl (5, n', gQ (va_cpy f (fun _ => none) 0 0 xs.length)))) p (.inr (12, [.int (I mc), .ref H.2.1, .int (I (xs.length : Int))])), c_243 _ ?_, gs_eq, ⟨n', va_cpy f (fun _ => none) 0 0 xs.length, ?_, by omega, by omega, fun j x hj => ?_⟩, ?_, hG1n⟩
    · unfold t_243_0
      simp (disch := omega) only [rI_d, rJ_d, rR_d, rN_d, wF_d, xI_d, xJ_d, xD_d, xQ_d, yI_d, yJ_d, yD_d, yQ_d, dI_s, dJ_s, dR_s, dN_s, dN_n, dH_s, dX_s, dL_s, dD_s, dQ_s, bC_r, bC_t, kI_s, kJ_s, kF_s, kD_s, kR_s, kV_s, I_lit, I_neg, I_add, I_sub, I_mul, I_ltT, I_ltF, I_leT, I_leF, I_eqT, I_eqF, c_int, c_long, c_obj, c_arr, c_bool, c_boolN, c_boolF, vn_bool, c_charN, vn_char, b2_f, b2_t, Int.toNat_natCast, ↓reduceIte, eq_self, and_self, and_true, true_and, not_false_eq_true, not_true_eq_false, L_0_0, L_0_1, L_0_2, L_0_3, L_0_4, L_0_5, L_0_6, L_0_7, L_0_8, L_0_9, L_0_10, L_0_11, L_0_12, L_0_13, L_0_14, L_0_15, C_0, L_1_0, L_1_1, L_1_2, C_1, L_2_0, L_2_1, L_2_2, C_2, L_3_0, L_3_1, L_3_2, C_3, L_65_0, L_65_1, L_65_2, L_65_3, L_65_4, C_65, L_66_0, L_66_1, L_66_2, L_66_3, C_66, L_129_0, L_129_1, L_129_2, L_129_3, C_129, L_198_0, L_198_1, L_198_2, L_198_3, L_198_4, L_198_5, L_198_6, L_198_7, L_198_8, L_198_9, L_198_10, L_198_11, L_198_12, L_198_13, L_198_14, L_198_15, L_198_16, L_198_17, L_198_18, L_198_19, L_198_20, L_198_21, L_198_22, L_198_23, L_198_24, L_198_25, L_198_26, L_198_27, L_198_28, L_198_29, L_198_30, L_198_31, L_198_32, L_198_33, L_198_34, L_198_35, L_198_36, L_198_37, L_198_38, L_198_39, L_198_40, L_198_41, L_198_42, L_198_43, L_198_44, L_198_45, L_198_46, L_198_47, L_198_48, C_198, A_199, A_200, A_201, A_202, A_203, A_204, A_205, A_206, A_207, A_208, A_209, A_210, A_211, A_212, A_213, A_214, A_215, A_216, A_217, A_218, A_219, A_220, A_221, A_222, A_223, A_224, A_225, A_226, A_227, A_228, A_128, A_191, A_rf, A_rs, A_rt, Q_4, Q_67, Q_130, t_226_0_1, t_226_0_2, t_243_0_1, t_243_0_2, t_243_0_3, t_243_0_4, t_243_0_5, t_243_0_6, t_243_0_7, t_243_0_8, t_243_0_9, t_243_0_10, t_243_0_11, t_243_0_12, t_243_0_13, h1, hx, hsh, hl1, w, w3, pf]
    · rw [gs_ne (by omega)]; exact gs_eq
    · have := (List.getElem?_eq_some_iff.mp hj).1
      show (if 0 ≤ j ∧ j < 0 + xs.length then f (0 + (j - 0)) else none) = some x
      rw [if_pos (by omega), show 0 + (j - 0) = j by omega]
      exact e3 j x hj
    · refine ⟨?_, ?_, ?_, ?_, hb2.set hnp, fun a q1 q2 => ?_⟩
      · show H.2.1 ≤ G1.2.1
        omega
      · show G1.2.1 ≤ H.2.1 + 1
        omega
      · show H.2.2 ≤ G1.2.2
        omega
      · show G1.2.2 ≤ H.2.2 + 200
        omega
      · rw [gs_ne q2, gs_ne (by omega)]
        exact hfr.2.2.2.2.2 a q1 q2
end
