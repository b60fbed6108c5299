/-! PURE 42: a list's add -/
set_option maxRecDepth 100000
theorem OBJ.cls {H H' : gH} {x : Nat} (h : OBJ H x) (hc : ∀ c fs, H.1 x = some (.inr (c, fs)) → ∃ fs', H'.1 x = some (.inr (c, fs'))) : OBJ H' x := by
  obtain ⟨c, h1, h2⟩ := h
  unfold g_cls at h1
  split at h1
  · rename_i c' fs he
    cases h1
    obtain ⟨fs', h3⟩ := hc _ _ he
    exact ⟨c, cl_of h3, h2⟩
  · cases h1
theorem OBJ.fr {W : Nat → Prop} {m s : Nat} {H H' : gH} (hb : HB H) (hf : FR W m s H H') {x : Nat} (h : OBJ H x) (hw : ∀ c fs, H.1 x = some (.inr (c, fs)) → W x → ∃ fs', H'.1 x = some (.inr (c, fs'))) : OBJ H' x := h.cls fun c fs he => by
  rcases Classical.em (W x) with q | q
  · exact hw c fs he q
  · exact ⟨fs, hf.at hb he q⟩
section
variable {K : gK} {d : Nat} {H : gH} {p e n v : Nat} {mc : Int} {xs : List Nat}
/-- the list stores v behind xs -/
theorem w_196 (hd : 7 ≤ d) (hb : HB H) (hk3 : K.2 3 < H.2.1) (h : ALo H p mc e xs.length) (ha : ARR K H e xs) (hl : xs.length ≤ 100) (ho : ∀ x ∈ xs, OBJ H x) (hv : OBJ H v) :
    ∃ H' e', gCa K d 196 [.ref p, .ref v, .ref e, .int (I (xs.length : Int))] H = some (.inl none, H') ∧ ALo H' p mc e' (xs.length + 1) ∧ ARR K H' e' (xs ++ [v]) ∧ (e' = e ∨ e' = H.2.1) ∧ FR (fun q => q = p ∨ (q = e ∧ H.1 e ≠ none)) 1 200 H H' := by
  obtain ⟨d, rfl, hd'⟩ := d_succ (show 6 + 1 ≤ d by omega)
  have hc := cl_of h
  have hpl := hb.lt h
  have hlen : ((xs.length : Int) + 1) = ((xs.length + 1 : Nat) : Int) := by omega
  have store : ∀ (f : Nat → Option Nat), (∀ j x, xs[j]? = some x → f j = some x) → ∀ j x, (xs ++ [v])[j]? = some x → va_up f xs.length (some v) j = some x := by
    intro f hf j x hj
    unfold va_up
    rcases get_app hj with ⟨q1, q2⟩ | ⟨q1, q2⟩
    · rw [if_neg (by omega)]; exact hf j x q2
    · rw [if_pos q1, q2]
  have hla : (xs ++ [v]).length = xs.length + 1 := by rw [List.length_append]; rfl
  have full : ((e = K.2 3 ∧ H.1 e = none ∧ xs = []) ∨ (e ≠ K.2 3 ∧ 1 ≤ xs.length ∧ ∃ f, H.1 e = some (.inl (5, xs.length, gQ f)) ∧ ∀ j x, xs[j]? = some x → f j = some x)) → (∀ g, xL K H e g = g (I (xs.length : Int))) → ∃ H' e', gCa K (d + 1) 196 [.ref p, .ref v, .ref e, .int (I (xs.length : Int))] H = some (.inl none, H') ∧ ALo H' p mc e' (xs.length + 1) ∧ ARR K H' e' (xs ++ [v]) ∧ (e' = e ∨ e' = H.2.1) ∧ FR (fun q => q = p ∨ (q = e ∧ H.1 e ≠ none)) 1 200 H H' := by
    intro hf hx
    obtain ⟨H1, w1, w2, ⟨cap, f, w3, w4, w5, w6⟩, w7, w8⟩ := w_226 (K := K) (d := d) (by omega) hb hk3 h hf hl ho
    have hv1 : OBJ H1 v := hv.fr hb w7 (fun c fs he q => by
      subst q
      cases h.symm.trans he
      exact ⟨_, w2⟩)
    have hvc : ∃ c', g_cls H1 v = some c' ∧ (c' < 13 ∨ (100 ≠ 100 ∧ c' = 100)) := by
      obtain ⟨c, q1, q2⟩ := hv1
      exact ⟨c, q1, Or.inl q2⟩
    have qs := qs_of w3 (z := (xs.length : Int)) (x := some v) (by omega) (by omega)
    rw [Int.toNat_natCast] at qs
    have hpe : p ≠ H.2.1 := by omega
    have h2 : (gset H1 H.2.1 (.inl (5, cap, gQ (va_up f xs.length (some v))))).1 p = some (.inr (12, [.int (I mc), .ref H.2.1, .int (I (xs.length : Int))])) := (gs_ne hpe).trans w2
    have hb2 : HB (gset H1 H.2.1 (.inl (5, cap, gQ (va_up f xs.length (some v))))) := w7.hb.set w3
    have pf := pf_of (k := 2) (v := .int (I ((xs.length : Int) + 1))) h2 (Nat.le_of_ble_eq_true rfl)
    rw [List.set_cons_succ, List.set_cons_succ, List.set_cons_zero, hlen] at pf
    refine ⟨gset (gset H1 H.2.1 (.inl (5, cap, gQ (va_up f xs.length (some v))))) p (.inr (12, [.int (I mc), .ref H.2.1, .int (I ((xs.length + 1 : Nat) : Int))])), H.2.1, c_196 _ ?_, gs_eq, Or.inr ⟨by omega, cap, va_up f xs.length (some v), ?_, by omega, by omega, by omega, store f w6⟩, Or.inr rfl, ?_⟩
    · unfold t_196_0
      simp (disch := omega) only [rI_d, rJ_d, rR_d, rN_d, wF_d, xI_d, xJ_d, xD_d, xQ_d, yI_d, yJ_d, yD_d, yQ_d, dI_s, dJ_s, dR_s, dN_s, dN_n, dH_s, dX_s, dL_s, dD_s, dQ_s, bC_r, bC_t, kI_s, kJ_s, kF_s, kD_s, kR_s, kV_s, I_lit, I_neg, I_add, I_sub, I_mul, I_ltT, I_ltF, I_leT, I_leF, I_eqT, I_eqF, c_int, c_long, c_obj, c_arr, c_bool, c_boolN, c_boolF, vn_bool, c_charN, vn_char, b2_f, b2_t, Int.toNat_natCast, ↓reduceIte, eq_self, and_self, and_true, true_and, not_false_eq_true, not_true_eq_false, L_0_0, L_0_1, L_0_2, L_0_3, L_0_4, L_0_5, L_0_6, L_0_7, L_0_8, L_0_9, L_0_10, L_0_11, L_0_12, L_0_13, L_0_14, L_0_15, C_0, L_1_0, L_1_1, L_1_2, C_1, L_2_0, L_2_1, L_2_2, C_2, L_3_0, L_3_1, L_3_2, C_3, L_65_0, L_65_1, L_65_2, L_65_3, L_65_4, C_65, L_66_0, L_66_1, L_66_2, L_66_3, C_66, L_129_0, L_129_1, L_129_2, L_129_3, C_129, L_198_0, L_198_1, L_198_2, L_198_3, L_198_4, L_198_5, L_198_6, L_198_7, L_198_8, L_198_9, L_198_10, L_198_11, L_198_12, L_198_13, L_198_14, L_198_15, L_198_16, L_198_17, L_198_18, L_198_19, L_198_20, L_198_21, L_198_22, L_198_23, L_198_24, L_198_25, L_198_26, L_198_27, L_198_28, L_198_29, L_198_30, L_198_31, L_198_32, L_198_33, L_198_34, L_198_35, L_198_36, L_198_37, L_198_38, L_198_39, L_198_40, L_198_41, L_198_42, L_198_43, L_198_44, L_198_45, L_198_46, L_198_47, L_198_48, C_198, A_199, A_200, A_201, A_202, A_203, A_204, A_205, A_206, A_207, A_208, A_209, A_210, A_211, A_212, A_213, A_214, A_215, A_216, A_217, A_218, A_219, A_220, A_221, A_222, A_223, A_224, A_225, A_226, A_227, A_228, A_128, A_191, A_rf, A_rs, A_rt, Q_4, Q_67, Q_130, t_196_0_1, t_196_0_2, t_196_0_3, t_196_0_4, t_196_0_5, t_196_0_6, hx, hc, w1, if_pos hvc, qs, pf, hlen]
    · rw [gs_ne (Ne.symm hpe)]; exact gs_eq
    · refine ⟨w7.1, w7.2.1, w7.2.2.1, w7.2.2.2.1, hb2.set h2, fun a q1 q2 => ?_⟩
      rw [gs_ne (fun q => q2 (Or.inl q)), gs_ne (by omega)]
      exact w7.2.2.2.2.2 a q1 (fun q => q2 (Or.inl q))
  rcases ha with ⟨e1, e2, e3⟩ | ⟨e0, cap, f, e1, e2, e20, e3, e4⟩
  · refine full (Or.inl ⟨e1, e2, e3⟩) (fun g => ?_)
    unfold xL
    rw [e2]
    dsimp only
    rw [if_pos e1, e3]; rfl
  · have hx : ∀ g, xL K H e g = g (I (cap : Int)) := fun g => by
      unfold xL
      rw [e1]
      show g (Int32.ofNat cap) = _
      rw [I_nat]
    by_cases hcap : cap = xs.length
    · subst hcap
      exact full (Or.inr ⟨e0, by omega, f, e1, e4⟩) hx
    · have hep : e ≠ p := ne_ac e1 h
      have hvc : ∃ c', g_cls H v = some c' ∧ (c' < 13 ∨ (100 ≠ 100 ∧ c' = 100)) := by
        obtain ⟨c, q1, q2⟩ := hv
        exact ⟨c, q1, Or.inl q2⟩
      have qs := qs_of e1 (z := (xs.length : Int)) (x := some v) (by omega) (by omega)
      rw [Int.toNat_natCast] at qs
      have h2 : (gset H e (.inl (5, cap, gQ (va_up f xs.length (some v))))).1 p = some (.inr (12, [.int (I mc), .ref e, .int (I (xs.length : Int))])) := (gs_ne (Ne.symm hep)).trans h
      have hb2 : HB (gset H e (.inl (5, cap, gQ (va_up f xs.length (some v))))) := hb.set e1
      have pf := pf_of (k := 2) (v := .int (I ((xs.length : Int) + 1))) h2 (Nat.le_of_ble_eq_true rfl)
      rw [List.set_cons_succ, List.set_cons_succ, List.set_cons_zero, hlen] at pf
      refine ⟨gset (gset H e (.inl (5, cap, gQ (va_up f xs.length (some v))))) p (.inr (12, [.int (I mc), .ref e, .int (I ((xs.length + 1 : Nat) : Int))])), e, c_196 _ ?_, gs_eq, Or.inr ⟨e0, cap, va_up f xs.length (some v), ?_, by omega, by omega, by omega, store f e4⟩, Or.inl rfl, ?_⟩
      · unfold t_196_0
        simp (disch := omega) only [rI_d, rJ_d, rR_d, rN_d, wF_d, xI_d, xJ_d, xD_d, xQ_d, yI_d, yJ_d, yD_d, yQ_d, dI_s, dJ_s, dR_s, dN_s, dN_n, dH_s, dX_s, dL_s, dD_s, dQ_s, bC_r, bC_t, kI_s, kJ_s, kF_s, kD_s, kR_s, kV_s, I_lit, I_neg, I_add, I_sub, I_mul, I_ltT, I_ltF, I_leT, I_leF, I_eqT, I_eqF, c_int, c_long, c_obj, c_arr, c_bool, c_boolN, c_boolF, vn_bool, c_charN, vn_char, b2_f, b2_t, Int.toNat_natCast, ↓reduceIte, eq_self, and_self, and_true, true_and, not_false_eq_true, not_true_eq_false, L_0_0, L_0_1, L_0_2, L_0_3, L_0_4, L_0_5, L_0_6, L_0_7, L_0_8, L_0_9, L_0_10, L_0_11, L_0_12, L_0_13, L_0_14, L_0_15, C_0, L_1_0, L_1_1, L_1_2, C_1, L_2_0, L_2_1, L_2_2, C_2, L_3_0, L_3_1, L_3_2, C_3, L_65_0, L_65_1, L_65_2, L_65_3, L_65_4, C_65, L_66_0, L_66_1, L_66_2, L_66_3, C_66, L_129_0, L_129_1, L_129_2, L_129_3, C_129, L_198_0, L_198_1, L_198_2, L_198_3, L_198_4, L_198_5, L_198_6, L_198_7, L_198_8, L_198_9, L_198_10, L_198_11, L_198_12, L_198_13, L_198_14, L_198_15, L_198_16, L_198_17, L_198_18, L_198_19, L_198_20, L_198_21, L_198_22, L_198_23, L_198_24, L_198_25, L_198_26, L_198_27, L_198_28, L_198_29, L_198_30, L_198_31, L_198_32, L_198_33, L_198_34, L_198_35, L_198_36, L_198_37, L_198_38, L_198_39, L_198_40, L_198_41, L_198_42, L_198_43, L_198_44, L_198_45, L_198_46, L_198_47, L_198_48, C_198, A_199, A_200, A_201, A_202, A_203, A_204, A_205, A_206, A_207, A_208, A_209, A_210, A_211, A_212, A_213, A_214, A_215, A_216, A_217, A_218, A_219, A_220, A_221, A_222, A_223, A_224, A_225, A_226, A_227, A_228, A_128, A_191, A_rf, A_rs, A_rt, Q_4, Q_67, Q_130, t_196_0_1, t_196_0_2, t_196_0_3, t_196_0_4, t_196_0_5, t_196_0_6, hx, hc, if_pos hvc, qs, pf, hlen]
      · rw [gs_ne hep]; exact gs_eq
      · refine ⟨Nat.le_refl _, Nat.le_succ _, Nat.le_refl _, Nat.le_add_right _ _, hb2.set h2, fun a q1 q2 => ?_⟩
        rw [gs_ne (fun q => q2 (Or.inl q)), gs_ne (fun q => q2 (Or.inr ⟨q, by rw [e1]; exact fun z => by cases z⟩))]
theorem w_156 (hd : 8 ≤ d) (hb : HB H) (hk3 : K.2 3 < H.2.1) (h : ALo H p mc e xs.length) (ha : ARR K H e xs) (hl : xs.length ≤ 100) (ho : ∀ x ∈ xs, OBJ H x) (hv : OBJ H v) :
    ∃ H' mc' e', gCa K d 156 [.ref p, .ref v] H = some (.inl (some (.int (I 1))), H') ∧ ALo H' p mc' e' (xs.length + 1) ∧ ARR K H' e' (xs ++ [v]) ∧ (e' = e ∨ e' = H.2.1) ∧ FR (fun q => q = p ∨ (q = e ∧ H.1 e ≠ none)) 1 200 H H' := by
  obtain ⟨d, rfl, hd'⟩ := d_succ (show 7 + 1 ≤ d by omega)
  have h0 := gf_of h 0
  simp only [List.getElem?_cons_succ, List.getElem?_cons_zero] at h0
  have pf := pf_of (k := 0) (v := .int (I (mc + 1))) h (Nat.le_of_ble_eq_true rfl)
  rw [List.set_cons_zero] at pf
  have hA : ALo (gset H p (.inr (12, [.int (I (mc + 1)), .ref e, .int (I (xs.length : Int))]))) p (mc + 1) e xs.length := gs_eq
  have hb1 : HB (gset H p (.inr (12, [.int (I (mc + 1)), .ref e, .int (I (xs.length : Int))]))) := hb.set h
  have f1 : FR (fun q => q = p) 0 0 H (gset H p (.inr (12, [.int (I (mc + 1)), .ref e, .int (I (xs.length : Int))]))) := FR.set hb h
  have oo : ∀ x, OBJ H x → OBJ (gset H p (.inr (12, [.int (I (mc + 1)), .ref e, .int (I (xs.length : Int))]))) x := fun x hx => hx.fr hb f1 (fun c fs he q => by
    subst q
    cases h.symm.trans he
    exact ⟨_, gs_eq⟩)
  have ha1 : ARR K (gset H p (.inr (12, [.int (I (mc + 1)), .ref e, .int (I (xs.length : Int))]))) e xs := by
    rcases ha with ⟨e1, e2, e3⟩ | ⟨e0, cap, f, e1, e2⟩
    · refine Or.inl ⟨e1, ?_, e3⟩
      rw [gs_ne (by rintro rfl; rw [h] at e2; cases e2)]
      exact e2
    · refine Or.inr ⟨e0, cap, f, ?_, e2⟩
      rw [gs_ne (ne_ac e1 h)]
      exact e1
  obtain ⟨H', e', w1, w2, w3, w4, w5⟩ := w_196 (K := K) (d := d) (v := v) (by omega) hb1 hk3 hA ha1 hl (fun x hx => oo x (ho x hx)) (oo v hv)
  have g1 := gf_of hA 1
  have g2 := gf_of hA 2
  have gc := cl_of hA
  simp only [List.getElem?_cons_succ, List.getElem?_cons_zero] at g1 g2
  refine ⟨H', mc + 1, e', c_156 _ ?_, w2, w3, w4, ((f1.mono (fun a _ q => Or.inl q)).tr (w5.mono (fun a _ q => q.imp_right (fun q => ⟨q.1, fun z => q.2 (by rw [gs_ne (by rintro rfl; rw [h] at z; cases z)]; exact z)⟩)))).le (by omega) (by omega)⟩
  unfold t_156_0
  simp (disch := omega) only [rI_d, rJ_d, rR_d, rN_d, wF_d, xI_d, xJ_d, xD_d, xQ_d, yI_d, yJ_d, yD_d, yQ_d, dI_s, dJ_s, dR_s, dN_s, dN_n, dH_s, dX_s, dL_s, dD_s, dQ_s, bC_r, bC_t, kI_s, kJ_s, kF_s, kD_s, kR_s, kV_s, I_lit, I_neg, I_add, I_sub, I_mul, I_ltT, I_ltF, I_leT, I_leF, I_eqT, I_eqF, c_int, c_long, c_obj, c_arr, c_bool, c_boolN, c_boolF, vn_bool, c_charN, vn_char, b2_f, b2_t, Int.toNat_natCast, ↓reduceIte, eq_self, and_self, and_true, true_and, not_false_eq_true, not_true_eq_false, L_0_0, L_0_1, L_0_2, L_0_3, L_0_4, L_0_5, L_0_6, L_0_7, L_0_8, L_0_9, L_0_10, L_0_11, L_0_12, L_0_13, L_0_14, L_0_15, C_0, L_1_0, L_1_1, L_1_2, C_1, L_2_0, L_2_1, L_2_2, C_2, L_3_0, L_3_1, L_3_2, C_3, L_65_0, L_65_1, L_65_2, L_65_3, L_65_4, C_65, L_66_0, L_66_1, L_66_2, L_66_3, C_66, L_129_0, L_129_1, L_129_2, L_129_3, C_129, L_198_0, L_198_1, L_198_2, L_198_3, L_198_4, L_198_5, L_198_6, L_198_7, L_198_8, L_198_9, L_198_10, L_198_11, L_198_12, L_198_13, L_198_14, L_198_15, L_198_16, L_198_17, L_198_18, L_198_19, L_198_20, L_198_21, L_198_22, L_198_23, L_198_24, L_198_25, L_198_26, L_198_27, L_198_28, L_198_29, L_198_30, L_198_31, L_198_32, L_198_33, L_198_34, L_198_35, L_198_36, L_198_37, L_198_38, L_198_39, L_198_40, L_198_41, L_198_42, L_198_43, L_198_44, L_198_45, L_198_46, L_198_47, L_198_48, C_198, A_199, A_200, A_201, A_202, A_203, A_204, A_205, A_206, A_207, A_208, A_209, A_210, A_211, A_212, A_213, A_214, A_215, A_216, A_217, A_218, A_219, A_220, A_221, A_222, A_223, A_224, A_225, A_226, A_227, A_228, A_128, A_191, A_rf, A_rs, A_rt, Q_4, Q_67, Q_130, t_156_0_1, t_156_0_2, t_156_0_3, t_156_0_4, t_156_0_5, h0, pf, g1, g2, gc, w1]
theorem w_84 (hd : 3 ≤ d) (hb : HB H) (h : H.1 p = some (.inr (12, [.int (I 0), .null, .int (I 0)]))) : ∃ H', gCa K d 84 [.ref p] H = some (.inl none, H') ∧ ALo H' p 0 (K.2 3) 0 ∧ FR (fun q => q = p) 0 0 H H' := by
  obtain ⟨d, rfl, hd'⟩ := d_succ (show 2 + 1 ≤ d by omega)
  have pf := pf_of (k := 0) (v := .int (I 0)) h (Nat.le_of_ble_eq_true rfl)
  rw [List.set_cons_zero] at pf
  have h2 : (gset H p (.inr (12, [.int (I 0), .null, .int (I 0)]))).1 p = some (.inr (12, [.int (I 0), .null, .int (I 0)])) := gs_eq
  have pf2 := pf_of (k := 1) (v := .ref (K.2 3)) h2 (Nat.le_of_ble_eq_true rfl)
  rw [List.set_cons_succ, List.set_cons_zero] at pf2
  have w1 : gCa K d 147 [.ref p] H = some (.inl none, gset H p (.inr (12, [.int (I 0), .null, .int (I 0)]))) := by
    obtain ⟨d, rfl, hd'⟩ := d_succ (show 1 + 1 ≤ d by omega)
    have w2 : gCa K d 195 [.ref p] H = some (.inl none, H) := by
      obtain ⟨d, rfl, hd'⟩ := d_succ (show 0 + 1 ≤ d by omega)
      exact c_195 _ rfl
    refine c_147 _ ?_
    unfold t_147_0
    simp (disch := omega) only [rI_d, rJ_d, rR_d, rN_d, wF_d, xI_d, xJ_d, xD_d, xQ_d, yI_d, yJ_d, yD_d, yQ_d, dI_s, dJ_s, dR_s, dN_s, dN_n, dH_s, dX_s, dL_s, dD_s, dQ_s, bC_r, bC_t, kI_s, kJ_s, kF_s, kD_s, kR_s, kV_s, I_lit, I_neg, I_add, I_sub, I_mul, I_ltT, I_ltF, I_leT, I_leF, I_eqT, I_eqF, c_int, c_long, c_obj, c_arr, c_bool, c_boolN, c_boolF, vn_bool, c_charN, vn_char, b2_f, b2_t, Int.toNat_natCast, ↓reduceIte, eq_self, and_self, and_true, true_and, not_false_eq_true, not_true_eq_false, L_0_0, L_0_1, L_0_2, L_0_3, L_0_4, L_0_5, L_0_6, L_0_7, L_0_8, L_0_9, L_0_10, L_0_11, L_0_12, L_0_13, L_0_14, L_0_15, C_0, L_1_0, L_1_1, L_1_2, C_1, L_2_0, L_2_1, L_2_2, C_2, L_3_0, L_3_1, L_3_2, C_3, L_65_0, L_65_1, L_65_2, L_65_3, L_65_4, C_65, L_66_0, L_66_1, L_66_2, L_66_3, C_66, L_129_0, L_129_1, L_129_2, L_129_3, C_129, L_198_0, L_198_1, L_198_2, L_198_3, L_198_4, L_198_5, L_198_6, L_198_7, L_198_8, L_198_9, L_198_10, L_198_11, L_198_12, L_198_13, L_198_14, L_198_15, L_198_16, L_198_17, L_198_18, L_198_19, L_198_20, L_198_21, L_198_22, L_198_23, L_198_24, L_198_25, L_198_26, L_198_27, L_198_28, L_198_29, L_198_30, L_198_31, L_198_32, L_198_33, L_198_34, L_198_35, L_198_36, L_198_37, L_198_38, L_198_39, L_198_40, L_198_41, L_198_42, L_198_43, L_198_44, L_198_45, L_198_46, L_198_47, L_198_48, C_198, A_199, A_200, A_201, A_202, A_203, A_204, A_205, A_206, A_207, A_208, A_209, A_210, A_211, A_212, A_213, A_214, A_215, A_216, A_217, A_218, A_219, A_220, A_221, A_222, A_223, A_224, A_225, A_226, A_227, A_228, A_128, A_191, A_rf, A_rs, A_rt, Q_4, Q_67, Q_130, t_84_0_1, t_84_0_2, t_147_0_1, t_147_0_2, w2, pf]
  have f1 : FR (fun q => q = p) 0 0 H (gset H p (.inr (12, [.int (I 0), .null, .int (I 0)]))) := FR.set hb h
  refine ⟨gset (gset H p (.inr (12, [.int (I 0), .null, .int (I 0)]))) p (.inr (12, [.int (I 0), .ref (K.2 3), .int (I 0)])), c_84 _ ?_, gs_eq, (f1.tr (FR.set f1.hb h2)).le (by omega) (by omega)⟩
  unfold t_84_0
  simp (disch := omega) only [rI_d, rJ_d, rR_d, rN_d, wF_d, xI_d, xJ_d, xD_d, xQ_d, yI_d, yJ_d, yD_d, yQ_d, dI_s, dJ_s, dR_s, dN_s, dN_n, dH_s, dX_s, dL_s, dD_s, dQ_s, bC_r, bC_t, kI_s, kJ_s, kF_s, kD_s, kR_s, kV_s, I_lit, I_neg, I_add, I_sub, I_mul, I_ltT, I_ltF, I_leT, I_leF, I_eqT, I_eqF, c_int, c_long, c_obj, c_arr, c_bool, c_boolN, c_boolF, vn_bool, c_charN, vn_char, b2_f, b2_t, Int.toNat_natCast, ↓reduceIte, eq_self, and_self, and_true, true_and, not_false_eq_true, not_true_eq_false, L_0_0, L_0_1, L_0_2, L_0_3, L_0_4, L_0_5, L_0_6, L_0_7, L_0_8, L_0_9, L_0_10, L_0_11, L_0_12, L_0_13, L_0_14, L_0_15, C_0, L_1_0, L_1_1, L_1_2, C_1, L_2_0, L_2_1, L_2_2, C_2, L_3_0, L_3_1, L_3_2, C_3, L_65_0, L_65_1, L_65_2, L_65_3, L_65_4, C_65, L_66_0, L_66_1, L_66_2, L_66_3, C_66, L_129_0, L_129_1, L_129_2, L_129_3, C_129, L_198_0, L_198_1, L_198_2, L_198_3, L_198_4, L_198_5, L_198_6, L_198_7, L_198_8, L_198_9, L_198_10, L_198_11, L_198_12, L_198_13, L_198_14, L_198_15, L_198_16, L_198_17, L_198_18, L_198_19, L_198_20, L_198_21, L_198_22, L_198_23, L_198_24, L_198_25, L_198_26, L_198_27, L_198_28, L_198_29, L_198_30, L_198_31, L_198_32, L_198_33, L_198_34, L_198_35, L_198_36, L_198_37, L_198_38, L_198_39, L_198_40, L_198_41, L_198_42, L_198_43, L_198_44, L_198_45, L_198_46, L_198_47, L_198_48, C_198, A_199, A_200, A_201, A_202, A_203, A_204, A_205, A_206, A_207, A_208, A_209, A_210, A_211, A_212, A_213, A_214, A_215, A_216, A_217, A_218, A_219, A_220, A_221, A_222, A_223, A_224, A_225, A_226, A_227, A_228, A_128, A_191, A_rf, A_rs, A_rt, Q_4, Q_67, Q_130, t_84_0_1, t_84_0_2, w1, pf2]
/-- emptied from z on -/
theorem l_111 {f0 : Nat → Option Nat} {n cap : Nat} (hn : n ≤ cap) (hcap : cap ≤ 200) : ∀ (m : Nat) (z : Int) (H : gH) (f : Nat → Option Nat), HB H → 0 ≤ z → z + m = n → H.1 e = some (.inl (5, cap, gQ f)) →
    ∃ H' f', gRn K d 111 27 [some (.ref p), some (.ref e), some (.int (I (n : Int))), some (.int (I z))] [] H = some (.inl none, H') ∧ H'.1 e = some (.inl (5, cap, gQ f')) ∧ FR (fun q => q = e) 0 0 H H' := by
  intro m
  induction m with
  | zero =>
    intro z H f hb hz hm h1
    refine ⟨H, f, e_111_27 _ ?_, h1, FR.rf hb⟩
    unfold t_111_27
    simp (disch := omega) only [rI_d, rJ_d, rR_d, rN_d, wF_d, xI_d, xJ_d, xD_d, xQ_d, yI_d, yJ_d, yD_d, yQ_d, dI_s, dJ_s, dR_s, dN_s, dN_n, dH_s, dX_s, dL_s, dD_s, dQ_s, bC_r, bC_t, kI_s, kJ_s, kF_s, kD_s, kR_s, kV_s, I_lit, I_neg, I_add, I_sub, I_mul, I_ltT, I_ltF, I_leT, I_leF, I_eqT, I_eqF, c_int, c_long, c_obj, c_arr, c_bool, c_boolN, c_boolF, vn_bool, c_charN, vn_char, b2_f, b2_t, Int.toNat_natCast, ↓reduceIte, eq_self, and_self, and_true, true_and, not_false_eq_true, not_true_eq_false, L_0_0, L_0_1, L_0_2, L_0_3, L_0_4, L_0_5, L_0_6, L_0_7, L_0_8, L_0_9, L_0_10, L_0_11, L_0_12, L_0_13, L_0_14, L_0_15, C_0, L_1_0, L_1_1, L_1_2, C_1, L_2_0, L_2_1, L_2_2, C_2, L_3_0, L_3_1, L_3_2, C_3, L_65_0, L_65_1, L_65_2, L_65_3, L_65_4, C_65, L_66_0, L_66_1, L_66_2, L_66_3, C_66, L_129_0, L_129_1, L_129_2, L_129_3, C_129, L_198_0, L_198_1, L_198_2, L_198_3, L_198_4, L_198_5, L_198_6, L_198_7, L_198_8, L_198_9, L_198_10, L_198_11, L_198_12, L_198_13, L_198_14, L_198_15, L_198_16, L_198_17, L_198_18, L_198_19, L_198_20, L_198_21, L_198_22, L_198_23, L_198_24, L_198_25, L_198_26, L_198_27, L_198_28, L_198_29, L_198_30, L_198_31, L_198_32, L_198_33, L_198_34, L_198_35, L_198_36, L_198_37, L_198_38, L_198_39, L_198_40, L_198_41, L_198_42, L_198_43, L_198_44, L_198_45, L_198_46, L_198_47, L_198_48, C_198, A_199, A_200, A_201, A_202, A_203, A_204, A_205, A_206, A_207, A_208, A_209, A_210, A_211, A_212, A_213, A_214, A_215, A_216, A_217, A_218, A_219, A_220, A_221, A_222, A_223, A_224, A_225, A_226, A_227, A_228, A_128, A_191, A_rf, A_rs, A_rt, Q_4, Q_67, Q_130, t_111_0_1, t_111_0_2, t_111_0_3, t_111_0_4, t_111_0_5, t_111_27_1]
  | succ m ih =>
    intro z H f hb hz hm h1
    have qs := qs_of h1 (z := z) (x := none) (by omega) (by omega)
    obtain ⟨H', f', w1, w2, w3⟩ := ih (z + 1) (gset H e (.inl (5, cap, gQ (va_up f z.toNat none)))) (va_up f z.toNat none) (hb.set h1) (by omega) (by omega) gs_eq
    refine ⟨H', f', e_111_27 _ ?_, w2, ((FR.set hb h1).tr w3).le (by omega) (by omega)⟩
    unfold t_111_27
    simp (disch := omega) only [rI_d, rJ_d, rR_d, rN_d, wF_d, xI_d, xJ_d, xD_d, xQ_d, yI_d, yJ_d, yD_d, yQ_d, dI_s, dJ_s, dR_s, dN_s, dN_n, dH_s, dX_s, dL_s, dD_s, dQ_s, bC_r, bC_t, kI_s, kJ_s, kF_s, kD_s, kR_s, kV_s, I_lit, I_neg, I_add, I_sub, I_mul, I_ltT, I_ltF, I_leT, I_leF, I_eqT, I_eqF, c_int, c_long, c_obj, c_arr, c_bool, c_boolN, c_boolF, vn_bool, c_charN, vn_char, b2_f, b2_t, Int.toNat_natCast, ↓reduceIte, eq_self, and_self, and_true, true_and, not_false_eq_true, not_true_eq_false, L_0_0, L_0_1, L_0_2, L_0_3, L_0_4, L_0_5, L_0_6, L_0_7, L_0_8, L_0_9, L_0_10, L_0_11, L_0_12, L_0_13, L_0_14, L_0_15, C_0, L_1_0, L_1_1, L_1_2, C_1, L_2_0, L_2_1, L_2_2, C_2, L_3_0, L_3_1, L_3_2, C_3, L_65_0, L_65_1, L_65_2, L_65_3, L_65_4, C_65, L_66_0, L_66_1, L_66_2, L_66_3, C_66, L_129_0, L_129_1, L_129_2, L_129_3, C_129, L_198_0, L_198_1, L_198_2, L_198_3, L_198_4, L_198_5, L_198_6, L_198_7, L_198_8, L_198_9, L_198_10, L_198_11, L_198_12, L_198_13, L_198_14, L_198_15, L_198_16, L_198_17, L_198_18, L_198_19, L_198_20, L_198_21, L_198_22, L_198_23, L_198_24, L_198_25, L_198_26, L_198_27, L_198_28, L_198_29, L_198_30, L_198_31, L_198_32, L_198_33, L_198_34, L_198_35, L_198_36, L_198_37, L_198_38, L_198_39, L_198_40, L_198_41, L_198_42, L_198_43, L_198_44, L_198_45, L_198_46, L_198_47, L_198_48, C_198, A_199, A_200, A_201, A_202, A_203, A_204, A_205, A_206, A_207, A_208, A_209, A_210, A_211, A_212, A_213, A_214, A_215, A_216, A_217, A_218, A_219, A_220, A_221, A_222, A_223, A_224, A_225, A_226, A_227, A_228, A_128, A_191, A_rf, A_rs, A_rt, Q_4, Q_67, Q_130, t_111_0_1, t_111_0_2, t_111_0_3, t_111_0_4, t_111_0_5, t_111_27_1, qs, w1]
theorem w_111 (hd : 2 ≤ d) (hb : HB H) (h : ALo H p mc e xs.length) (ha : ARR K H e xs) (hl : xs.length ≤ 100) :
    ∃ H' mc', gCa K d 111 [.ref p] H = some (.inl none, H') ∧ ALo H' p mc' e 0 ∧ ARR K H' e [] ∧ FR (fun q => q = p ∨ (q = e ∧ H.1 e ≠ none)) 0 0 H H' := by
  obtain ⟨d, rfl, hd'⟩ := d_succ (show 1 + 1 ≤ d by omega)
  have h0 := gf_of h 0
  simp only [List.getElem?_cons_succ, List.getElem?_cons_zero] at h0
  have pf := pf_of (k := 0) (v := .int (I (mc + 1))) h (Nat.le_of_ble_eq_true rfl)
  rw [List.set_cons_zero] at pf
  have hA : ALo (gset H p (.inr (12, [.int (I (mc + 1)), .ref e, .int (I (xs.length : Int))]))) p (mc + 1) e xs.length := gs_eq
  have f1 : FR (fun q => q = p) 0 0 H (gset H p (.inr (12, [.int (I (mc + 1)), .ref e, .int (I (xs.length : Int))]))) := FR.set hb h
  have g1 := gf_of hA 1
  have g2 := gf_of hA 2
  simp only [List.getElem?_cons_succ, List.getElem?_cons_zero] at g1 g2
  have pf2 := pf_of (k := 2) (v := .int (I 0)) hA (Nat.le_of_ble_eq_true rfl)
  rw [List.set_cons_succ, List.set_cons_succ, List.set_cons_zero] at pf2
  have f2 := f1.tr (FR.set (e := .inr (12, [.int (I (mc + 1)), .ref e, .int (I 0)])) f1.hb hA)
  generalize hH1 : gset H p (.inr (12, [.int (I (mc + 1)), .ref e, .int (I (xs.length : Int))])) = H1 at *
  have hB : (gset H1 p (.inr (12, [.int (I (mc + 1)), .ref e, .int (I 0)]))).1 p = some (.inr (12, [.int (I (mc + 1)), .ref e, .int (I 0)])) := gs_eq
  rcases ha with ⟨e1, e2, e3⟩ | ⟨e0, cap, f, e1, e2, e20, e3, e4⟩
  · have hep : e ≠ p := by
      rintro rfl
      rw [h] at e2; cases e2
    have hz : (xs.length : Int) = 0 := by rw [e3]; rfl
    refine ⟨gset H1 p (.inr (12, [.int (I (mc + 1)), .ref e, .int (I 0)])), mc + 1, c_111 _ ?_, hB, Or.inl ⟨e1, ?_, rfl⟩, (f2.mono (fun a _ q => Or.inl q)).le (by omega) (by omega)⟩
    · have w : gRn K d 111 27 [some (.ref p), some (.ref e), some (.int (I 0)), some (.int (I 0))] [] (gset H1 p (.inr (12, [.int (I (mc + 1)), .ref e, .int (I 0)]))) = some (.inl none, gset H1 p (.inr (12, [.int (I (mc + 1)), .ref e, .int (I 0)]))) := by
        refine e_111_27 _ ?_
        unfold t_111_27
        simp (disch := omega) only [rI_d, rJ_d, rR_d, rN_d, wF_d, xI_d, xJ_d, xD_d, xQ_d, yI_d, yJ_d, yD_d, yQ_d, dI_s, dJ_s, dR_s, dN_s, dN_n, dH_s, dX_s, dL_s, dD_s, dQ_s, bC_r, bC_t, kI_s, kJ_s, kF_s, kD_s, kR_s, kV_s, I_lit, I_neg, I_add, I_sub, I_mul, I_ltT, I_ltF, I_leT, I_leF, I_eqT, I_eqF, c_int, c_long, c_obj, c_arr, c_bool, c_boolN, c_boolF, vn_bool, c_charN, vn_char, b2_f, b2_t, Int.toNat_natCast, ↓reduceIte, eq_self, and_self, and_true, true_and, not_false_eq_true, not_true_eq_false, L_0_0, L_0_1, L_0_2, L_0_3, L_0_4, L_0_5, L_0_6, L_0_7, L_0_8, L_0_9, L_0_10, L_0_11, L_0_12, L_0_13, L_0_14, L_0_15, C_0, L_1_0, L_1_1, L_1_2, C_1, L_2_0, L_2_1, L_2_2, C_2, L_3_0, L_3_1, L_3_2, C_3, L_65_0, L_65_1, L_65_2, L_65_3, L_65_4, C_65, L_66_0, L_66_1, L_66_2, L_66_3, C_66, L_129_0, L_129_1, L_129_2, L_129_3, C_129, L_198_0, L_198_1, L_198_2, L_198_3, L_198_4, L_198_5, L_198_6, L_198_7, L_198_8, L_198_9, L_198_10, L_198_11, L_198_12, L_198_13, L_198_14, L_198_15, L_198_16, L_198_17, L_198_18, L_198_19, L_198_20, L_198_21, L_198_22, L_198_23, L_198_24, L_198_25, L_198_26, L_198_27, L_198_28, L_198_29, L_198_30, L_198_31, L_198_32, L_198_33, L_198_34, L_198_35, L_198_36, L_198_37, L_198_38, L_198_39, L_198_40, L_198_41, L_198_42, L_198_43, L_198_44, L_198_45, L_198_46, L_198_47, L_198_48, C_198, A_199, A_200, A_201, A_202, A_203, A_204, A_205, A_206, A_207, A_208, A_209, A_210, A_211, A_212, A_213, A_214, A_215, A_216, A_217, A_218, A_219, A_220, A_221, A_222, A_223, A_224, A_225, A_226, A_227, A_228, A_128, A_191, A_rf, A_rs, A_rt, Q_4, Q_67, Q_130, t_111_0_1, t_111_0_2, t_111_0_3, t_111_0_4, t_111_0_5, t_111_27_1, t_111_0_1, t_111_0_2, t_111_0_3, t_111_0_4, t_111_0_5, t_111_27_1]
      rw [hz] at g2
      unfold t_111_0
      simp (disch := omega) only [rI_d, rJ_d, rR_d, rN_d, wF_d, xI_d, xJ_d, xD_d, xQ_d, yI_d, yJ_d, yD_d, yQ_d, dI_s, dJ_s, dR_s, dN_s, dN_n, dH_s, dX_s, dL_s, dD_s, dQ_s, bC_r, bC_t, kI_s, kJ_s, kF_s, kD_s, kR_s, kV_s, I_lit, I_neg, I_add, I_sub, I_mul, I_ltT, I_ltF, I_leT, I_leF, I_eqT, I_eqF, c_int, c_long, c_obj, c_arr, c_bool, c_boolN, c_boolF, vn_bool, c_charN, vn_char, b2_f, b2_t, Int.toNat_natCast, ↓reduceIte, eq_self, and_self, and_true, true_and, not_false_eq_true, not_true_eq_false, L_0_0, L_0_1, L_0_2, L_0_3, L_0_4, L_0_5, L_0_6, L_0_7, L_0_8, L_0_9, L_0_10, L_0_11, L_0_12, L_0_13, L_0_14, L_0_15, C_0, L_1_0, L_1_1, L_1_2, C_1, L_2_0, L_2_1, L_2_2, C_2, L_3_0, L_3_1, L_3_2, C_3, L_65_0, L_65_1, L_65_2, L_65_3, L_65_4, C_65, L_66_0, L_66_1, L_66_2, L_66_3, C_66, L_129_0, L_129_1, L_129_2, L_129_3, C_129, L_198_0, L_198_1, L_198_2, L_198_3, L_198_4, L_198_5, L_198_6, L_198_7, L_198_8, L_198_9, L_198_10, L_198_11, L_198_12, L_198_13, L_198_14, L_198_15, L_198_16, L_198_17, L_198_18, L_198_19, L_198_20, L_198_21, L_198_22, L_198_23, L_198_24, L_198_25, L_198_26, L_198_27, L_198_28, L_198_29, L_198_30, L_198_31, L_198_32, L_198_33, L_198_34, L_198_35, L_198_36, L_198_37, L_198_38, L_198_39, L_198_40, L_198_41, L_198_42, L_198_43, L_198_44, L_198_45, L_198_46, L_198_47, L_198_48, C_198, A_199, A_200, A_201, A_202, A_203, A_204, A_205, A_206, A_207, A_208, A_209, A_210, A_211, A_212, A_213, A_214, A_215, A_216, A_217, A_218, A_219, A_220, A_221, A_222, A_223, A_224, A_225, A_226, A_227, A_228, A_128, A_191, A_rf, A_rs, A_rt, Q_4, Q_67, Q_130, t_111_0_1, t_111_0_2, t_111_0_3, t_111_0_4, t_111_0_5, t_111_27_1, h0, pf, hH1, g1, g2, pf2, w]
    · rw [gs_ne hep, ← hH1, gs_ne hep]; exact e2
  · have hep : e ≠ p := ne_ac e1 h
    have he : (gset H1 p (.inr (12, [.int (I (mc + 1)), .ref e, .int (I 0)]))).1 e = some (.inl (5, cap, gQ f)) := by rw [gs_ne hep, ← hH1, gs_ne hep]; exact e1
    obtain ⟨H', f', w1, w2, w3⟩ := l_111 (K := K) (d := d) (p := p) (e := e) (f0 := f) (n := xs.length) (cap := cap) (by omega) e3 xs.length 0 _ f f2.hb (by omega) (by omega) he
    refine ⟨H', mc + 1, c_111 _ ?_, w3.at f2.hb hB (Ne.symm hep), Or.inr ⟨e0, cap, f', w2, Nat.zero_le _, e20, e3, fun j x hj => by cases hj⟩, ((f2.mono (fun a _ q => Or.inl q)).tr (w3.mono (fun a _ q => Or.inr ⟨q, by rw [e1]; exact fun z => by cases z⟩))).le (by omega) (by omega)⟩
    unfold t_111_0
    simp (disch := omega) only [rI_d, rJ_d, rR_d, rN_d, wF_d, xI_d, xJ_d, xD_d, xQ_d, yI_d, yJ_d, yD_d, yQ_d, dI_s, dJ_s, dR_s, dN_s, dN_n, dH_s, dX_s, dL_s, dD_s, dQ_s, bC_r, bC_t, kI_s, kJ_s, kF_s, kD_s, kR_s, kV_s, I_lit, I_neg, I_add, I_sub, I_mul, I_ltT, I_ltF, I_leT, I_leF, I_eqT, I_eqF, c_int, c_long, c_obj, c_arr, c_bool, c_boolN, c_boolF, vn_bool, c_charN, vn_char, b2_f, b2_t, Int.toNat_natCast, ↓reduceIte, eq_self, and_self, and_true, true_and, not_false_eq_true, not_true_eq_false, L_0_0, L_0_1, L_0_2, L_0_3, L_0_4, L_0_5, L_0_6, L_0_7, L_0_8, L_0_9, L_0_10, L_0_11, L_0_12, L_0_13, L_0_14, L_0_15, C_0, L_1_0, L_1_1, L_1_2, C_1, L_2_0, L_2_1, L_2_2, C_2, L_3_0, L_3_1, L_3_2, C_3, L_65_0, L_65_1, L_65_2, L_65_3, L_65_4, C_65, L_66_0, L_66_1, L_66_2, L_66_3, C_66, L_129_0, L_129_1, L_129_2, L_129_3, C_129, L_198_0, L_198_1, L_198_2, L_198_3, L_198_4, L_198_5, L_198_6, L_198_7, L_198_8, L_198_9, L_198_10, L_198_11, L_198_12, L_198_13, L_198_14, L_198_15, L_198_16, L_198_17, L_198_18, L_198_19, L_198_20, L_198_21, L_198_22, L_198_23, L_198_24, L_198_25, L_198_26, L_198_27, L_198_28, L_198_29, L_198_30, L_198_31, L_198_32, L_198_33, L_198_34, L_198_35, L_198_36, L_198_37, L_198_38, L_198_39, L_198_40, L_198_41, L_198_42, L_198_43, L_198_44, L_198_45, L_198_46, L_198_47, L_198_48, C_198, A_199, A_200, A_201, A_202, A_203, A_204, A_205, A_206, A_207, A_208, A_209, A_210, A_211, A_212, A_213, A_214, A_215, A_216, A_217, A_218, A_219, A_220, A_221, A_222, A_223, A_224, A_225, A_226, A_227, A_228, A_128, A_191, A_rf, A_rs, A_rt, Q_4, Q_67, Q_130, t_111_0_1, t_111_0_2, t_111_0_3, t_111_0_4, t_111_0_5, t_111_27_1, h0, pf, hH1, g1, g2, pf2, w1]
end
