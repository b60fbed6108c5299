/-! PURE 104: the model is made (printed by mkc65.py) -/
set_option maxRecDepth 100000
section
theorem ncm_4 : (I 4).toNatClampNeg = 4 := by decide
theorem ncm_8 : (I 8).toNatClampNeg = 8 := by decide
theorem ncm_16 : (I 16).toNatClampNeg = 16 := by decide
theorem ncm_25 : (I 25).toNatClampNeg = 25 := by decide
theorem ncm_32 : (I 32).toNatClampNeg = 32 := by decide
theorem ncm_40 : (I 40).toNatClampNeg = 40 := by decide
theorem ncm_200 : (I 200).toNatClampNeg = 200 := by decide
theorem ncm_720 : (I 720).toNatClampNeg = 720 := by decide
/-- the model under way: i arrays -/
def CM (K : gK) (N : Nat) (H : gH) (i sl : Nat) (fs : List Value) : Prop := HB H ∧ H.2.1 = N + i ∧ H.2.2 ≤ sl ∧ (∀ a, a < N → H.1 a = none) ∧ H.1 (N + 198) = some (.inr (3, fs)) ∧ (∀ o, o < i → o ≠ 198 → H.1 (N + o) = some (bCell K N (bI K) o)) ∧ 199 ≤ i
variable {K : gK} {d N i sl : Nat} {H : gH} {fs : List Value}
theorem CM.put (h : CM K N H i sl fs) {j : Nat} {v : Value} (hj : j < fs.length) : ∃ H', g_pf H (N + 198) 3 j v = some H' ∧ CM K N H' i sl (fs.set j v) := by
  obtain ⟨h1, h2, h3, h4, h5, h6, h7⟩ := h
  exact ⟨_, pf_of h5 hj, h1.set h5, h2, h3, fun a ha => (gs_ne (by omega)).trans (h4 a ha), gs_eq, fun o q1 q2 => (gs_ne (by omega)).trans (h6 o q1 q2), h7⟩
theorem CM.step (h : CM K N H i sl fs) {t n j i' : Nat} (hB : bCell K N (bI K) i = .inl (t, n, .inl (fun j => I (bI2 i j)))) (h0 : ∀ j, bI2 i j = 0) (hj : j < fs.length) (hi : i' = i + 1) : ∃ H', g_pf (gnew H (.inl (t, n, .inl (fun _ => I 0))) n) (N + 198) 3 j (.ref (N + i)) = some H' ∧ CM K N H' i' (sl + n) (fs.set j (.ref (N + i))) := by
  subst hi
  obtain ⟨h1, h2, h3, h4, h5, h6, h7⟩ := h
  refine CM.put ⟨h1.new, by rw [gn_n, h2]; rfl, by rw [gn_s]; omega, fun a ha => (gn_lt (by omega)).trans (h4 a ha), (gn_lt (by omega)).trans h5, fun o q1 q2 => ?_, by omega⟩ hj
  by_cases z : o = i
  · rw [z, ← h2, gn_eq, hB]
    refine congrArg (fun f => some (Sum.inl (t, n, Sum.inl f))) (funext fun j => ?_)
    rw [h0]
  · exact (gn_lt (by omega)).trans (h6 o (by omega) q2)
theorem bI2_0 {o : Nat} (h : 199 ≤ o) : ∀ j, bI2 o j = 0 := fun j => by
  unfold bI2
  rw [if_neg (by omega), if_neg (by omega)]
/-- all but the law's two arrays -/
def PL (K : gK) (N : Nat) (H : gH) (B : gB) : Prop := HB H ∧ H.2.1 = N + 229 ∧ (∀ a, a < N → H.1 a = none) ∧ ∀ o, o < 229 → H.1 (N + o) = some (bCell K N B o)
variable {B : gB}
theorem PL.arr (h : PL K N H B) {o n : Nat} (ho : o < 229) (hB : ∀ B, bCell K N B o = .inl (0, n, .inl (fun j => I (B.2.1 o j)))) (hn : n ≤ 1000) {z v : Int} (hz : 0 ≤ z ∧ z < n) : ∃ H', g_is H (N + o) 0 (I z) (I v) = some H' ∧ H'.2 = H.2 ∧ PL K N H' (sA B o z.toNat v) := by
  obtain ⟨h1, h2, h3, h4⟩ := h
  have hx := (h4 o ho).trans (congrArg some (hB B))
  refine ⟨_, is_of hx hz (by omega), rfl, h1.set hx, h2, fun a ha => (gs_ne (by omega)).trans (h3 a ha), fun o' ho' => ?_⟩
  by_cases e : o' = o
  · subst e
    rw [gs_eq, hB]
    refine congrArg (fun f => some (Sum.inl (0, n, Sum.inl f))) (funext fun j => ?_)
    unfold upd
    by_cases q : j = z.toNat
    · rw [if_pos q, q, sA_eq rfl]
    · rw [if_neg q, sA_ne (Or.inr q)]
  · rw [gs_ne (by omega), h4 o' ho']
    exact congrArg some (bC_congr (B := B) (B' := sA B o z.toNat v) (fun _ => rfl) (fun j => sA_ne (Or.inl e)) (fun _ => rfl)).symm
theorem PL.int (h : PL K N H B) {k : Nat} {v : Int} (hk : k < 49) (hB : ∀ B, bCell K N (sI B 198 k v) 198 = (match bCell K N B 198 with | .inr (c, fs) => .inr (c, fs.set k (.int (I v))) | e => e)) : ∃ H', g_pf H (N + 198) 3 k (.int (I v)) = some H' ∧ H'.2 = H.2 ∧ PL K N H' (sI B 198 k v) := by
  obtain ⟨h1, h2, h3, h4⟩ := h
  have hx := h4 198 (by omega)
  obtain ⟨fs, hfs, hl⟩ : ∃ fs, bCell K N B 198 = .inr (3, fs) ∧ fs.length = 49 := ⟨_, rfl, rfl⟩
  rw [hfs] at hx
  have hB' := hB B
  rw [hfs] at hB'
  refine ⟨_, pf_of hx (by omega), rfl, h1.set hx, h2, fun a ha => (gs_ne (by omega)).trans (h3 a ha), fun o' ho' => ?_⟩
  by_cases e : o' = 198
  · subst e
    rw [gs_eq, hB']
  · rw [gs_ne (by omega), h4 o' ho']
    exact congrArg some (bC_congr (B := B) (B' := sI B 198 k v) (fun j => sI_ne (Or.inl e)) (fun _ => rfl) (fun _ => rfl)).symm
theorem PL.get (h : PL K N H B) {k : Nat} : g_gf H (N + 198) 3 k = (match bCell K N B 198 with | .inr (_, fs) => fs[k]? | _ => none) := gf_of (h.2.2.2 198 (by omega)) k
theorem st_fill {B : gB} {o z : Nat} {f : Nat → Int} {v : Int} : sA (stA B o (fill f v z)) o z v = stA B o (fill f v (z + 1)) := by
  rw [st_sA, fill_succ]
theorem pl_251 (hd : 2 ≤ d) {B : gB} (hx : ∀ H, PL K N H (stA B 204 (fill (B.2.1 204) (-1) 8)) → H.2.2 ≤ sl → ∃ H', gCa K d 87 [.ref (N + 198)] H = some (.inl none, H') ∧ H'.2.2 ≤ sl ∧ PL K N H' (emB (stA B 204 (fill (B.2.1 204) (-1) 8)))) : ∀ (n z : Nat) (H : gH), z + n = 8 → H.2.2 ≤ sl → PL K N H (stA B 204 (fill (B.2.1 204) (-1) z)) → ∃ H', gRn K d 2 251 [some (.ref (N + 198)), some (.int (I (z : Int)))] [] H = some (.inl none, H') ∧ H'.2.2 ≤ sl ∧ PL K N H' (emB (stA B 204 (fill (B.2.1 204) (-1) 8))) := by
  intro n
  induction n with
  | zero =>
    intro z H hz hs hP
    obtain rfl : z = 8 := by omega
    obtain ⟨H', h1, h2, h3⟩ := hx H hP hs
    have c3 : g_cls H (N + 198) = some 3 := cl_of (hP.2.2.2 198 (by omega))
    refine ⟨H', e_2_251 _ ?_, h2, h3⟩
    rw [show ((8 : Nat) : Int) = 8 from rfl]
    unfold t_2_251
    simp (disch := omega) only [rI_d, rJ_d, rR_d, rN_d, wF_d, xI_d, xJ_d, xD_d, xQ_d, yI_d, yJ_d, yD_d, yQ_d, dI_s, dJ_s, dR_s, dN_s, dN_n, dH_s, dX_s, dL_s, dD_s, dQ_s, bC_r, bC_t, kI_s, kJ_s, kF_s, kD_s, kR_s, kV_s, I_lit, I_neg, I_add, I_sub, I_mul, I_ltT, I_ltF, I_leT, I_leF, I_eqT, I_eqF, c_int, c_long, c_obj, c_arr, c_bool, c_boolN, c_boolF, vn_bool, c_charN, vn_char, b2_f, b2_t, Int.toNat_natCast, ↓reduceIte, eq_self, and_self, and_true, true_and, not_false_eq_true, not_true_eq_false, L_0_0, L_0_1, L_0_2, L_0_3, L_0_4, L_0_5, L_0_6, L_0_7, L_0_8, L_0_9, L_0_10, L_0_11, L_0_12, L_0_13, L_0_14, L_0_15, C_0, L_1_0, L_1_1, L_1_2, C_1, L_2_0, L_2_1, L_2_2, C_2, L_3_0, L_3_1, L_3_2, C_3, L_65_0, L_65_1, L_65_2, L_65_3, L_65_4, C_65, L_66_0, L_66_1, L_66_2, L_66_3, C_66, L_129_0, L_129_1, L_129_2, L_129_3, C_129, L_198_0, L_198_1, L_198_2, L_198_3, L_198_4, L_198_5, L_198_6, L_198_7, L_198_8, L_198_9, L_198_10, L_198_11, L_198_12, L_198_13, L_198_14, L_198_15, L_198_16, L_198_17, L_198_18, L_198_19, L_198_20, L_198_21, L_198_22, L_198_23, L_198_24, L_198_25, L_198_26, L_198_27, L_198_28, L_198_29, L_198_30, L_198_31, L_198_32, L_198_33, L_198_34, L_198_35, L_198_36, L_198_37, L_198_38, L_198_39, L_198_40, L_198_41, L_198_42, L_198_43, L_198_44, L_198_45, L_198_46, L_198_47, L_198_48, C_198, A_199, A_200, A_201, A_202, A_203, A_204, A_205, A_206, A_207, A_208, A_209, A_210, A_211, A_212, A_213, A_214, A_215, A_216, A_217, A_218, A_219, A_220, A_221, A_222, A_223, A_224, A_225, A_226, A_227, A_228, A_128, A_191, A_rf, A_rs, A_rt, Q_4, Q_67, Q_130, t_2_0_1, t_2_0_2, t_2_0_3, t_2_0_4, t_2_0_5, t_2_0_6, t_2_0_7, t_2_0_8, t_2_0_9, t_2_0_10, t_2_0_11, t_2_0_12, t_2_0_13, t_2_0_14, t_2_0_15, t_2_0_16, t_2_0_17, t_2_0_18, t_2_0_19, t_2_0_20, t_2_0_21, t_2_0_22, t_2_0_23, t_2_0_24, t_2_0_25, t_2_0_26, t_2_0_27, t_2_0_28, t_2_0_29, t_2_0_30, t_2_0_31, t_2_251_1, t_2_251_2, t_2_251_3, c3, h1]
  | succ n ih =>
    intro z H hz hs hP
    have g : g_gf H (N + 198) 3 12 = some (.ref (N + 204)) := hP.get
    obtain ⟨H1, h1, h2, h3⟩ := hP.arr (o := 204) (n := 8) (by omega) (fun _ => rfl) (by omega) (z := (z : Int)) (v := -1) (by omega)
    rw [Int.toNat_natCast, st_fill] at h3
    obtain ⟨H', i1, i2, i3⟩ := ih (z + 1) H1 (by omega) (by rw [h2]; exact hs) h3
    rw [show ((z + 1 : Nat) : Int) = (z : Int) + 1 by omega] at i1
    refine ⟨H', e_2_251 _ ?_, i2, i3⟩
    unfold t_2_251
    simp (disch := omega) only [rI_d, rJ_d, rR_d, rN_d, wF_d, xI_d, xJ_d, xD_d, xQ_d, yI_d, yJ_d, yD_d, yQ_d, dI_s, dJ_s, dR_s, dN_s, dN_n, dH_s, dX_s, dL_s, dD_s, dQ_s, bC_r, bC_t, kI_s, kJ_s, kF_s, kD_s, kR_s, kV_s, I_lit, I_neg, I_add, I_sub, I_mul, I_ltT, I_ltF, I_leT, I_leF, I_eqT, I_eqF, c_int, c_long, c_obj, c_arr, c_bool, c_boolN, c_boolF, vn_bool, c_charN, vn_char, b2_f, b2_t, Int.toNat_natCast, ↓reduceIte, eq_self, and_self, and_true, true_and, not_false_eq_true, not_true_eq_false, L_0_0, L_0_1, L_0_2, L_0_3, L_0_4, L_0_5, L_0_6, L_0_7, L_0_8, L_0_9, L_0_10, L_0_11, L_0_12, L_0_13, L_0_14, L_0_15, C_0, L_1_0, L_1_1, L_1_2, C_1, L_2_0, L_2_1, L_2_2, C_2, L_3_0, L_3_1, L_3_2, C_3, L_65_0, L_65_1, L_65_2, L_65_3, L_65_4, C_65, L_66_0, L_66_1, L_66_2, L_66_3, C_66, L_129_0, L_129_1, L_129_2, L_129_3, C_129, L_198_0, L_198_1, L_198_2, L_198_3, L_198_4, L_198_5, L_198_6, L_198_7, L_198_8, L_198_9, L_198_10, L_198_11, L_198_12, L_198_13, L_198_14, L_198_15, L_198_16, L_198_17, L_198_18, L_198_19, L_198_20, L_198_21, L_198_22, L_198_23, L_198_24, L_198_25, L_198_26, L_198_27, L_198_28, L_198_29, L_198_30, L_198_31, L_198_32, L_198_33, L_198_34, L_198_35, L_198_36, L_198_37, L_198_38, L_198_39, L_198_40, L_198_41, L_198_42, L_198_43, L_198_44, L_198_45, L_198_46, L_198_47, L_198_48, C_198, A_199, A_200, A_201, A_202, A_203, A_204, A_205, A_206, A_207, A_208, A_209, A_210, A_211, A_212, A_213, A_214, A_215, A_216, A_217, A_218, A_219, A_220, A_221, A_222, A_223, A_224, A_225, A_226, A_227, A_228, A_128, A_191, A_rf, A_rs, A_rt, Q_4, Q_67, Q_130, t_2_0_1, t_2_0_2, t_2_0_3, t_2_0_4, t_2_0_5, t_2_0_6, t_2_0_7, t_2_0_8, t_2_0_9, t_2_0_10, t_2_0_11, t_2_0_12, t_2_0_13, t_2_0_14, t_2_0_15, t_2_0_16, t_2_0_17, t_2_0_18, t_2_0_19, t_2_0_20, t_2_0_21, t_2_0_22, t_2_0_23, t_2_0_24, t_2_0_25, t_2_0_26, t_2_0_27, t_2_0_28, t_2_0_29, t_2_0_30, t_2_0_31, t_2_251_1, t_2_251_2, t_2_251_3, g, h1, i1]
theorem pl_87_2 {B : gB} : ∀ (n z : Nat) (H : gH), z + n = 4 → PL K N H (stA (stA B 216 (fill (B.2.1 216) (-1) z)) 217 (fill (B.2.1 217) 0 z)) → ∃ H', gRn K d 87 24 [some (.ref (N + 198)), some (.int (I (z : Int)))] [] H = some (.inl none, H') ∧ H'.2 = H.2 ∧ PL K N H' (sI (sI (stA (stA B 216 (fill (B.2.1 216) (-1) 4)) 217 (fill (B.2.1 217) 0 4)) 198 17 0) 198 18 0) := by
  intro n
  induction n with
  | zero =>
    intro z H hz hP
    obtain rfl : z = 4 := by omega
    obtain ⟨H1, h1, h2, h3⟩ := hP.int (k := 17) (v := 0) (by omega) (fun _ => rfl)
    obtain ⟨H2, j1, j2, j3⟩ := h3.int (k := 18) (v := 0) (by omega) (fun _ => rfl)
    refine ⟨H2, e_87_24 _ ?_, j2.trans h2, j3⟩
    rw [show ((4 : Nat) : Int) = 4 from rfl]
    unfold t_87_24
    simp (disch := omega) only [rI_d, rJ_d, rR_d, rN_d, wF_d, xI_d, xJ_d, xD_d, xQ_d, yI_d, yJ_d, yD_d, yQ_d, dI_s, dJ_s, dR_s, dN_s, dN_n, dH_s, dX_s, dL_s, dD_s, dQ_s, bC_r, bC_t, kI_s, kJ_s, kF_s, kD_s, kR_s, kV_s, I_lit, I_neg, I_add, I_sub, I_mul, I_ltT, I_ltF, I_leT, I_leF, I_eqT, I_eqF, c_int, c_long, c_obj, c_arr, c_bool, c_boolN, c_boolF, vn_bool, c_charN, vn_char, b2_f, b2_t, Int.toNat_natCast, ↓reduceIte, eq_self, and_self, and_true, true_and, not_false_eq_true, not_true_eq_false, L_0_0, L_0_1, L_0_2, L_0_3, L_0_4, L_0_5, L_0_6, L_0_7, L_0_8, L_0_9, L_0_10, L_0_11, L_0_12, L_0_13, L_0_14, L_0_15, C_0, L_1_0, L_1_1, L_1_2, C_1, L_2_0, L_2_1, L_2_2, C_2, L_3_0, L_3_1, L_3_2, C_3, L_65_0, L_65_1, L_65_2, L_65_3, L_65_4, C_65, L_66_0, L_66_1, L_66_2, L_66_3, C_66, L_129_0, L_129_1, L_129_2, L_129_3, C_129, L_198_0, L_198_1, L_198_2, L_198_3, L_198_4, L_198_5, L_198_6, L_198_7, L_198_8, L_198_9, L_198_10, L_198_11, L_198_12, L_198_13, L_198_14, L_198_15, L_198_16, L_198_17, L_198_18, L_198_19, L_198_20, L_198_21, L_198_22, L_198_23, L_198_24, L_198_25, L_198_26, L_198_27, L_198_28, L_198_29, L_198_30, L_198_31, L_198_32, L_198_33, L_198_34, L_198_35, L_198_36, L_198_37, L_198_38, L_198_39, L_198_40, L_198_41, L_198_42, L_198_43, L_198_44, L_198_45, L_198_46, L_198_47, L_198_48, C_198, A_199, A_200, A_201, A_202, A_203, A_204, A_205, A_206, A_207, A_208, A_209, A_210, A_211, A_212, A_213, A_214, A_215, A_216, A_217, A_218, A_219, A_220, A_221, A_222, A_223, A_224, A_225, A_226, A_227, A_228, A_128, A_191, A_rf, A_rs, A_rt, Q_4, Q_67, Q_130, t_87_2_1, t_87_2_2, t_87_24_1, t_87_24_2, t_87_24_3, t_87_24_4, t_87_24_5, t_87_24_6, h1, j1]
  | succ n ih =>
    intro z H hz hP
    have g : g_gf H (N + 198) 3 26 = some (.ref (N + 216)) := hP.get
    obtain ⟨H1, h1, h2, h3⟩ := hP.arr (o := 216) (n := 4) (by omega) (fun _ => rfl) (by omega) (z := (z : Int)) (v := -1) (by omega)
    have g' : g_gf H1 (N + 198) 3 27 = some (.ref (N + 217)) := h3.get
    obtain ⟨H2, j1, j2, j3⟩ := h3.arr (o := 217) (n := 4) (by omega) (fun _ => rfl) (by omega) (z := (z : Int)) (v := 0) (by omega)
    have e : sA (sA (stA (stA B 216 (fill (B.2.1 216) (-1) z)) 217 (fill (B.2.1 217) 0 z)) 216 z (-1)) 217 z 0 = stA (stA B 216 (fill (B.2.1 216) (-1) (z + 1))) 217 (fill (B.2.1 217) 0 (z + 1)) := by
      refine Prod.ext rfl (Prod.ext (funext fun o => funext fun j => ?_) rfl)
      show (if o = 217 ∧ j = z then (0 : Int) else if o = 216 ∧ j = z then -1 else (if o = 217 then fill (B.2.1 217) 0 z else if o = 216 then fill (B.2.1 216) (-1) z else B.2.1 o) j) = (if o = 217 then fill (B.2.1 217) 0 (z + 1) else if o = 216 then fill (B.2.1 216) (-1) (z + 1) else B.2.1 o) j
      rw [fill_succ, fill_succ]
      by_cases e1 : o = 217
      · rw [if_pos e1, if_pos e1]
        by_cases e2 : j = z
        · rw [if_pos ⟨e1, e2⟩, if_pos e2]
        · rw [if_neg (fun q => e2 q.2), if_neg (fun q => e2 q.2), if_neg e2]
      · rw [if_neg (fun q => e1 q.1), if_neg e1, if_neg e1]
        by_cases e3 : o = 216
        · rw [if_pos e3, if_pos e3]
          by_cases e2 : j = z
          · rw [if_pos ⟨e3, e2⟩, if_pos e2]
          · rw [if_neg (fun q => e2 q.2), if_neg e2]
        · rw [if_neg (fun q => e3 q.1), if_neg e3, if_neg e3]
    rw [Int.toNat_natCast, e] at j3
    obtain ⟨H', i1, i2, i3⟩ := ih (z + 1) H2 (by omega) j3
    rw [show ((z + 1 : Nat) : Int) = (z : Int) + 1 by omega] at i1
    refine ⟨H', e_87_24 _ ?_, i2.trans (j2.trans h2), i3⟩
    unfold t_87_24
    simp (disch := omega) only [rI_d, rJ_d, rR_d, rN_d, wF_d, xI_d, xJ_d, xD_d, xQ_d, yI_d, yJ_d, yD_d, yQ_d, dI_s, dJ_s, dR_s, dN_s, dN_n, dH_s, dX_s, dL_s, dD_s, dQ_s, bC_r, bC_t, kI_s, kJ_s, kF_s, kD_s, kR_s, kV_s, I_lit, I_neg, I_add, I_sub, I_mul, I_ltT, I_ltF, I_leT, I_leF, I_eqT, I_eqF, c_int, c_long, c_obj, c_arr, c_bool, c_boolN, c_boolF, vn_bool, c_charN, vn_char, b2_f, b2_t, Int.toNat_natCast, ↓reduceIte, eq_self, and_self, and_true, true_and, not_false_eq_true, not_true_eq_false, L_0_0, L_0_1, L_0_2, L_0_3, L_0_4, L_0_5, L_0_6, L_0_7, L_0_8, L_0_9, L_0_10, L_0_11, L_0_12, L_0_13, L_0_14, L_0_15, C_0, L_1_0, L_1_1, L_1_2, C_1, L_2_0, L_2_1, L_2_2, C_2, L_3_0, L_3_1, L_3_2, C_3, L_65_0, L_65_1, L_65_2, L_65_3, L_65_4, C_65, L_66_0, L_66_1, L_66_2, L_66_3, C_66, L_129_0, L_129_1, L_129_2, L_129_3, C_129, L_198_0, L_198_1, L_198_2, L_198_3, L_198_4, L_198_5, L_198_6, L_198_7, L_198_8, L_198_9, L_198_10, L_198_11, L_198_12, L_198_13, L_198_14, L_198_15, L_198_16, L_198_17, L_198_18, L_198_19, L_198_20, L_198_21, L_198_22, L_198_23, L_198_24, L_198_25, L_198_26, L_198_27, L_198_28, L_198_29, L_198_30, L_198_31, L_198_32, L_198_33, L_198_34, L_198_35, L_198_36, L_198_37, L_198_38, L_198_39, L_198_40, L_198_41, L_198_42, L_198_43, L_198_44, L_198_45, L_198_46, L_198_47, L_198_48, C_198, A_199, A_200, A_201, A_202, A_203, A_204, A_205, A_206, A_207, A_208, A_209, A_210, A_211, A_212, A_213, A_214, A_215, A_216, A_217, A_218, A_219, A_220, A_221, A_222, A_223, A_224, A_225, A_226, A_227, A_228, A_128, A_191, A_rf, A_rs, A_rt, Q_4, Q_67, Q_130, t_87_2_1, t_87_2_2, t_87_24_1, t_87_24_2, t_87_24_3, t_87_24_4, t_87_24_5, t_87_24_6, g, h1, g', j1, i1]
theorem pl_87_1 {B : gB} : ∀ (n z : Nat) (H : gH), z + n = 720 → PL K N H (stA B 215 (fill (B.2.1 215) (-1) z)) → ∃ H', gRn K d 87 2 [some (.ref (N + 198)), some (.int (I (z : Int)))] [] H = some (.inl none, H') ∧ H'.2 = H.2 ∧ PL K N H' (emB B) := by
  intro n
  induction n with
  | zero =>
    intro z H hz hP
    obtain rfl : z = 720 := by omega
    have e : stA (stA (stA B 215 (fill (B.2.1 215) (-1) 720)) 216 (fill ((stA B 215 (fill (B.2.1 215) (-1) 720)).2.1 216) (-1) 0)) 217 (fill ((stA B 215 (fill (B.2.1 215) (-1) 720)).2.1 217) 0 0) = stA B 215 (fill (B.2.1 215) (-1) 720) := by
      rw [fill_0, fill_0, st_self]
      exact st_self
    rw [← e] at hP
    obtain ⟨H', i1, i2, i3⟩ := pl_87_2 (K := K) (d := d) 4 0 H rfl hP
    refine ⟨H', e_87_2 _ ?_, i2, i3⟩
    rw [show ((720 : Nat) : Int) = 720 from rfl]
    rw [show ((0 : Nat) : Int) = 0 from rfl] at i1
    unfold t_87_2
    simp (disch := omega) only [rI_d, rJ_d, rR_d, rN_d, wF_d, xI_d, xJ_d, xD_d, xQ_d, yI_d, yJ_d, yD_d, yQ_d, dI_s, dJ_s, dR_s, dN_s, dN_n, dH_s, dX_s, dL_s, dD_s, dQ_s, bC_r, bC_t, kI_s, kJ_s, kF_s, kD_s, kR_s, kV_s, I_lit, I_neg, I_add, I_sub, I_mul, I_ltT, I_ltF, I_leT, I_leF, I_eqT, I_eqF, c_int, c_long, c_obj, c_arr, c_bool, c_boolN, c_boolF, vn_bool, c_charN, vn_char, b2_f, b2_t, Int.toNat_natCast, ↓reduceIte, eq_self, and_self, and_true, true_and, not_false_eq_true, not_true_eq_false, L_0_0, L_0_1, L_0_2, L_0_3, L_0_4, L_0_5, L_0_6, L_0_7, L_0_8, L_0_9, L_0_10, L_0_11, L_0_12, L_0_13, L_0_14, L_0_15, C_0, L_1_0, L_1_1, L_1_2, C_1, L_2_0, L_2_1, L_2_2, C_2, L_3_0, L_3_1, L_3_2, C_3, L_65_0, L_65_1, L_65_2, L_65_3, L_65_4, C_65, L_66_0, L_66_1, L_66_2, L_66_3, C_66, L_129_0, L_129_1, L_129_2, L_129_3, C_129, L_198_0, L_198_1, L_198_2, L_198_3, L_198_4, L_198_5, L_198_6, L_198_7, L_198_8, L_198_9, L_198_10, L_198_11, L_198_12, L_198_13, L_198_14, L_198_15, L_198_16, L_198_17, L_198_18, L_198_19, L_198_20, L_198_21, L_198_22, L_198_23, L_198_24, L_198_25, L_198_26, L_198_27, L_198_28, L_198_29, L_198_30, L_198_31, L_198_32, L_198_33, L_198_34, L_198_35, L_198_36, L_198_37, L_198_38, L_198_39, L_198_40, L_198_41, L_198_42, L_198_43, L_198_44, L_198_45, L_198_46, L_198_47, L_198_48, C_198, A_199, A_200, A_201, A_202, A_203, A_204, A_205, A_206, A_207, A_208, A_209, A_210, A_211, A_212, A_213, A_214, A_215, A_216, A_217, A_218, A_219, A_220, A_221, A_222, A_223, A_224, A_225, A_226, A_227, A_228, A_128, A_191, A_rf, A_rs, A_rt, Q_4, Q_67, Q_130, t_87_2_1, t_87_2_2, t_87_24_1, t_87_24_2, t_87_24_3, t_87_24_4, t_87_24_5, t_87_24_6, i1]
  | succ n ih =>
    intro z H hz hP
    have g : g_gf H (N + 198) 3 25 = some (.ref (N + 215)) := hP.get
    obtain ⟨H1, h1, h2, h3⟩ := hP.arr (o := 215) (n := 720) (by omega) (fun _ => rfl) (by omega) (z := (z : Int)) (v := -1) (by omega)
    rw [Int.toNat_natCast, st_fill] at h3
    obtain ⟨H', i1, i2, i3⟩ := ih (z + 1) H1 (by omega) h3
    rw [show ((z + 1 : Nat) : Int) = (z : Int) + 1 by omega] at i1
    refine ⟨H', e_87_2 _ ?_, i2.trans h2, i3⟩
    unfold t_87_2
    simp (disch := omega) only [rI_d, rJ_d, rR_d, rN_d, wF_d, xI_d, xJ_d, xD_d, xQ_d, yI_d, yJ_d, yD_d, yQ_d, dI_s, dJ_s, dR_s, dN_s, dN_n, dH_s, dX_s, dL_s, dD_s, dQ_s, bC_r, bC_t, kI_s, kJ_s, kF_s, kD_s, kR_s, kV_s, I_lit, I_neg, I_add, I_sub, I_mul, I_ltT, I_ltF, I_leT, I_leF, I_eqT, I_eqF, c_int, c_long, c_obj, c_arr, c_bool, c_boolN, c_boolF, vn_bool, c_charN, vn_char, b2_f, b2_t, Int.toNat_natCast, ↓reduceIte, eq_self, and_self, and_true, true_and, not_false_eq_true, not_true_eq_false, L_0_0, L_0_1, L_0_2, L_0_3, L_0_4, L_0_5, L_0_6, L_0_7, L_0_8, L_0_9, L_0_10, L_0_11, L_0_12, L_0_13, L_0_14, L_0_15, C_0, L_1_0, L_1_1, L_1_2, C_1, L_2_0, L_2_1, L_2_2, C_2, L_3_0, L_3_1, L_3_2, C_3, L_65_0, L_65_1, L_65_2, L_65_3, L_65_4, C_65, L_66_0, L_66_1, L_66_2, L_66_3, C_66, L_129_0, L_129_1, L_129_2, L_129_3, C_129, L_198_0, L_198_1, L_198_2, L_198_3, L_198_4, L_198_5, L_198_6, L_198_7, L_198_8, L_198_9, L_198_10, L_198_11, L_198_12, L_198_13, L_198_14, L_198_15, L_198_16, L_198_17, L_198_18, L_198_19, L_198_20, L_198_21, L_198_22, L_198_23, L_198_24, L_198_25, L_198_26, L_198_27, L_198_28, L_198_29, L_198_30, L_198_31, L_198_32, L_198_33, L_198_34, L_198_35, L_198_36, L_198_37, L_198_38, L_198_39, L_198_40, L_198_41, L_198_42, L_198_43, L_198_44, L_198_45, L_198_46, L_198_47, L_198_48, C_198, A_199, A_200, A_201, A_202, A_203, A_204, A_205, A_206, A_207, A_208, A_209, A_210, A_211, A_212, A_213, A_214, A_215, A_216, A_217, A_218, A_219, A_220, A_221, A_222, A_223, A_224, A_225, A_226, A_227, A_228, A_128, A_191, A_rf, A_rs, A_rt, Q_4, Q_67, Q_130, t_87_2_1, t_87_2_2, t_87_24_1, t_87_24_2, t_87_24_3, t_87_24_4, t_87_24_5, t_87_24_6, g, h1, i1]
theorem pl_87 (hd : 1 ≤ d) (hP : PL K N H B) : ∃ H', gCa K d 87 [.ref (N + 198)] H = some (.inl none, H') ∧ H'.2 = H.2 ∧ PL K N H' (emB B) := by
  obtain ⟨d, rfl, hd'⟩ := d_succ (show 0 + 1 ≤ d by omega)
  have e : stA B 215 (fill (B.2.1 215) (-1) 0) = B := by rw [fill_0, st_self]
  rw [← e] at hP
  obtain ⟨H', i1, i2, i3⟩ := pl_87_1 (K := K) (d := d) 720 0 H rfl hP
  rw [show ((0 : Nat) : Int) = 0 from rfl] at i1
  refine ⟨H', c_87 _ ?_, i2, i3⟩
  unfold t_87_0
  simp only [I_lit, I_neg, I_add, I_sub, I_mul, I_ltT, I_ltF, I_leT, I_leF, I_eqT, I_eqF, c_int, c_long, c_obj, c_arr, c_bool, c_boolN, c_boolF, vn_bool, c_charN, vn_char, b2_f, b2_t]
  exact i1
/-- the state behind the constructors -/
def bS (K : gK) : gB := emB (stA (bI K) 204 (fill ((bI K).2.1 204) (-1) 8))
theorem w_2 (hd : 3 ≤ d) (hb : HB H) (h1 : H.2.1 = N + 198) (h2 : ∀ a, a < N → H.1 a = none) (h3 : ∀ o, o < 198 → H.1 (N + o) = some (bCell K N (bI K) o)) : ∃ H', gCa K d 2 [.ref (N + 198)] (gnew H (.inr (3, [.int (I 0), .int (I 0), .int (I 0), .int (I 0), .int (I 0), .int (I 0), .null, .int (I 0), .null, .null, .null, .null, .null, .null, .null, .null, .null, .int (I 0), .int (I 0), .null, .null, .null, .null, .null, .null, .null, .null, .null, .int (I 0), .null, .null, .int (I 0), .long (J 0), .int (I 0), .null, .null, .int (I 0), .int (I 0), .int (I 0), .int (I 0), .null, .int (I 0), .null, .null, .null, .null, .null, .null, .int (I 0)])) 49) = some (.inl none, H') ∧ H'.2.2 ≤ H.2.2 + 2339 ∧ PL K N H' (bS K) := by
  obtain ⟨d, rfl, hd'⟩ := d_succ (show 2 + 1 ≤ d by omega)
  have m0 : CM K N (gnew H (.inr (3, [.int (I 0), .int (I 0), .int (I 0), .int (I 0), .int (I 0), .int (I 0), .null, .int (I 0), .null, .null, .null, .null, .null, .null, .null, .null, .null, .int (I 0), .int (I 0), .null, .null, .null, .null, .null, .null, .null, .null, .null, .int (I 0), .null, .null, .int (I 0), .long (J 0), .int (I 0), .null, .null, .int (I 0), .int (I 0), .int (I 0), .int (I 0), .null, .int (I 0), .null, .null, .null, .null, .null, .null, .int (I 0)])) 49) 199 (H.2.2 + 49) [.int (I 0), .int (I 0), .int (I 0), .int (I 0), .int (I 0), .int (I 0), .null, .int (I 0), .null, .null, .null, .null, .null, .null, .null, .null, .null, .int (I 0), .int (I 0), .null, .null, .null, .null, .null, .null, .null, .null, .null, .int (I 0), .null, .null, .int (I 0), .long (J 0), .int (I 0), .null, .null, .int (I 0), .int (I 0), .int (I 0), .int (I 0), .null, .int (I 0), .null, .null, .null, .null, .null, .null, .int (I 0)] := ⟨hb.new, by rw [gn_n, h1], Nat.le_refl _, fun a ha => (gn_lt (by omega)).trans (h2 a ha), by rw [← h1]; exact gn_eq, fun o q1 q2 => (gn_lt (by omega)).trans (h3 o (by omega)), Nat.le_refl _⟩
  generalize gnew H (.inr (3, [.int (I 0), .int (I 0), .int (I 0), .int (I 0), .int (I 0), .int (I 0), .null, .int (I 0), .null, .null, .null, .null, .null, .null, .null, .null, .null, .int (I 0), .int (I 0), .null, .null, .null, .null, .null, .null, .null, .null, .null, .int (I 0), .null, .null, .int (I 0), .long (J 0), .int (I 0), .null, .null, .int (I 0), .int (I 0), .int (I 0), .int (I 0), .null, .int (I 0), .null, .null, .null, .null, .null, .null, .int (I 0)])) 49 = J0 at *
  obtain ⟨J1, p1, m1⟩ := m0.put (j := 1) (v := .int (I 12)) (Nat.le_of_ble_eq_true rfl)
  simp only [List.set_cons_succ, List.set_cons_zero] at m1
  have n1 := m1.2.1
  obtain ⟨J2, p2, m2⟩ := m1.step (t := 1) (n := 720) (j := 6) (i' := 200) rfl (bI2_0 (by omega)) (Nat.le_of_ble_eq_true rfl) rfl
  simp only [List.set_cons_succ, List.set_cons_zero] at m2
  have n2 := m2.2.1
  obtain ⟨J3, p3, m3⟩ := m2.step (t := 2) (n := 8) (j := 8) (i' := 201) rfl (bI2_0 (by omega)) (Nat.le_of_ble_eq_true rfl) rfl
  simp only [List.set_cons_succ, List.set_cons_zero] at m3
  have n3 := m3.2.1
  obtain ⟨J4, p4, m4⟩ := m3.step (t := 1) (n := 8) (j := 9) (i' := 202) rfl (bI2_0 (by omega)) (Nat.le_of_ble_eq_true rfl) rfl
  simp only [List.set_cons_succ, List.set_cons_zero] at m4
  have n4 := m4.2.1
  obtain ⟨J5, p5, m5⟩ := m4.step (t := 1) (n := 200) (j := 10) (i' := 203) rfl (bI2_0 (by omega)) (Nat.le_of_ble_eq_true rfl) rfl
  simp only [List.set_cons_succ, List.set_cons_zero] at m5
  have n5 := m5.2.1
  obtain ⟨J6, p6, m6⟩ := m5.step (t := 0) (n := 8) (j := 11) (i' := 204) rfl (bI2_0 (by omega)) (Nat.le_of_ble_eq_true rfl) rfl
  simp only [List.set_cons_succ, List.set_cons_zero] at m6
  have n6 := m6.2.1
  obtain ⟨J7, p7, m7⟩ := m6.step (t := 0) (n := 8) (j := 12) (i' := 205) rfl (bI2_0 (by omega)) (Nat.le_of_ble_eq_true rfl) rfl
  simp only [List.set_cons_succ, List.set_cons_zero] at m7
  have n7 := m7.2.1
  obtain ⟨J8, p8, m8⟩ := m7.step (t := 0) (n := 8) (j := 13) (i' := 206) rfl (bI2_0 (by omega)) (Nat.le_of_ble_eq_true rfl) rfl
  simp only [List.set_cons_succ, List.set_cons_zero] at m8
  have n8 := m8.2.1
  obtain ⟨J9, p9, m9⟩ := m8.step (t := 0) (n := 8) (j := 14) (i' := 207) rfl (bI2_0 (by omega)) (Nat.le_of_ble_eq_true rfl) rfl
  simp only [List.set_cons_succ, List.set_cons_zero] at m9
  have n9 := m9.2.1
  obtain ⟨J10, p10, m10⟩ := m9.step (t := 1) (n := 8) (j := 15) (i' := 208) rfl (bI2_0 (by omega)) (Nat.le_of_ble_eq_true rfl) rfl
  simp only [List.set_cons_succ, List.set_cons_zero] at m10
  have n10 := m10.2.1
  obtain ⟨J11, p11, m11⟩ := m10.step (t := 0) (n := 16) (j := 16) (i' := 209) rfl (bI2_0 (by omega)) (Nat.le_of_ble_eq_true rfl) rfl
  simp only [List.set_cons_succ, List.set_cons_zero] at m11
  have n11 := m11.2.1
  obtain ⟨J12, p12, m12⟩ := m11.step (t := 0) (n := 40) (j := 19) (i' := 210) rfl (bI2_0 (by omega)) (Nat.le_of_ble_eq_true rfl) rfl
  simp only [List.set_cons_succ, List.set_cons_zero] at m12
  have n12 := m12.2.1
  obtain ⟨J13, p13, m13⟩ := m12.step (t := 0) (n := 40) (j := 20) (i' := 211) rfl (bI2_0 (by omega)) (Nat.le_of_ble_eq_true rfl) rfl
  simp only [List.set_cons_succ, List.set_cons_zero] at m13
  have n13 := m13.2.1
  obtain ⟨J14, p14, m14⟩ := m13.step (t := 0) (n := 40) (j := 21) (i' := 212) rfl (bI2_0 (by omega)) (Nat.le_of_ble_eq_true rfl) rfl
  simp only [List.set_cons_succ, List.set_cons_zero] at m14
  have n14 := m14.2.1
  obtain ⟨J15, p15, m15⟩ := m14.step (t := 0) (n := 40) (j := 22) (i' := 213) rfl (bI2_0 (by omega)) (Nat.le_of_ble_eq_true rfl) rfl
  simp only [List.set_cons_succ, List.set_cons_zero] at m15
  have n15 := m15.2.1
  obtain ⟨J16, p16, m16⟩ := m15.step (t := 0) (n := 40) (j := 23) (i' := 214) rfl (bI2_0 (by omega)) (Nat.le_of_ble_eq_true rfl) rfl
  simp only [List.set_cons_succ, List.set_cons_zero] at m16
  have n16 := m16.2.1
  obtain ⟨J17, p17, m17⟩ := m16.step (t := 1) (n := 40) (j := 24) (i' := 215) rfl (bI2_0 (by omega)) (Nat.le_of_ble_eq_true rfl) rfl
  simp only [List.set_cons_succ, List.set_cons_zero] at m17
  have n17 := m17.2.1
  obtain ⟨J18, p18, m18⟩ := m17.step (t := 0) (n := 720) (j := 25) (i' := 216) rfl (bI2_0 (by omega)) (Nat.le_of_ble_eq_true rfl) rfl
  simp only [List.set_cons_succ, List.set_cons_zero] at m18
  have n18 := m18.2.1
  obtain ⟨J19, p19, m19⟩ := m18.step (t := 0) (n := 4) (j := 26) (i' := 217) rfl (bI2_0 (by omega)) (Nat.le_of_ble_eq_true rfl) rfl
  simp only [List.set_cons_succ, List.set_cons_zero] at m19
  have n19 := m19.2.1
  obtain ⟨J20, p20, m20⟩ := m19.step (t := 0) (n := 4) (j := 27) (i' := 218) rfl (bI2_0 (by omega)) (Nat.le_of_ble_eq_true rfl) rfl
  simp only [List.set_cons_succ, List.set_cons_zero] at m20
  have n20 := m20.2.1
  obtain ⟨J21, p21, m21⟩ := m20.step (t := 0) (n := 32) (j := 29) (i' := 219) rfl (bI2_0 (by omega)) (Nat.le_of_ble_eq_true rfl) rfl
  simp only [List.set_cons_succ, List.set_cons_zero] at m21
  have n21 := m21.2.1
  obtain ⟨J22, p22, m22⟩ := m21.step (t := 0) (n := 4) (j := 30) (i' := 220) rfl (bI2_0 (by omega)) (Nat.le_of_ble_eq_true rfl) rfl
  simp only [List.set_cons_succ, List.set_cons_zero] at m22
  have n22 := m22.2.1
  obtain ⟨J23, p23, m23⟩ := m22.step (t := 0) (n := 25) (j := 34) (i' := 221) rfl (bI2_0 (by omega)) (Nat.le_of_ble_eq_true rfl) rfl
  simp only [List.set_cons_succ, List.set_cons_zero] at m23
  have n23 := m23.2.1
  obtain ⟨J24, p24, m24⟩ := m23.step (t := 0) (n := 25) (j := 35) (i' := 222) rfl (bI2_0 (by omega)) (Nat.le_of_ble_eq_true rfl) rfl
  simp only [List.set_cons_succ, List.set_cons_zero] at m24
  have n24 := m24.2.1
  obtain ⟨J25, p25, m25⟩ := m24.step (t := 0) (n := 4) (j := 40) (i' := 223) rfl (bI2_0 (by omega)) (Nat.le_of_ble_eq_true rfl) rfl
  simp only [List.set_cons_succ, List.set_cons_zero] at m25
  have n25 := m25.2.1
  obtain ⟨J26, p26, m26⟩ := m25.step (t := 0) (n := 40) (j := 42) (i' := 224) rfl (bI2_0 (by omega)) (Nat.le_of_ble_eq_true rfl) rfl
  simp only [List.set_cons_succ, List.set_cons_zero] at m26
  have n26 := m26.2.1
  obtain ⟨J27, p27, m27⟩ := m26.step (t := 0) (n := 40) (j := 43) (i' := 225) rfl (bI2_0 (by omega)) (Nat.le_of_ble_eq_true rfl) rfl
  simp only [List.set_cons_succ, List.set_cons_zero] at m27
  have n27 := m27.2.1
  obtain ⟨J28, p28, m28⟩ := m27.step (t := 0) (n := 40) (j := 44) (i' := 226) rfl (bI2_0 (by omega)) (Nat.le_of_ble_eq_true rfl) rfl
  simp only [List.set_cons_succ, List.set_cons_zero] at m28
  have n28 := m28.2.1
  obtain ⟨J29, p29, m29⟩ := m28.step (t := 0) (n := 40) (j := 45) (i' := 227) rfl (bI2_0 (by omega)) (Nat.le_of_ble_eq_true rfl) rfl
  simp only [List.set_cons_succ, List.set_cons_zero] at m29
  have n29 := m29.2.1
  obtain ⟨J30, p30, m30⟩ := m29.step (t := 0) (n := 40) (j := 46) (i' := 228) rfl (bI2_0 (by omega)) (Nat.le_of_ble_eq_true rfl) rfl
  simp only [List.set_cons_succ, List.set_cons_zero] at m30
  have n30 := m30.2.1
  obtain ⟨J31, p31, m31⟩ := m30.step (t := 1) (n := 40) (j := 47) (i' := 229) rfl (bI2_0 (by omega)) (Nat.le_of_ble_eq_true rfl) rfl
  simp only [List.set_cons_succ, List.set_cons_zero] at m31
  have n31 := m31.2.1
  have hP : PL K N J31 (bI K) := by
    obtain ⟨z1, z2, z3, z4, z5, z6, z7⟩ := m31
    refine ⟨z1, z2, z4, fun o ho => ?_⟩
    by_cases e : o = 198
    · subst e; exact z5
    · exact z6 o (by omega) e
  have hsl := m31.2.2.1
  have e : stA (bI K) 204 (fill ((bI K).2.1 204) (-1) 0) = bI K := by rw [fill_0, st_self]
  rw [← e] at hP
  obtain ⟨H', i1, i2, i3⟩ := pl_251 (K := K) (d := d) (by omega) (sl := H.2.2 + 2339) (fun H1 hP1 hs1 => by
    obtain ⟨H', j1, j2, j3⟩ := pl_87 (K := K) (d := d) (by omega) hP1
    exact ⟨H', j1, by rw [j2]; exact hs1, j3⟩) 8 0 J31 rfl (by omega) hP
  rw [show ((0 : Nat) : Int) = 0 from rfl] at i1
  refine ⟨H', c_2 _ ?_, i2, i3⟩
  unfold t_2_0
  simp (disch := omega) only [rI_d, rJ_d, rR_d, rN_d, wF_d, xI_d, xJ_d, xD_d, xQ_d, yI_d, yJ_d, yD_d, yQ_d, dI_s, dJ_s, dR_s, dN_s, dN_n, dH_s, dX_s, dL_s, dD_s, dQ_s, bC_r, bC_t, kI_s, kJ_s, kF_s, kD_s, kR_s, kV_s, I_lit, I_neg, I_add, I_sub, I_mul, I_ltT, I_ltF, I_leT, I_leF, I_eqT, I_eqF, c_int, c_long, c_obj, c_arr, c_bool, c_boolN, c_boolF, vn_bool, c_charN, vn_char, b2_f, b2_t, Int.toNat_natCast, ↓reduceIte, eq_self, and_self, and_true, true_and, not_false_eq_true, not_true_eq_false, L_0_0, L_0_1, L_0_2, L_0_3, L_0_4, L_0_5, L_0_6, L_0_7, L_0_8, L_0_9, L_0_10, L_0_11, L_0_12, L_0_13, L_0_14, L_0_15, C_0, L_1_0, L_1_1, L_1_2, C_1, L_2_0, L_2_1, L_2_2, C_2, L_3_0, L_3_1, L_3_2, C_3, L_65_0, L_65_1, L_65_2, L_65_3, L_65_4, C_65, L_66_0, L_66_1, L_66_2, L_66_3, C_66, L_129_0, L_129_1, L_129_2, L_129_3, C_129, L_198_0, L_198_1, L_198_2, L_198_3, L_198_4, L_198_5, L_198_6, L_198_7, L_198_8, L_198_9, L_198_10, L_198_11, L_198_12, L_198_13, L_198_14, L_198_15, L_198_16, L_198_17, L_198_18, L_198_19, L_198_20, L_198_21, L_198_22, L_198_23, L_198_24, L_198_25, L_198_26, L_198_27, L_198_28, L_198_29, L_198_30, L_198_31, L_198_32, L_198_33, L_198_34, L_198_35, L_198_36, L_198_37, L_198_38, L_198_39, L_198_40, L_198_41, L_198_42, L_198_43, L_198_44, L_198_45, L_198_46, L_198_47, L_198_48, C_198, A_199, A_200, A_201, A_202, A_203, A_204, A_205, A_206, A_207, A_208, A_209, A_210, A_211, A_212, A_213, A_214, A_215, A_216, A_217, A_218, A_219, A_220, A_221, A_222, A_223, A_224, A_225, A_226, A_227, A_228, A_128, A_191, A_rf, A_rs, A_rt, Q_4, Q_67, Q_130, t_2_0_1, t_2_0_2, t_2_0_3, t_2_0_4, t_2_0_5, t_2_0_6, t_2_0_7, t_2_0_8, t_2_0_9, t_2_0_10, t_2_0_11, t_2_0_12, t_2_0_13, t_2_0_14, t_2_0_15, t_2_0_16, t_2_0_17, t_2_0_18, t_2_0_19, t_2_0_20, t_2_0_21, t_2_0_22, t_2_0_23, t_2_0_24, t_2_0_25, t_2_0_26, t_2_0_27, t_2_0_28, t_2_0_29, t_2_0_30, t_2_0_31, t_2_251_1, t_2_251_2, t_2_251_3, t_2_0_1, t_2_0_2, t_2_0_3, t_2_0_4, t_2_0_5, t_2_0_6, t_2_0_7, t_2_0_8, t_2_0_9, t_2_0_10, t_2_0_11, t_2_0_12, t_2_0_13, t_2_0_14, t_2_0_15, t_2_0_16, t_2_0_17, t_2_0_18, t_2_0_19, t_2_0_20, t_2_0_21, t_2_0_22, t_2_0_23, t_2_0_24, t_2_0_25, t_2_0_26, t_2_0_27, t_2_0_28, t_2_0_29, t_2_0_30, t_2_0_31, t_2_251_1, t_2_251_2, t_2_251_3, iltT, iltF, ileT, ileF, ieqT, ieqF, cif_T, cif_F, not_true_eq_false, not_false_eq_true, or_true, or_false, true_or, false_or, false_and, and_false, ne_eq, Nat.reduceLT, ncm_4, ncm_8, ncm_16, ncm_25, ncm_32, ncm_40, ncm_200, ncm_720, p1, n1, p2, n2, p3, n3, p4, n4, p5, n5, p6, n6, p7, n7, p8, n8, p9, n9, p10, n10, p11, n11, p12, n12, p13, n13, p14, n14, p15, n15, p16, n16, p17, n17, p18, n18, p19, n19, p20, n20, p21, n21, p22, n22, p23, n23, p24, n24, p25, n25, p26, n26, p27, n27, p28, n28, p29, n29, p30, n30, p31, i1]
end
