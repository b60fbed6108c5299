/-! PURE 71: nesting -/
set_option maxRecDepth 100000
/-- only the spot's place changed -/
def SQ (B B' : gB) : Prop := (∀ o k, (o ≠ 65 ∨ (k ≠ 1 ∧ k ≠ 3 ∧ k ≠ 4)) → B'.1 o k = B.1 o k) ∧ B'.2 = B.2
theorem SQ.rf {B : gB} : SQ B B := ⟨fun _ _ _ => rfl, rfl⟩
theorem SQ.tr {B B' B'' : gB} (h : SQ B B') (h' : SQ B' B'') : SQ B B'' := ⟨fun o k q => (h'.1 o k q).trans (h.1 o k q), h'.2.trans h.2⟩
theorem SQ.mv {B : gB} {t r c : Int} : SQ B (mvB B t r c) := ⟨fun o k q => (sI_ne (by omega)).trans ((sI_ne (by omega)).trans (sI_ne (by omega))), rfl⟩
theorem SQ.kp {B B' : gB} (h : SQ B B') : KP B B' := ⟨fun o k q => h.1 o k (by omega), fun o j _ => by rw [h.2], by rw [h.2]⟩
theorem SHT.sq {B B' : gB} {s0 : Nat} {cc rm : Nat → Int} (h : SHT B s0 cc rm) (q : SQ B B') (hs : s0 ≠ 65) : SHT B' s0 cc rm := by
  unfold SHT at h ⊢
  rw [q.2, q.1 s0 2 (Or.inl hs)]
  exact h
theorem fst1_skip {P : Nat → Prop} : ∀ (i n k : Nat), (∀ j, k ≤ j → j < k + i → ¬ P j) → i ≤ n → fst1 P k n = fst1 P (k + i) (n - i)
  | 0, _, _, _, _ => rfl
  | i + 1, 0, _, _, h => absurd h (by omega)
  | i + 1, n + 1, k, hp, h => by
    show cif (P k) (some k) (fst1 P (k + 1) n) = _
    rw [cifF (hp k (Nat.le_refl _) (by omega)), fst1_skip i n (k + 1) (fun j h1 h2 => hp j (by omega) (by omega)) (by omega), show k + 1 + i = k + (i + 1) by omega, show n + 1 - (i + 1) = n - i by omega]
/-- the outcome of the search from k on -/
def NR (K : gK) (N : Nat) (G : gH) (B : gB) (P : Nat → Prop) (k : Nat) (run : Option gO) : Prop := ∃ B2, run = some (.inl (some (.int (I (b2 (fst1 P k (2880 - k) ≠ none))))), hH K N G B2) ∧ SQ B B2 ∧ ∀ j, fst1 P k (2880 - k) = some j → B2.1 65 1 = (j : Int) % 4 ∧ B2.1 65 3 = (j : Int) / 48 ∧ B2.1 65 4 = (j : Int) / 4 % 12
section
variable {K : gK} {d N : Nat} {G G' : gH} {B B' B0 B1 : gB} {ro : Nat → Nat} {a s : Nat} {cl : List Nat} {t m r c : Int} {s0 : Nat} {cc rm : Nat → Int} {P : Nat → Prop}
theorem SPX.sq (h : SPX K N G B (tw B0) ro a s cl t m r c) (q : SQ B B1) : SPX K N G B1 (tw B0) ro a s cl (B1.1 65 1) m (B1.1 65 3) (B1.1 65 4) := h.ln (fun k => Or.inl (q.1 0 k (by omega))) (fun o j _ => by rw [q.2]) ⟨(q.1 65 0 (by omega)).trans h.2.2.2.2.1.1, rfl, (q.1 65 2 (by omega)).trans h.2.2.2.2.1.2.2.1, rfl, rfl⟩ h.2.2.2.2.2.1
theorem l_173_21 (hd : 8 ≤ d) (hw : MW B0) (h : SPX K N G B (tw B0) ro a s cl t m r c) (hru : B0.2.1 200 s = 110 ∨ B0.2.1 200 s = 104 ∨ B0.2.1 200 s = 113) (hs : s0 = 66 ∨ s0 = 129) (hS : SHT B s0 cc rm) (hb : SHB cc rm) (hP : ∀ j, P j ↔ rsn (tw B0) cc rm s cl ((j : Int) % 4) ((j : Int) / 48) ((j : Int) / 4 % 12) m = 45) {x y : Nat} (hx : x < 60) (hy : y < 12)
    (hn : ∀ B1, SQ B B1 → NR K N G B P (48 * x + 4 * y + 4) (gRn K d 173 10 [some (.ref N), some (.ref (N + s0)), some (.int (I (x : Int))), some (.int (I ((y : Int) + 1))), some (.int (I 4))] [] (hH K N G B1))) : ∀ (n z : Nat) (B1 : gB), z + n = 4 → SQ B B1 → NR K N G B P (48 * x + 4 * y + z) (gRn K d 173 21 [some (.ref N), some (.ref (N + s0)), some (.int (I (x : Int))), some (.int (I (y : Int))), some (.int (I (z : Int)))] [] (hH K N G B1)) := by
  intro n
  induction n with
  | zero =>
    intro z B1 hz hq
    obtain rfl : z = 4 := by omega
    obtain ⟨B2, k1, k2⟩ := hn B1 hq
    refine ⟨B2, e_173_21 _ ?_, k2⟩
    unfold t_173_21
    simp (disch := omega) only [rI_d, rJ_d, rR_d, rN_d, wF_d, xI_d, xJ_d, xD_d, xQ_d, yI_d, yJ_d, yD_d, yQ_d, dI_s, dJ_s, dR_s, dN_s, dN_n, dH_s, dX_s, dL_s, dD_s, dQ_s, bC_r, bC_t, kI_s, kJ_s, kF_s, kD_s, kR_s, kV_s, I_lit, I_neg, I_add, I_sub, I_mul, I_ltT, I_ltF, I_leT, I_leF, I_eqT, I_eqF, c_int, c_long, c_obj, c_arr, c_bool, c_boolN, c_boolF, vn_bool, c_charN, vn_char, b2_f, b2_t, Int.toNat_natCast, ↓reduceIte, eq_self, and_self, and_true, true_and, not_false_eq_true, not_true_eq_false, L_0_0, L_0_1, L_0_2, L_0_3, L_0_4, L_0_5, L_0_6, L_0_7, L_0_8, L_0_9, L_0_10, L_0_11, L_0_12, L_0_13, L_0_14, L_0_15, C_0, L_1_0, L_1_1, L_1_2, C_1, L_2_0, L_2_1, L_2_2, C_2, L_3_0, L_3_1, L_3_2, C_3, L_65_0, L_65_1, L_65_2, L_65_3, L_65_4, C_65, L_66_0, L_66_1, L_66_2, L_66_3, C_66, L_129_0, L_129_1, L_129_2, L_129_3, C_129, L_198_0, L_198_1, L_198_2, L_198_3, L_198_4, L_198_5, L_198_6, L_198_7, L_198_8, L_198_9, L_198_10, L_198_11, L_198_12, L_198_13, L_198_14, L_198_15, L_198_16, L_198_17, L_198_18, L_198_19, L_198_20, L_198_21, L_198_22, L_198_23, L_198_24, L_198_25, L_198_26, L_198_27, L_198_28, L_198_29, L_198_30, L_198_31, L_198_32, L_198_33, L_198_34, L_198_35, L_198_36, L_198_37, L_198_38, L_198_39, L_198_40, L_198_41, L_198_42, L_198_43, L_198_44, L_198_45, L_198_46, L_198_47, L_198_48, C_198, A_199, A_200, A_201, A_202, A_203, A_204, A_205, A_206, A_207, A_208, A_209, A_210, A_211, A_212, A_213, A_214, A_215, A_216, A_217, A_218, A_219, A_220, A_221, A_222, A_223, A_224, A_225, A_226, A_227, A_228, A_128, A_191, A_rf, A_rs, A_rt, Q_4, Q_67, Q_130, t_173_10_1, t_173_21_1, t_173_21_2, t_173_21_3, t_173_10_1, t_173_21_1, t_173_21_2, t_173_21_3]
    exact k1
  | succ n ih =>
    intro z B1 hz hq
    have w1 := w_165 (K := K) (N := N) (G := G) (B := B1) (d := d) (t := (z : Int)) (r := (x : Int)) (c := (y : Int)) (by omega)
    have hq2 : SQ B (mvB B1 (z : Int) (x : Int) (y : Int)) := hq.tr SQ.mv
    have hX := (h.sq hq).mv (t' := (z : Int)) (r' := (x : Int)) (c' := (y : Int))
    have w2 := w_166 (d := d) (by omega) hw hX hru hs (hS.sq hq2 (by omega)) hb (by omega) (by omega) (by omega)
    have hPk := hP (48 * x + 4 * y + z)
    rw [show ((48 * x + 4 * y + z : Nat) : Int) % 4 = z by omega, show ((48 * x + 4 * y + z : Nat) : Int) / 48 = x by omega, show ((48 * x + 4 * y + z : Nat) : Int) / 4 % 12 = y by omega] at hPk
    have ef : fst1 P (48 * x + 4 * y + z) (2880 - (48 * x + 4 * y + z)) = cif (P (48 * x + 4 * y + z)) (some (48 * x + 4 * y + z)) (fst1 P (48 * x + 4 * y + (z + 1)) (2880 - (48 * x + 4 * y + (z + 1)))) := by
      rw [show 2880 - (48 * x + 4 * y + z) = (2880 - (48 * x + 4 * y + (z + 1))) + 1 by omega]
      rfl
    have h65 := hX.2.2.2.2.1
    have c1 : g_cls (hH K N G (mvB B1 (z : Int) (x : Int) (y : Int))) N = some 0 := cl_of (c := 0) (hH_x (B := mvB B1 (z : Int) (x : Int) (y : Int)))
    by_cases e : P (48 * x + 4 * y + z)
    · rw [hPk.mp e] at w2
      refine ⟨mvB B1 (z : Int) (x : Int) (y : Int), e_173_21 _ ?_, hq2, fun j hj => ?_⟩
      · rw [ef, cifT e, b2T (fun q => by cases q)]
        unfold t_173_21
        simp (disch := omega) only [rI_d, rJ_d, rR_d, rN_d, wF_d, xI_d, xJ_d, xD_d, xQ_d, yI_d, yJ_d, yD_d, yQ_d, dI_s, dJ_s, dR_s, dN_s, dN_n, dH_s, dX_s, dL_s, dD_s, dQ_s, bC_r, bC_t, kI_s, kJ_s, kF_s, kD_s, kR_s, kV_s, I_lit, I_neg, I_add, I_sub, I_mul, I_ltT, I_ltF, I_leT, I_leF, I_eqT, I_eqF, c_int, c_long, c_obj, c_arr, c_bool, c_boolN, c_boolF, vn_bool, c_charN, vn_char, b2_f, b2_t, Int.toNat_natCast, ↓reduceIte, eq_self, and_self, and_true, true_and, not_false_eq_true, not_true_eq_false, L_0_0, L_0_1, L_0_2, L_0_3, L_0_4, L_0_5, L_0_6, L_0_7, L_0_8, L_0_9, L_0_10, L_0_11, L_0_12, L_0_13, L_0_14, L_0_15, C_0, L_1_0, L_1_1, L_1_2, C_1, L_2_0, L_2_1, L_2_2, C_2, L_3_0, L_3_1, L_3_2, C_3, L_65_0, L_65_1, L_65_2, L_65_3, L_65_4, C_65, L_66_0, L_66_1, L_66_2, L_66_3, C_66, L_129_0, L_129_1, L_129_2, L_129_3, C_129, L_198_0, L_198_1, L_198_2, L_198_3, L_198_4, L_198_5, L_198_6, L_198_7, L_198_8, L_198_9, L_198_10, L_198_11, L_198_12, L_198_13, L_198_14, L_198_15, L_198_16, L_198_17, L_198_18, L_198_19, L_198_20, L_198_21, L_198_22, L_198_23, L_198_24, L_198_25, L_198_26, L_198_27, L_198_28, L_198_29, L_198_30, L_198_31, L_198_32, L_198_33, L_198_34, L_198_35, L_198_36, L_198_37, L_198_38, L_198_39, L_198_40, L_198_41, L_198_42, L_198_43, L_198_44, L_198_45, L_198_46, L_198_47, L_198_48, C_198, A_199, A_200, A_201, A_202, A_203, A_204, A_205, A_206, A_207, A_208, A_209, A_210, A_211, A_212, A_213, A_214, A_215, A_216, A_217, A_218, A_219, A_220, A_221, A_222, A_223, A_224, A_225, A_226, A_227, A_228, A_128, A_191, A_rf, A_rs, A_rt, Q_4, Q_67, Q_130, t_173_10_1, t_173_21_1, t_173_21_2, t_173_21_3, t_173_10_1, t_173_21_1, t_173_21_2, t_173_21_3, w1, w2, c1]
      · rw [ef, cifT e] at hj
        cases hj
        rw [show ((48 * x + 4 * y + z : Nat) : Int) % 4 = z by omega, show ((48 * x + 4 * y + z : Nat) : Int) / 48 = x by omega, show ((48 * x + 4 * y + z : Nat) : Int) / 4 % 12 = y by omega]
        exact ⟨h65.2.1, h65.2.2.2.1, h65.2.2.2.2⟩
    · have hne : ¬ rsn (tw B0) cc rm s cl (z : Int) (x : Int) (y : Int) m = 45 := fun q => e (hPk.mpr q)
      have hrb := rsn_b (M := tw B0) (cl := cc) (rm := rm) (s := s) (l := cl) (t := (z : Int)) (r := (x : Int)) (c := (y : Int)) (m := m)
      obtain ⟨B2, k1, k2, k3⟩ := ih (z + 1) (mvB B1 (z : Int) (x : Int) (y : Int)) (by omega) hq2
      refine ⟨B2, e_173_21 _ ?_, k2, fun j hj => ?_⟩
      · rw [ef, cifF e]
        rw [show ((z + 1 : Nat) : Int) = (z : Int) + 1 by omega] at k1
        generalize rsn (tw B0) cc rm s cl (z : Int) (x : Int) (y : Int) m = R at *
        unfold t_173_21
        simp (disch := omega) only [rI_d, rJ_d, rR_d, rN_d, wF_d, xI_d, xJ_d, xD_d, xQ_d, yI_d, yJ_d, yD_d, yQ_d, dI_s, dJ_s, dR_s, dN_s, dN_n, dH_s, dX_s, dL_s, dD_s, dQ_s, bC_r, bC_t, kI_s, kJ_s, kF_s, kD_s, kR_s, kV_s, I_lit, I_neg, I_add, I_sub, I_mul, I_ltT, I_ltF, I_leT, I_leF, I_eqT, I_eqF, c_int, c_long, c_obj, c_arr, c_bool, c_boolN, c_boolF, vn_bool, c_charN, vn_char, b2_f, b2_t, Int.toNat_natCast, ↓reduceIte, eq_self, and_self, and_true, true_and, not_false_eq_true, not_true_eq_false, L_0_0, L_0_1, L_0_2, L_0_3, L_0_4, L_0_5, L_0_6, L_0_7, L_0_8, L_0_9, L_0_10, L_0_11, L_0_12, L_0_13, L_0_14, L_0_15, C_0, L_1_0, L_1_1, L_1_2, C_1, L_2_0, L_2_1, L_2_2, C_2, L_3_0, L_3_1, L_3_2, C_3, L_65_0, L_65_1, L_65_2, L_65_3, L_65_4, C_65, L_66_0, L_66_1, L_66_2, L_66_3, C_66, L_129_0, L_129_1, L_129_2, L_129_3, C_129, L_198_0, L_198_1, L_198_2, L_198_3, L_198_4, L_198_5, L_198_6, L_198_7, L_198_8, L_198_9, L_198_10, L_198_11, L_198_12, L_198_13, L_198_14, L_198_15, L_198_16, L_198_17, L_198_18, L_198_19, L_198_20, L_198_21, L_198_22, L_198_23, L_198_24, L_198_25, L_198_26, L_198_27, L_198_28, L_198_29, L_198_30, L_198_31, L_198_32, L_198_33, L_198_34, L_198_35, L_198_36, L_198_37, L_198_38, L_198_39, L_198_40, L_198_41, L_198_42, L_198_43, L_198_44, L_198_45, L_198_46, L_198_47, L_198_48, C_198, A_199, A_200, A_201, A_202, A_203, A_204, A_205, A_206, A_207, A_208, A_209, A_210, A_211, A_212, A_213, A_214, A_215, A_216, A_217, A_218, A_219, A_220, A_221, A_222, A_223, A_224, A_225, A_226, A_227, A_228, A_128, A_191, A_rf, A_rs, A_rt, Q_4, Q_67, Q_130, t_173_10_1, t_173_21_1, t_173_21_2, t_173_21_3, t_173_10_1, t_173_21_1, t_173_21_2, t_173_21_3, w1, w2, c1, k1]
      · rw [ef, cifF e] at hj
        exact k3 j hj
theorem l_173_10 (hd : 8 ≤ d) (hw : MW B0) (h : SPX K N G B (tw B0) ro a s cl t m r c) (hru : B0.2.1 200 s = 110 ∨ B0.2.1 200 s = 104 ∨ B0.2.1 200 s = 113) (hs : s0 = 66 ∨ s0 = 129) (hS : SHT B s0 cc rm) (hb : SHB cc rm) (hP : ∀ j, P j ↔ rsn (tw B0) cc rm s cl ((j : Int) % 4) ((j : Int) / 48) ((j : Int) / 4 % 12) m = 45) {x : Nat} (hx : x < 60)
    (hn : ∀ B1 o3 o4, SQ B B1 → NR K N G B P (48 * (x + 1)) (gRn K d 173 2 [some (.ref N), some (.ref (N + s0)), some (.int (I ((x : Int) + 1))), o3, o4] [] (hH K N G B1))) : ∀ (n y : Nat) (B1 : gB) (o4 : Option Value), (y : Int) + n = cols (tw B0) → SQ B B1 → NR K N G B P (48 * x + 4 * y) (gRn K d 173 10 [some (.ref N), some (.ref (N + s0)), some (.int (I (x : Int))), some (.int (I (y : Int))), o4] [] (hH K N G B1)) := by
  have bc := cols_b hw
  intro n
  induction n with
  | zero =>
    intro y B1 o4 hy hq
    have w1 := sp_194 (d := d) (by omega) hw (h.sq hq)
    have c1 : g_cls (hH K N G B1) N = some 0 := cl_of (c := 0) (hH_x (B := B1))
    obtain ⟨B2, k1, k2, k3⟩ := hn B1 (some (.int (I (y : Int)))) o4 hq
    have ef : fst1 P (48 * x + 4 * y) (2880 - (48 * x + 4 * y)) = fst1 P (48 * (x + 1)) (2880 - 48 * (x + 1)) := by
      rw [fst1_skip (48 - 4 * y) (2880 - (48 * x + 4 * y)) (48 * x + 4 * y) (fun j h1 h2 hp => ?_) (by omega), show 48 * x + 4 * y + (48 - 4 * y) = 48 * (x + 1) by omega, show 2880 - (48 * x + 4 * y) - (48 - 4 * y) = 2880 - 48 * (x + 1) by omega]
      have := (ins_of_rsn ((hP j).mp hp)).2.2.2.1.1
      omega
    refine ⟨B2, e_173_10 _ ?_, k2, fun j hj => k3 j (by rw [← ef]; exact hj)⟩
    rw [ef]
    rw [show cols (tw B0) = (y : Int) by omega] at w1
    unfold t_173_10
    simp (disch := omega) only [rI_d, rJ_d, rR_d, rN_d, wF_d, xI_d, xJ_d, xD_d, xQ_d, yI_d, yJ_d, yD_d, yQ_d, dI_s, dJ_s, dR_s, dN_s, dN_n, dH_s, dX_s, dL_s, dD_s, dQ_s, bC_r, bC_t, kI_s, kJ_s, kF_s, kD_s, kR_s, kV_s, I_lit, I_neg, I_add, I_sub, I_mul, I_ltT, I_ltF, I_leT, I_leF, I_eqT, I_eqF, c_int, c_long, c_obj, c_arr, c_bool, c_boolN, c_boolF, vn_bool, c_charN, vn_char, b2_f, b2_t, Int.toNat_natCast, ↓reduceIte, eq_self, and_self, and_true, true_and, not_false_eq_true, not_true_eq_false, L_0_0, L_0_1, L_0_2, L_0_3, L_0_4, L_0_5, L_0_6, L_0_7, L_0_8, L_0_9, L_0_10, L_0_11, L_0_12, L_0_13, L_0_14, L_0_15, C_0, L_1_0, L_1_1, L_1_2, C_1, L_2_0, L_2_1, L_2_2, C_2, L_3_0, L_3_1, L_3_2, C_3, L_65_0, L_65_1, L_65_2, L_65_3, L_65_4, C_65, L_66_0, L_66_1, L_66_2, L_66_3, C_66, L_129_0, L_129_1, L_129_2, L_129_3, C_129, L_198_0, L_198_1, L_198_2, L_198_3, L_198_4, L_198_5, L_198_6, L_198_7, L_198_8, L_198_9, L_198_10, L_198_11, L_198_12, L_198_13, L_198_14, L_198_15, L_198_16, L_198_17, L_198_18, L_198_19, L_198_20, L_198_21, L_198_22, L_198_23, L_198_24, L_198_25, L_198_26, L_198_27, L_198_28, L_198_29, L_198_30, L_198_31, L_198_32, L_198_33, L_198_34, L_198_35, L_198_36, L_198_37, L_198_38, L_198_39, L_198_40, L_198_41, L_198_42, L_198_43, L_198_44, L_198_45, L_198_46, L_198_47, L_198_48, C_198, A_199, A_200, A_201, A_202, A_203, A_204, A_205, A_206, A_207, A_208, A_209, A_210, A_211, A_212, A_213, A_214, A_215, A_216, A_217, A_218, A_219, A_220, A_221, A_222, A_223, A_224, A_225, A_226, A_227, A_228, A_128, A_191, A_rf, A_rs, A_rt, Q_4, Q_67, Q_130, t_173_10_1, t_173_21_1, t_173_21_2, t_173_21_3, t_173_10_1, t_173_21_1, t_173_21_2, t_173_21_3, w1, c1]
    exact k1
  | succ n ih =>
    intro y B1 o4 hy hq
    have w1 := sp_194 (d := d) (by omega) hw (h.sq hq)
    have c1 : g_cls (hH K N G B1) N = some 0 := cl_of (c := 0) (hH_x (B := B1))
    obtain ⟨B2, k1, k2, k3⟩ := l_173_21 hd hw h hru hs hS hb hP hx (show y < 12 by omega) (fun B1 hq => by
      have := ih (y + 1) B1 (some (.int (I 4))) (by omega) hq
      rw [show ((y + 1 : Nat) : Int) = (y : Int) + 1 by omega, show 48 * x + 4 * (y + 1) = 48 * x + 4 * y + 4 by omega] at this
      exact this) 4 0 B1 (by omega) hq
    refine ⟨B2, e_173_10 _ ?_, k2, k3⟩
    unfold t_173_10
    simp (disch := omega) only [rI_d, rJ_d, rR_d, rN_d, wF_d, xI_d, xJ_d, xD_d, xQ_d, yI_d, yJ_d, yD_d, yQ_d, dI_s, dJ_s, dR_s, dN_s, dN_n, dH_s, dX_s, dL_s, dD_s, dQ_s, bC_r, bC_t, kI_s, kJ_s, kF_s, kD_s, kR_s, kV_s, I_lit, I_neg, I_add, I_sub, I_mul, I_ltT, I_ltF, I_leT, I_leF, I_eqT, I_eqF, c_int, c_long, c_obj, c_arr, c_bool, c_boolN, c_boolF, vn_bool, c_charN, vn_char, b2_f, b2_t, Int.toNat_natCast, ↓reduceIte, eq_self, and_self, and_true, true_and, not_false_eq_true, not_true_eq_false, L_0_0, L_0_1, L_0_2, L_0_3, L_0_4, L_0_5, L_0_6, L_0_7, L_0_8, L_0_9, L_0_10, L_0_11, L_0_12, L_0_13, L_0_14, L_0_15, C_0, L_1_0, L_1_1, L_1_2, C_1, L_2_0, L_2_1, L_2_2, C_2, L_3_0, L_3_1, L_3_2, C_3, L_65_0, L_65_1, L_65_2, L_65_3, L_65_4, C_65, L_66_0, L_66_1, L_66_2, L_66_3, C_66, L_129_0, L_129_1, L_129_2, L_129_3, C_129, L_198_0, L_198_1, L_198_2, L_198_3, L_198_4, L_198_5, L_198_6, L_198_7, L_198_8, L_198_9, L_198_10, L_198_11, L_198_12, L_198_13, L_198_14, L_198_15, L_198_16, L_198_17, L_198_18, L_198_19, L_198_20, L_198_21, L_198_22, L_198_23, L_198_24, L_198_25, L_198_26, L_198_27, L_198_28, L_198_29, L_198_30, L_198_31, L_198_32, L_198_33, L_198_34, L_198_35, L_198_36, L_198_37, L_198_38, L_198_39, L_198_40, L_198_41, L_198_42, L_198_43, L_198_44, L_198_45, L_198_46, L_198_47, L_198_48, C_198, A_199, A_200, A_201, A_202, A_203, A_204, A_205, A_206, A_207, A_208, A_209, A_210, A_211, A_212, A_213, A_214, A_215, A_216, A_217, A_218, A_219, A_220, A_221, A_222, A_223, A_224, A_225, A_226, A_227, A_228, A_128, A_191, A_rf, A_rs, A_rt, Q_4, Q_67, Q_130, t_173_10_1, t_173_21_1, t_173_21_2, t_173_21_3, t_173_10_1, t_173_21_1, t_173_21_2, t_173_21_3, w1, c1]
    exact k1
theorem l_173_2 (hd : 8 ≤ d) (hw : MW B0) (h : SPX K N G B (tw B0) ro a s cl t m r c) (hru : B0.2.1 200 s = 110 ∨ B0.2.1 200 s = 104 ∨ B0.2.1 200 s = 113) (hs : s0 = 66 ∨ s0 = 129) (hS : SHT B s0 cc rm) (hb : SHB cc rm) (hP : ∀ j, P j ↔ rsn (tw B0) cc rm s cl ((j : Int) % 4) ((j : Int) / 48) ((j : Int) / 4 % 12) m = 45) : ∀ (n x : Nat) (B1 : gB) (o3 o4 : Option Value), x + n = 60 → SQ B B1 → NR K N G B P (48 * x) (gRn K d 173 2 [some (.ref N), some (.ref (N + s0)), some (.int (I (x : Int))), o3, o4] [] (hH K N G B1)) := by
  have bc := cols_b hw
  intro n
  induction n with
  | zero =>
    intro x B1 o3 o4 hx hq
    obtain rfl : x = 60 := by omega
    refine ⟨B1, e_173_2 _ ?_, hq, fun j hj => by cases hj⟩
    rw [b2F (fun q => q rfl)]
    unfold t_173_2
    simp (disch := omega) only [rI_d, rJ_d, rR_d, rN_d, wF_d, xI_d, xJ_d, xD_d, xQ_d, yI_d, yJ_d, yD_d, yQ_d, dI_s, dJ_s, dR_s, dN_s, dN_n, dH_s, dX_s, dL_s, dD_s, dQ_s, bC_r, bC_t, kI_s, kJ_s, kF_s, kD_s, kR_s, kV_s, I_lit, I_neg, I_add, I_sub, I_mul, I_ltT, I_ltF, I_leT, I_leF, I_eqT, I_eqF, c_int, c_long, c_obj, c_arr, c_bool, c_boolN, c_boolF, vn_bool, c_charN, vn_char, b2_f, b2_t, Int.toNat_natCast, ↓reduceIte, eq_self, and_self, and_true, true_and, not_false_eq_true, not_true_eq_false, L_0_0, L_0_1, L_0_2, L_0_3, L_0_4, L_0_5, L_0_6, L_0_7, L_0_8, L_0_9, L_0_10, L_0_11, L_0_12, L_0_13, L_0_14, L_0_15, C_0, L_1_0, L_1_1, L_1_2, C_1, L_2_0, L_2_1, L_2_2, C_2, L_3_0, L_3_1, L_3_2, C_3, L_65_0, L_65_1, L_65_2, L_65_3, L_65_4, C_65, L_66_0, L_66_1, L_66_2, L_66_3, C_66, L_129_0, L_129_1, L_129_2, L_129_3, C_129, L_198_0, L_198_1, L_198_2, L_198_3, L_198_4, L_198_5, L_198_6, L_198_7, L_198_8, L_198_9, L_198_10, L_198_11, L_198_12, L_198_13, L_198_14, L_198_15, L_198_16, L_198_17, L_198_18, L_198_19, L_198_20, L_198_21, L_198_22, L_198_23, L_198_24, L_198_25, L_198_26, L_198_27, L_198_28, L_198_29, L_198_30, L_198_31, L_198_32, L_198_33, L_198_34, L_198_35, L_198_36, L_198_37, L_198_38, L_198_39, L_198_40, L_198_41, L_198_42, L_198_43, L_198_44, L_198_45, L_198_46, L_198_47, L_198_48, C_198, A_199, A_200, A_201, A_202, A_203, A_204, A_205, A_206, A_207, A_208, A_209, A_210, A_211, A_212, A_213, A_214, A_215, A_216, A_217, A_218, A_219, A_220, A_221, A_222, A_223, A_224, A_225, A_226, A_227, A_228, A_128, A_191, A_rf, A_rs, A_rt, Q_4, Q_67, Q_130, t_173_10_1, t_173_21_1, t_173_21_2, t_173_21_3, t_173_10_1, t_173_21_1, t_173_21_2, t_173_21_3]
  | succ n ih =>
    intro x B1 o3 o4 hx hq
    obtain ⟨B2, k1, k2⟩ := l_173_10 hd hw h hru hs hS hb hP (show x < 60 by omega) (fun B1 o3 o4 hq => by
      have := ih (x + 1) B1 o3 o4 (by omega) hq
      rw [show ((x + 1 : Nat) : Int) = (x : Int) + 1 by omega] at this
      exact this) (cols (tw B0)).toNat 0 B1 o4 (by omega) hq
    refine ⟨B2, e_173_2 _ ?_, k2⟩
    unfold t_173_2
    simp (disch := omega) only [rI_d, rJ_d, rR_d, rN_d, wF_d, xI_d, xJ_d, xD_d, xQ_d, yI_d, yJ_d, yD_d, yQ_d, dI_s, dJ_s, dR_s, dN_s, dN_n, dH_s, dX_s, dL_s, dD_s, dQ_s, bC_r, bC_t, kI_s, kJ_s, kF_s, kD_s, kR_s, kV_s, I_lit, I_neg, I_add, I_sub, I_mul, I_ltT, I_ltF, I_leT, I_leF, I_eqT, I_eqF, c_int, c_long, c_obj, c_arr, c_bool, c_boolN, c_boolF, vn_bool, c_charN, vn_char, b2_f, b2_t, Int.toNat_natCast, ↓reduceIte, eq_self, and_self, and_true, true_and, not_false_eq_true, not_true_eq_false, L_0_0, L_0_1, L_0_2, L_0_3, L_0_4, L_0_5, L_0_6, L_0_7, L_0_8, L_0_9, L_0_10, L_0_11, L_0_12, L_0_13, L_0_14, L_0_15, C_0, L_1_0, L_1_1, L_1_2, C_1, L_2_0, L_2_1, L_2_2, C_2, L_3_0, L_3_1, L_3_2, C_3, L_65_0, L_65_1, L_65_2, L_65_3, L_65_4, C_65, L_66_0, L_66_1, L_66_2, L_66_3, C_66, L_129_0, L_129_1, L_129_2, L_129_3, C_129, L_198_0, L_198_1, L_198_2, L_198_3, L_198_4, L_198_5, L_198_6, L_198_7, L_198_8, L_198_9, L_198_10, L_198_11, L_198_12, L_198_13, L_198_14, L_198_15, L_198_16, L_198_17, L_198_18, L_198_19, L_198_20, L_198_21, L_198_22, L_198_23, L_198_24, L_198_25, L_198_26, L_198_27, L_198_28, L_198_29, L_198_30, L_198_31, L_198_32, L_198_33, L_198_34, L_198_35, L_198_36, L_198_37, L_198_38, L_198_39, L_198_40, L_198_41, L_198_42, L_198_43, L_198_44, L_198_45, L_198_46, L_198_47, L_198_48, C_198, A_199, A_200, A_201, A_202, A_203, A_204, A_205, A_206, A_207, A_208, A_209, A_210, A_211, A_212, A_213, A_214, A_215, A_216, A_217, A_218, A_219, A_220, A_221, A_222, A_223, A_224, A_225, A_226, A_227, A_228, A_128, A_191, A_rf, A_rs, A_rt, Q_4, Q_67, Q_130, t_173_10_1, t_173_21_1, t_173_21_2, t_173_21_3, t_173_10_1, t_173_21_1, t_173_21_2, t_173_21_3]
    exact k1
/-- the spot is moved to the first place, if there is one -/
theorem w_173 (hd : 9 ≤ d) (hw : MW B0) (h : SPX K N G B (tw B0) ro a s cl t m r c) (hru : B0.2.1 200 s = 110 ∨ B0.2.1 200 s = 104 ∨ B0.2.1 200 s = 113) (hs : s0 = 66 ∨ s0 = 129) (hS : SHT B s0 cc rm) (hb : SHB cc rm) : ∃ B2, gCa K d 173 [.ref N, .ref (N + s0)] (hH K N G B) = some (.inl (some (.int (I (b2 (nst (tw B0) cc rm s (dl (tw B0) s) m ≠ none))))), hH K N G B2) ∧ SQ B B2 ∧ ∀ j, nst (tw B0) cc rm s (dl (tw B0) s) m = some j → SPX K N G B2 (tw B0) ro a s cl ((j : Int) % 4) m ((j : Int) / 48) ((j : Int) / 4 % 12) := by
  obtain ⟨d, rfl, hd'⟩ := d_succ (show 8 + 1 ≤ d by omega)
  obtain ⟨B2, k1, k2, k3⟩ := l_173_2 (d := d) (by omega) hw h hru hs hS hb (P := fun j => rsn (tw B0) cc rm s cl ((j : Int) % 4) ((j : Int) / 48) ((j : Int) / 4 % 12) m = 45) (fun _ => Iff.rfl) 60 0 B none none (by omega) SQ.rf
  have en : fst1 (fun j => rsn (tw B0) cc rm s cl ((j : Int) % 4) ((j : Int) / 48) ((j : Int) / 4 % 12) m = 45) (48 * 0) (2880 - 48 * 0) = nst (tw B0) cc rm s (dl (tw B0) s) m := fst1_congr _ _ (fun j _ _ => by rw [rsn_p h.2.2.1])
  rw [en] at k1 k3
  refine ⟨B2, c_173 _ ?_, k2, fun j hj => ?_⟩
  · unfold t_173_0
    simp only [I_lit, I_neg, I_add, I_sub, I_mul, I_ltT, I_ltF, I_leT, I_leF, I_eqT, I_eqF, c_int, c_long, c_obj, c_arr, c_bool, c_boolN, c_boolF, vn_bool, c_charN, vn_char, b2_f, b2_t]
    exact k1
  · have hX := h.sq k2
    obtain ⟨q1, q2, q3⟩ := k3 j hj
    rw [q1, q2, q3] at hX
    exact hX
end
