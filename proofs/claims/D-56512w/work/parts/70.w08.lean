/-! PURE 17: the model's nests -/
set_option maxRecDepth 100000
theorem MI.sc {B B' : gB} (hi : MI B) (h : SC B B') (hw : MW B') : MI B' := by
  refine ⟨hw, fun s hs => ?_, fun g hg => ?_⟩
  · rw [h.a (by omega), scf (fun M => dl M s) (fun _ => rfl) h]
    exact hi.2.1 s hs
  · rw [h.a (by omega)] at hg ⊢
    exact hi.2.2 g hg
/-- the first place from k on, of n, that has P -/
noncomputable def fst1 (P : Nat → Prop) : Nat → Nat → Option Nat
  | _, 0 => none
  | k, n + 1 => cif (P k) (some k) (fst1 P (k + 1) n)
theorem fst1_congr {P Q : Nat → Prop} : ∀ (n k : Nat), (∀ j, k ≤ j → j < k + n → (P j ↔ Q j)) → fst1 P k n = fst1 Q k n
  | 0, _, _ => rfl
  | n + 1, k, h => cif_of (h k (Nat.le_refl _) (by omega)) (fun _ => rfl) (fun _ => fst1_congr n (k + 1) fun j h1 h2 => h j (by omega) (by omega))
theorem fst1_some {P : Nat → Prop} : ∀ (n k j : Nat), fst1 P k n = some j → P j ∧ k ≤ j ∧ j < k + n
  | 0, _, _, h => by cases h
  | n + 1, k, j, h => by
    unfold fst1 at h
    by_cases e : P k
    · rw [cifT e] at h
      cases h
      exact ⟨e, by omega, by omega⟩
    · rw [cifF e] at h
      have := fst1_some n (k + 1) j h
      exact ⟨this.1, by omega, by omega⟩
noncomputable def nst (M : gM) (cl rm : Nat → Int) (s : Nat) (l : List Nat) (m : Int) : Option Nat := fst1 (fun k => rsn M cl rm s l ((k : Int) % 4) ((k : Int) / 48) ((k : Int) / 4 % 12) m = 45) 0 2880
theorem ins_of_rsn {M : gM} {cl rm : Nat → Int} {s : Nat} {l : List Nat} {t r c m : Int} (h : rsn M cl rm s l t r c m = 45) : l ≠ [] ∧ may M s t ∧ ¬ (m ≠ 0 ∧ (M.2 201 s = 0 ∨ (M.1 3) ≠ 0)) ∧ ins M l t m r c ∧ ¬ onF M l t m r c ∧ ¬ onP cl l t m r c ∧ meets M rm s l t m r := by
  unfold rsn at h
  by_cases e1 : l = []
  · rw [cifT e1] at h; cases h
  rw [cifF e1] at h
  by_cases e2 : may M s t
  · rw [cifF (fun q => q e2)] at h
    by_cases e3 : m ≠ 0 ∧ (M.2 201 s = 0 ∨ (M.1 3) ≠ 0)
    · rw [cifT e3] at h; cases h
    rw [cifF e3] at h
    by_cases e4 : ins M l t m r c
    · rw [cifF (fun q => q e4)] at h
      by_cases e5 : onF M l t m r c
      · rw [cifT e5] at h; cases h
      rw [cifF e5] at h
      by_cases e6 : onP cl l t m r c
      · rw [cifT e6] at h; cases h
      rw [cifF e6] at h
      by_cases e7 : meets M rm s l t m r
      · exact ⟨e1, e2, e3, e4, e5, e6, e7⟩
      · rw [cifF e7] at h; cases h
    · rw [cifT e4] at h; cases h
  · rw [cifT e2] at h; cases h
section
variable {K : gK} {d N : Nat} {G : gH} {B0 : gB}
theorem l_105 (hd : 4 ≤ d) (hi : MI B0) {s m : Int} (hs : 0 ≤ s ∧ s < 8) (hm : 0 ≤ m ∧ m ≤ 1) : ∀ (n : Nat) (z : Int) (B : gB), 0 ≤ z → z + n = 2880 → SC B0 B → MW B →
    ∃ B', gRn K d 105 2 [some (.ref (N + 198)), some (.int (I s)), some (.int (I m)), some (.int (I z))] [] (hH K N G B) = some (.inl (some (.int (I (b2 (fst1 (fun k => rsn (tw B0) (B0.2.1 215) (rmT (tw B0)) s.toNat (dl (tw B0) s.toNat) ((k : Int) % 4) ((k : Int) / 48) ((k : Int) / 4 % 12) m = 45) z.toNat n ≠ none))))), hH K N G B') ∧ SC B0 B' ∧ MW B' ∧
      ∀ k, fst1 (fun k => rsn (tw B0) (B0.2.1 215) (rmT (tw B0)) s.toNat (dl (tw B0) s.toNat) ((k : Int) % 4) ((k : Int) / 48) ((k : Int) / 4 % 12) m = 45) z.toNat n = some k → (B'.1 198 37) = (k : Int) / 48 ∧ (B'.1 198 38) = (k : Int) / 4 % 12 ∧ (B'.1 198 39) = (k : Int) % 4 ∧ Tn (tw B0) B' s.toNat (dl (tw B0) s.toNat) ((k : Int) % 4) m := by
  intro n
  induction n with
  | zero =>
    intro z B hz hn hsc hmw
    refine ⟨B, e_105_2 _ ?_, hsc, hmw, fun k h => by cases h⟩
    unfold t_105_2
    rw [b2F (fun h => h rfl)]
    simp (disch := omega) only [rI_d, rJ_d, rR_d, rN_d, wF_d, xI_d, xJ_d, xD_d, xQ_d, yI_d, yJ_d, yD_d, yQ_d, dI_s, dJ_s, dR_s, dN_s, dN_n, dH_s, dX_s, dL_s, dD_s, dQ_s, bC_r, bC_t, kI_s, kJ_s, kF_s, kD_s, kR_s, kV_s, I_lit, I_neg, I_add, I_sub, I_mul, I_ltT, I_ltF, I_leT, I_leF, I_eqT, I_eqF, c_int, c_long, c_obj, c_arr, c_bool, c_boolN, c_boolF, vn_bool, c_charN, vn_char, b2_f, b2_t, Int.toNat_natCast, ↓reduceIte, eq_self, and_self, and_true, true_and, not_false_eq_true, not_true_eq_false, L_0_0, L_0_1, L_0_2, L_0_3, L_0_4, L_0_5, L_0_6, L_0_7, L_0_8, L_0_9, L_0_10, L_0_11, L_0_12, L_0_13, L_0_14, L_0_15, C_0, L_1_0, L_1_1, L_1_2, C_1, L_2_0, L_2_1, L_2_2, C_2, L_3_0, L_3_1, L_3_2, C_3, L_65_0, L_65_1, L_65_2, L_65_3, L_65_4, C_65, L_66_0, L_66_1, L_66_2, L_66_3, C_66, L_129_0, L_129_1, L_129_2, L_129_3, C_129, L_198_0, L_198_1, L_198_2, L_198_3, L_198_4, L_198_5, L_198_6, L_198_7, L_198_8, L_198_9, L_198_10, L_198_11, L_198_12, L_198_13, L_198_14, L_198_15, L_198_16, L_198_17, L_198_18, L_198_19, L_198_20, L_198_21, L_198_22, L_198_23, L_198_24, L_198_25, L_198_26, L_198_27, L_198_28, L_198_29, L_198_30, L_198_31, L_198_32, L_198_33, L_198_34, L_198_35, L_198_36, L_198_37, L_198_38, L_198_39, L_198_40, L_198_41, L_198_42, L_198_43, L_198_44, L_198_45, L_198_46, L_198_47, L_198_48, C_198, A_199, A_200, A_201, A_202, A_203, A_204, A_205, A_206, A_207, A_208, A_209, A_210, A_211, A_212, A_213, A_214, A_215, A_216, A_217, A_218, A_219, A_220, A_221, A_222, A_223, A_224, A_225, A_226, A_227, A_228, A_128, A_191, A_rf, A_rs, A_rt, Q_4, Q_67, Q_130, t_105_2_1, t_105_2_2, t_105_2_3, t_105_2_4, t_105_2_5, t_105_2_6, t_105_2_7]
  | succ n ih =>
    intro z B hz hn hsc hmw
    have hsc1 : SC B0 (sI (sI (sI B 198 37 (z / 48)) 198 38 (z / 4 % 12)) 198 39 (z % 4)) := hsc.tr ((scI (by omega)).tr ((scI (by omega)).tr (scI (by omega))))
    have hmw1 : MW (sI (sI (sI B 198 37 (z / 48)) 198 38 (z / 4 % 12)) 198 39 (z % 4)) := ms_nestTurns (ms_nestColumn (ms_nestRow hmw (by omega)) (by omega)) (by omega)
    obtain ⟨B', g1, g2, g3, g4⟩ := w_101 (K := K) (N := N) (G := G) hd (hi.sc hsc1 hmw1) hs (t := z % 4) (r := z / 48) (c := z / 4 % 12) (by omega) (by omega) (by omega) hm
    have e1 : rsn (tw (sI (sI (sI B 198 37 (z / 48)) 198 38 (z / 4 % 12)) 198 39 (z % 4))) ((sI (sI (sI B 198 37 (z / 48)) 198 38 (z / 4 % 12)) 198 39 (z % 4)).2.1 215) (rmT (tw (sI (sI (sI B 198 37 (z / 48)) 198 38 (z / 4 % 12)) 198 39 (z % 4)))) s.toNat (dl (tw (sI (sI (sI B 198 37 (z / 48)) 198 38 (z / 4 % 12)) 198 39 (z % 4))) s.toNat) (z % 4) (z / 48) (z / 4 % 12) m = rsn (tw B0) (B0.2.1 215) (rmT (tw B0)) s.toNat (dl (tw B0) s.toNat) (z % 4) (z / 48) (z / 4 % 12) m := scf (fun M => rsn M (M.2 215) (rmT M) s.toNat (dl M s.toNat) (z % 4) (z / 48) (z / 4 % 12) m) (fun _ => rfl) hsc1
    rw [e1] at g1 g4
    have ez : (z.toNat : Int) = z := by omega
    have hdm : z - z / 4 * 4 = z % 4 := by omega
    have hdm2 : z / 4 - z / 4 / 12 * 12 = z / 4 % 12 := by omega
    unfold fst1
    simp only [ez]
    by_cases e : rsn (tw B0) (B0.2.1 215) (rmT (tw B0)) s.toNat (dl (tw B0) s.toNat) (z % 4) (z / 48) (z / 4 % 12) m = 45
    · rw [cifT e]
      rw [e] at g1
      refine ⟨B', e_105_2 _ ?_, hsc1.tr g2.1, g3, fun k h => ?_⟩
      · unfold t_105_2
        rw [b2T (fun h => by cases h)]
        simp (disch := omega) only [rI_d, rJ_d, rR_d, rN_d, wF_d, xI_d, xJ_d, xD_d, xQ_d, yI_d, yJ_d, yD_d, yQ_d, dI_s, dJ_s, dR_s, dN_s, dN_n, dH_s, dX_s, dL_s, dD_s, dQ_s, bC_r, bC_t, kI_s, kJ_s, kF_s, kD_s, kR_s, kV_s, I_lit, I_neg, I_add, I_sub, I_mul, I_ltT, I_ltF, I_leT, I_leF, I_eqT, I_eqF, c_int, c_long, c_obj, c_arr, c_bool, c_boolN, c_boolF, vn_bool, c_charN, vn_char, b2_f, b2_t, Int.toNat_natCast, ↓reduceIte, eq_self, and_self, and_true, true_and, not_false_eq_true, not_true_eq_false, L_0_0, L_0_1, L_0_2, L_0_3, L_0_4, L_0_5, L_0_6, L_0_7, L_0_8, L_0_9, L_0_10, L_0_11, L_0_12, L_0_13, L_0_14, L_0_15, C_0, L_1_0, L_1_1, L_1_2, C_1, L_2_0, L_2_1, L_2_2, C_2, L_3_0, L_3_1, L_3_2, C_3, L_65_0, L_65_1, L_65_2, L_65_3, L_65_4, C_65, L_66_0, L_66_1, L_66_2, L_66_3, C_66, L_129_0, L_129_1, L_129_2, L_129_3, C_129, L_198_0, L_198_1, L_198_2, L_198_3, L_198_4, L_198_5, L_198_6, L_198_7, L_198_8, L_198_9, L_198_10, L_198_11, L_198_12, L_198_13, L_198_14, L_198_15, L_198_16, L_198_17, L_198_18, L_198_19, L_198_20, L_198_21, L_198_22, L_198_23, L_198_24, L_198_25, L_198_26, L_198_27, L_198_28, L_198_29, L_198_30, L_198_31, L_198_32, L_198_33, L_198_34, L_198_35, L_198_36, L_198_37, L_198_38, L_198_39, L_198_40, L_198_41, L_198_42, L_198_43, L_198_44, L_198_45, L_198_46, L_198_47, L_198_48, C_198, A_199, A_200, A_201, A_202, A_203, A_204, A_205, A_206, A_207, A_208, A_209, A_210, A_211, A_212, A_213, A_214, A_215, A_216, A_217, A_218, A_219, A_220, A_221, A_222, A_223, A_224, A_225, A_226, A_227, A_228, A_128, A_191, A_rf, A_rs, A_rt, Q_4, Q_67, Q_130, t_105_2_1, t_105_2_2, t_105_2_3, t_105_2_4, t_105_2_5, t_105_2_6, t_105_2_7, M_0_8, M_0_9, M_0_10, M_0_11, M_0_12, M_0_13, M_0_14, M_0_15, M_1_0, M_1_1, M_1_2, M_2_0, M_2_1, M_2_2, M_3_0, M_3_1, M_3_2, M_65_0, M_65_1, M_65_2, M_65_3, M_65_4, M_66_2, M_129_2, M_198_0, M_198_1, M_198_2, M_198_3, M_198_4, M_198_5, M_198_7, M_198_17, M_198_18, M_198_28, M_198_31, M_198_32, M_198_33, M_198_36, M_198_37, M_198_38, M_198_39, M_198_41, M_198_48, S_199, S_200, S_201, S_202, S_203, S_204, S_205, S_206, S_207, S_208, S_209, S_210, S_211, S_212, S_213, S_214, S_215, S_216, S_217, S_218, S_219, S_220, S_221, S_222, S_223, S_224, S_225, S_226, S_227, S_228, S_128, S_191, S_rf, S_rs, S_rt, sI_eq, sI_ne, sI_21, sI_22, sA_eq, sA_ne, sA_1, sA_3, I_div, hdm, hdm2, g1]
      · cases h
        have g4 := g4 e
        rw [ez]
        refine ⟨?_, ?_, ?_, ?_⟩
        · rw [g2.2 37 (by omega) (by omega), sI_ne (by omega), sI_ne (by omega), sI_eq rfl]
        · rw [g2.2 38 (by omega) (by omega), sI_ne (by omega), sI_eq rfl]
        · rw [g2.2 39 (by omega) (by omega), sI_eq rfl]
        · rw [scf (fun M => dl M s.toNat) (fun _ => rfl) hsc1] at g4
          refine ⟨g4.1, g4.2.1, g4.2.2.trans ?_⟩
          exact scf (fun M => mb M s.toNat (dl (tw B0) s.toNat) (z % 4) m) (fun _ => rfl) hsc1
    · rw [cifF e]
      obtain ⟨B'', k1, k2, k3, k4⟩ := ih (z + 1) B' (by omega) (by omega) (hsc1.tr g2.1) g3
      rw [show (z + 1).toNat = z.toNat + 1 by omega] at k1 k4
      refine ⟨B'', e_105_2 _ ?_, k2, k3, k4⟩
      unfold t_105_2
      have hb := rsn_b (M := tw B0) (cl := B0.2.1 215) (rm := rmT (tw B0)) (s := s.toNat) (l := dl (tw B0) s.toNat) (t := z % 4) (r := z / 48) (c := z / 4 % 12) (m := m)
      generalize rsn (tw B0) (B0.2.1 215) (rmT (tw B0)) s.toNat (dl (tw B0) s.toNat) (z % 4) (z / 48) (z / 4 % 12) m = R at *
      simp (disch := omega) only [rI_d, rJ_d, rR_d, rN_d, wF_d, xI_d, xJ_d, xD_d, xQ_d, yI_d, yJ_d, yD_d, yQ_d, dI_s, dJ_s, dR_s, dN_s, dN_n, dH_s, dX_s, dL_s, dD_s, dQ_s, bC_r, bC_t, kI_s, kJ_s, kF_s, kD_s, kR_s, kV_s, I_lit, I_neg, I_add, I_sub, I_mul, I_ltT, I_ltF, I_leT, I_leF, I_eqT, I_eqF, c_int, c_long, c_obj, c_arr, c_bool, c_boolN, c_boolF, vn_bool, c_charN, vn_char, b2_f, b2_t, Int.toNat_natCast, ↓reduceIte, eq_self, and_self, and_true, true_and, not_false_eq_true, not_true_eq_false, L_0_0, L_0_1, L_0_2, L_0_3, L_0_4, L_0_5, L_0_6, L_0_7, L_0_8, L_0_9, L_0_10, L_0_11, L_0_12, L_0_13, L_0_14, L_0_15, C_0, L_1_0, L_1_1, L_1_2, C_1, L_2_0, L_2_1, L_2_2, C_2, L_3_0, L_3_1, L_3_2, C_3, L_65_0, L_65_1, L_65_2, L_65_3, L_65_4, C_65, L_66_0, L_66_1, L_66_2, L_66_3, C_66, L_129_0, L_129_1, L_129_2, L_129_3, C_129, L_198_0, L_198_1, L_198_2, L_198_3, L_198_4, L_198_5, L_198_6, L_198_7, L_198_8, L_198_9, L_198_10, L_198_11, L_198_12, L_198_13, L_198_14, L_198_15, L_198_16, L_198_17, L_198_18, L_198_19, L_198_20, L_198_21, L_198_22, L_198_23, L_198_24, L_198_25, L_198_26, L_198_27, L_198_28, L_198_29, L_198_30, L_198_31, L_198_32, L_198_33, L_198_34, L_198_35, L_198_36, L_198_37, L_198_38, L_198_39, L_198_40, L_198_41, L_198_42, L_198_43, L_198_44, L_198_45, L_198_46, L_198_47, L_198_48, C_198, A_199, A_200, A_201, A_202, A_203, A_204, A_205, A_206, A_207, A_208, A_209, A_210, A_211, A_212, A_213, A_214, A_215, A_216, A_217, A_218, A_219, A_220, A_221, A_222, A_223, A_224, A_225, A_226, A_227, A_228, A_128, A_191, A_rf, A_rs, A_rt, Q_4, Q_67, Q_130, t_105_2_1, t_105_2_2, t_105_2_3, t_105_2_4, t_105_2_5, t_105_2_6, t_105_2_7, M_0_8, M_0_9, M_0_10, M_0_11, M_0_12, M_0_13, M_0_14, M_0_15, M_1_0, M_1_1, M_1_2, M_2_0, M_2_1, M_2_2, M_3_0, M_3_1, M_3_2, M_65_0, M_65_1, M_65_2, M_65_3, M_65_4, M_66_2, M_129_2, M_198_0, M_198_1, M_198_2, M_198_3, M_198_4, M_198_5, M_198_7, M_198_17, M_198_18, M_198_28, M_198_31, M_198_32, M_198_33, M_198_36, M_198_37, M_198_38, M_198_39, M_198_41, M_198_48, S_199, S_200, S_201, S_202, S_203, S_204, S_205, S_206, S_207, S_208, S_209, S_210, S_211, S_212, S_213, S_214, S_215, S_216, S_217, S_218, S_219, S_220, S_221, S_222, S_223, S_224, S_225, S_226, S_227, S_228, S_128, S_191, S_rf, S_rs, S_rt, sI_eq, sI_ne, sI_21, sI_22, sA_eq, sA_ne, sA_1, sA_3, I_div, hdm, hdm2, g1, k1]
theorem w_105 (hd : 5 ≤ d) (hi : MI B0) {s m : Int} (hs : 0 ≤ s ∧ s < 8) (hm : 0 ≤ m ∧ m ≤ 1) :
    ∃ B', gCa K d 105 [.ref (N + 198), .int (I s), .int (I m)] (hH K N G B0) = some (.inl (some (.int (I (b2 (nst (tw B0) (B0.2.1 215) (rmT (tw B0)) s.toNat (dl (tw B0) s.toNat) m ≠ none))))), hH K N G B') ∧ SC B0 B' ∧ MW B' ∧
      ∀ k, nst (tw B0) (B0.2.1 215) (rmT (tw B0)) s.toNat (dl (tw B0) s.toNat) m = some k → (B'.1 198 37) = (k : Int) / 48 ∧ (B'.1 198 38) = (k : Int) / 4 % 12 ∧ (B'.1 198 39) = (k : Int) % 4 ∧ Tn (tw B0) B' s.toNat (dl (tw B0) s.toNat) ((k : Int) % 4) m := by
  obtain ⟨d, rfl, hd'⟩ := d_succ hd
  obtain ⟨B', h1, h2⟩ := l_105 (K := K) (N := N) (G := G) hd' hi hs hm 2880 0 B0 (by omega) (by omega) SC.rf hi.1
  refine ⟨B', c_105 _ ?_, h2⟩
  unfold t_105_0
  simp only [I_lit, I_neg, I_add, I_sub, I_mul, I_ltT, I_ltF, I_leT, I_leF, I_eqT, I_eqF, c_int, c_long, c_obj, c_arr, c_bool, c_boolN, c_boolF, vn_bool, c_charN, vn_char, b2_f, b2_t]
  exact h1
def fill (f : Nat → Int) (v : Int) (z : Nat) : Nat → Int := fun q => if q < z then v else f q
theorem fill_succ {f : Nat → Int} {v : Int} {z : Nat} : fill f v (z + 1) = fun q => if q = z then v else fill f v z q := by
  funext q
  unfold fill
  by_cases h : q = z
  · subst h
    rw [if_pos (by omega), if_pos rfl]
  · rw [if_neg h]
    by_cases h2 : q < z
    · rw [if_pos h2, if_pos (by omega)]
    · rw [if_neg h2, if_neg (by omega)]
theorem fill_0 {f : Nat → Int} {v : Int} : fill f v 0 = f := funext fun q => if_neg (by omega)
/-- an empty cloth -/
def emB (B : gB) : gB := sI (sI (stA (stA (stA B 215 (fill (B.2.1 215) (-1) 720)) 216 (fill (B.2.1 216) (-1) 4)) 217 (fill (B.2.1 217) 0 4)) 198 17 0) 198 18 0
theorem l_87_2 : ∀ (n : Nat) (z : Int), 0 ≤ z → z + n = 4 →
    gRn K d 87 24 [some (.ref (N + 198)), some (.int (I z))] [] (hH K N G (stA (stA B0 216 (fill (B0.2.1 216) (-1) z.toNat)) 217 (fill (B0.2.1 217) 0 z.toNat))) = some (.inl none, hH K N G (sI (sI (stA (stA B0 216 (fill (B0.2.1 216) (-1) 4)) 217 (fill (B0.2.1 217) 0 4)) 198 17 0) 198 18 0)) := by
  intro n
  induction n with
  | zero =>
    intro z hz hn
    rw [show z.toNat = 4 by omega]
    refine e_87_24 _ ?_
    unfold t_87_24
    simp (disch := omega) only [rI_d, rJ_d, rR_d, rN_d, wF_d, xI_d, xJ_d, xD_d, xQ_d, yI_d, yJ_d, yD_d, yQ_d, dI_s, dJ_s, dR_s, dN_s, dN_n, dH_s, dX_s, dL_s, dD_s, dQ_s, bC_r, bC_t, kI_s, kJ_s, kF_s, kD_s, kR_s, kV_s, I_lit, I_neg, I_add, I_sub, I_mul, I_ltT, I_ltF, I_leT, I_leF, I_eqT, I_eqF, c_int, c_long, c_obj, c_arr, c_bool, c_boolN, c_boolF, vn_bool, c_charN, vn_char, b2_f, b2_t, Int.toNat_natCast, ↓reduceIte, eq_self, and_self, and_true, true_and, not_false_eq_true, not_true_eq_false, L_0_0, L_0_1, L_0_2, L_0_3, L_0_4, L_0_5, L_0_6, L_0_7, L_0_8, L_0_9, L_0_10, L_0_11, L_0_12, L_0_13, L_0_14, L_0_15, C_0, L_1_0, L_1_1, L_1_2, C_1, L_2_0, L_2_1, L_2_2, C_2, L_3_0, L_3_1, L_3_2, C_3, L_65_0, L_65_1, L_65_2, L_65_3, L_65_4, C_65, L_66_0, L_66_1, L_66_2, L_66_3, C_66, L_129_0, L_129_1, L_129_2, L_129_3, C_129, L_198_0, L_198_1, L_198_2, L_198_3, L_198_4, L_198_5, L_198_6, L_198_7, L_198_8, L_198_9, L_198_10, L_198_11, L_198_12, L_198_13, L_198_14, L_198_15, L_198_16, L_198_17, L_198_18, L_198_19, L_198_20, L_198_21, L_198_22, L_198_23, L_198_24, L_198_25, L_198_26, L_198_27, L_198_28, L_198_29, L_198_30, L_198_31, L_198_32, L_198_33, L_198_34, L_198_35, L_198_36, L_198_37, L_198_38, L_198_39, L_198_40, L_198_41, L_198_42, L_198_43, L_198_44, L_198_45, L_198_46, L_198_47, L_198_48, C_198, A_199, A_200, A_201, A_202, A_203, A_204, A_205, A_206, A_207, A_208, A_209, A_210, A_211, A_212, A_213, A_214, A_215, A_216, A_217, A_218, A_219, A_220, A_221, A_222, A_223, A_224, A_225, A_226, A_227, A_228, A_128, A_191, A_rf, A_rs, A_rt, Q_4, Q_67, Q_130, t_87_2_1, t_87_2_2, t_87_24_1, t_87_24_2, t_87_24_3, t_87_24_4, t_87_24_5, t_87_24_6, M_0_8, M_0_9, M_0_10, M_0_11, M_0_12, M_0_13, M_0_14, M_0_15, M_1_0, M_1_1, M_1_2, M_2_0, M_2_1, M_2_2, M_3_0, M_3_1, M_3_2, M_65_0, M_65_1, M_65_2, M_65_3, M_65_4, M_66_2, M_129_2, M_198_0, M_198_1, M_198_2, M_198_3, M_198_4, M_198_5, M_198_7, M_198_17, M_198_18, M_198_28, M_198_31, M_198_32, M_198_33, M_198_36, M_198_37, M_198_38, M_198_39, M_198_41, M_198_48, S_199, S_200, S_201, S_202, S_203, S_204, S_205, S_206, S_207, S_208, S_209, S_210, S_211, S_212, S_213, S_214, S_215, S_216, S_217, S_218, S_219, S_220, S_221, S_222, S_223, S_224, S_225, S_226, S_227, S_228, S_128, S_191, S_rf, S_rs, S_rt]
  | succ n ih =>
    intro z hz hn
    have ih := ih (z + 1) (by omega) (by omega)
    rw [show (z + 1).toNat = z.toNat + 1 by omega, fill_succ, fill_succ] at ih
    refine e_87_24 _ ?_
    unfold t_87_24
    simp (disch := omega) only [rI_d, rJ_d, rR_d, rN_d, wF_d, xI_d, xJ_d, xD_d, xQ_d, yI_d, yJ_d, yD_d, yQ_d, dI_s, dJ_s, dR_s, dN_s, dN_n, dH_s, dX_s, dL_s, dD_s, dQ_s, bC_r, bC_t, kI_s, kJ_s, kF_s, kD_s, kR_s, kV_s, I_lit, I_neg, I_add, I_sub, I_mul, I_ltT, I_ltF, I_leT, I_leF, I_eqT, I_eqF, c_int, c_long, c_obj, c_arr, c_bool, c_boolN, c_boolF, vn_bool, c_charN, vn_char, b2_f, b2_t, Int.toNat_natCast, ↓reduceIte, eq_self, and_self, and_true, true_and, not_false_eq_true, not_true_eq_false, L_0_0, L_0_1, L_0_2, L_0_3, L_0_4, L_0_5, L_0_6, L_0_7, L_0_8, L_0_9, L_0_10, L_0_11, L_0_12, L_0_13, L_0_14, L_0_15, C_0, L_1_0, L_1_1, L_1_2, C_1, L_2_0, L_2_1, L_2_2, C_2, L_3_0, L_3_1, L_3_2, C_3, L_65_0, L_65_1, L_65_2, L_65_3, L_65_4, C_65, L_66_0, L_66_1, L_66_2, L_66_3, C_66, L_129_0, L_129_1, L_129_2, L_129_3, C_129, L_198_0, L_198_1, L_198_2, L_198_3, L_198_4, L_198_5, L_198_6, L_198_7, L_198_8, L_198_9, L_198_10, L_198_11, L_198_12, L_198_13, L_198_14, L_198_15, L_198_16, L_198_17, L_198_18, L_198_19, L_198_20, L_198_21, L_198_22, L_198_23, L_198_24, L_198_25, L_198_26, L_198_27, L_198_28, L_198_29, L_198_30, L_198_31, L_198_32, L_198_33, L_198_34, L_198_35, L_198_36, L_198_37, L_198_38, L_198_39, L_198_40, L_198_41, L_198_42, L_198_43, L_198_44, L_198_45, L_198_46, L_198_47, L_198_48, C_198, A_199, A_200, A_201, A_202, A_203, A_204, A_205, A_206, A_207, A_208, A_209, A_210, A_211, A_212, A_213, A_214, A_215, A_216, A_217, A_218, A_219, A_220, A_221, A_222, A_223, A_224, A_225, A_226, A_227, A_228, A_128, A_191, A_rf, A_rs, A_rt, Q_4, Q_67, Q_130, t_87_2_1, t_87_2_2, t_87_24_1, t_87_24_2, t_87_24_3, t_87_24_4, t_87_24_5, t_87_24_6, M_0_8, M_0_9, M_0_10, M_0_11, M_0_12, M_0_13, M_0_14, M_0_15, M_1_0, M_1_1, M_1_2, M_2_0, M_2_1, M_2_2, M_3_0, M_3_1, M_3_2, M_65_0, M_65_1, M_65_2, M_65_3, M_65_4, M_66_2, M_129_2, M_198_0, M_198_1, M_198_2, M_198_3, M_198_4, M_198_5, M_198_7, M_198_17, M_198_18, M_198_28, M_198_31, M_198_32, M_198_33, M_198_36, M_198_37, M_198_38, M_198_39, M_198_41, M_198_48, S_199, S_200, S_201, S_202, S_203, S_204, S_205, S_206, S_207, S_208, S_209, S_210, S_211, S_212, S_213, S_214, S_215, S_216, S_217, S_218, S_219, S_220, S_221, S_222, S_223, S_224, S_225, S_226, S_227, S_228, S_128, S_191, S_rf, S_rs, S_rt]
    refine Eq.trans (congrArg (fun X => gRn K d 87 24 [some (.ref (N + 198)), some (.int (I (z + 1)))] [] (hH K N G X)) ?_) ih
    refine Prod.ext rfl (Prod.ext (funext fun o' => funext fun j => ?_) rfl)
    simp only [sA, stA]
    by_cases c1 : o' = 217
    · subst c1; simp
    by_cases c2 : o' = 216
    · subst c2; simp
    simp only [if_neg c1, if_neg c2, c1, c2, false_and, if_false]
theorem l_87_1 : ∀ (n : Nat) (z : Int), 0 ≤ z → z + n = 720 →
    gRn K d 87 2 [some (.ref (N + 198)), some (.int (I z))] [] (hH K N G (stA B0 215 (fill (B0.2.1 215) (-1) z.toNat))) = some (.inl none, hH K N G (emB B0)) := by
  intro n
  induction n with
  | zero =>
    intro z hz hn
    rw [show z.toNat = 720 by omega]
    refine e_87_2 _ ?_
    have := l_87_2 (K := K) (d := d) (N := N) (G := G) (B0 := stA B0 215 (fill (B0.2.1 215) (-1) 720)) 4 0 (by omega) (by omega)
    rw [show (0 : Int).toNat = 0 from rfl, fill_0, fill_0, st_self, st_self] at this
    unfold t_87_2
    simp (disch := omega) only [rI_d, rJ_d, rR_d, rN_d, wF_d, xI_d, xJ_d, xD_d, xQ_d, yI_d, yJ_d, yD_d, yQ_d, dI_s, dJ_s, dR_s, dN_s, dN_n, dH_s, dX_s, dL_s, dD_s, dQ_s, bC_r, bC_t, kI_s, kJ_s, kF_s, kD_s, kR_s, kV_s, I_lit, I_neg, I_add, I_sub, I_mul, I_ltT, I_ltF, I_leT, I_leF, I_eqT, I_eqF, c_int, c_long, c_obj, c_arr, c_bool, c_boolN, c_boolF, vn_bool, c_charN, vn_char, b2_f, b2_t, Int.toNat_natCast, ↓reduceIte, eq_self, and_self, and_true, true_and, not_false_eq_true, not_true_eq_false, L_0_0, L_0_1, L_0_2, L_0_3, L_0_4, L_0_5, L_0_6, L_0_7, L_0_8, L_0_9, L_0_10, L_0_11, L_0_12, L_0_13, L_0_14, L_0_15, C_0, L_1_0, L_1_1, L_1_2, C_1, L_2_0, L_2_1, L_2_2, C_2, L_3_0, L_3_1, L_3_2, C_3, L_65_0, L_65_1, L_65_2, L_65_3, L_65_4, C_65, L_66_0, L_66_1, L_66_2, L_66_3, C_66, L_129_0, L_129_1, L_129_2, L_129_3, C_129, L_198_0, L_198_1, L_198_2, L_198_3, L_198_4, L_198_5, L_198_6, L_198_7, L_198_8, L_198_9, L_198_10, L_198_11, L_198_12, L_198_13, L_198_14, L_198_15, L_198_16, L_198_17, L_198_18, L_198_19, L_198_20, L_198_21, L_198_22, L_198_23, L_198_24, L_198_25, L_198_26, L_198_27, L_198_28, L_198_29, L_198_30, L_198_31, L_198_32, L_198_33, L_198_34, L_198_35, L_198_36, L_198_37, L_198_38, L_198_39, L_198_40, L_198_41, L_198_42, L_198_43, L_198_44, L_198_45, L_198_46, L_198_47, L_198_48, C_198, A_199, A_200, A_201, A_202, A_203, A_204, A_205, A_206, A_207, A_208, A_209, A_210, A_211, A_212, A_213, A_214, A_215, A_216, A_217, A_218, A_219, A_220, A_221, A_222, A_223, A_224, A_225, A_226, A_227, A_228, A_128, A_191, A_rf, A_rs, A_rt, Q_4, Q_67, Q_130, t_87_2_1, t_87_2_2, t_87_24_1, t_87_24_2, t_87_24_3, t_87_24_4, t_87_24_5, t_87_24_6, M_0_8, M_0_9, M_0_10, M_0_11, M_0_12, M_0_13, M_0_14, M_0_15, M_1_0, M_1_1, M_1_2, M_2_0, M_2_1, M_2_2, M_3_0, M_3_1, M_3_2, M_65_0, M_65_1, M_65_2, M_65_3, M_65_4, M_66_2, M_129_2, M_198_0, M_198_1, M_198_2, M_198_3, M_198_4, M_198_5, M_198_7, M_198_17, M_198_18, M_198_28, M_198_31, M_198_32, M_198_33, M_198_36, M_198_37, M_198_38, M_198_39, M_198_41, M_198_48, S_199, S_200, S_201, S_202, S_203, S_204, S_205, S_206, S_207, S_208, S_209, S_210, S_211, S_212, S_213, S_214, S_215, S_216, S_217, S_218, S_219, S_220, S_221, S_222, S_223, S_224, S_225, S_226, S_227, S_228, S_128, S_191, S_rf, S_rs, S_rt]
    exact this
  | succ n ih =>
    intro z hz hn
    have ih := ih (z + 1) (by omega) (by omega)
    rw [show (z + 1).toNat = z.toNat + 1 by omega, fill_succ] at ih
    refine e_87_2 _ ?_
    unfold t_87_2
    simp (disch := omega) only [rI_d, rJ_d, rR_d, rN_d, wF_d, xI_d, xJ_d, xD_d, xQ_d, yI_d, yJ_d, yD_d, yQ_d, dI_s, dJ_s, dR_s, dN_s, dN_n, dH_s, dX_s, dL_s, dD_s, dQ_s, bC_r, bC_t, kI_s, kJ_s, kF_s, kD_s, kR_s, kV_s, I_lit, I_neg, I_add, I_sub, I_mul, I_ltT, I_ltF, I_leT, I_leF, I_eqT, I_eqF, c_int, c_long, c_obj, c_arr, c_bool, c_boolN, c_boolF, vn_bool, c_charN, vn_char, b2_f, b2_t, Int.toNat_natCast, ↓reduceIte, eq_self, and_self, and_true, true_and, not_false_eq_true, not_true_eq_false, L_0_0, L_0_1, L_0_2, L_0_3, L_0_4, L_0_5, L_0_6, L_0_7, L_0_8, L_0_9, L_0_10, L_0_11, L_0_12, L_0_13, L_0_14, L_0_15, C_0, L_1_0, L_1_1, L_1_2, C_1, L_2_0, L_2_1, L_2_2, C_2, L_3_0, L_3_1, L_3_2, C_3, L_65_0, L_65_1, L_65_2, L_65_3, L_65_4, C_65, L_66_0, L_66_1, L_66_2, L_66_3, C_66, L_129_0, L_129_1, L_129_2, L_129_3, C_129, L_198_0, L_198_1, L_198_2, L_198_3, L_198_4, L_198_5, L_198_6, L_198_7, L_198_8, L_198_9, L_198_10, L_198_11, L_198_12, L_198_13, L_198_14, L_198_15, L_198_16, L_198_17, L_198_18, L_198_19, L_198_20, L_198_21, L_198_22, L_198_23, L_198_24, L_198_25, L_198_26, L_198_27, L_198_28, L_198_29, L_198_30, L_198_31, L_198_32, L_198_33, L_198_34, L_198_35, L_198_36, L_198_37, L_198_38, L_198_39, L_198_40, L_198_41, L_198_42, L_198_43, L_198_44, L_198_45, L_198_46, L_198_47, L_198_48, C_198, A_199, A_200, A_201, A_202, A_203, A_204, A_205, A_206, A_207, A_208, A_209, A_210, A_211, A_212, A_213, A_214, A_215, A_216, A_217, A_218, A_219, A_220, A_221, A_222, A_223, A_224, A_225, A_226, A_227, A_228, A_128, A_191, A_rf, A_rs, A_rt, Q_4, Q_67, Q_130, t_87_2_1, t_87_2_2, t_87_24_1, t_87_24_2, t_87_24_3, t_87_24_4, t_87_24_5, t_87_24_6, M_0_8, M_0_9, M_0_10, M_0_11, M_0_12, M_0_13, M_0_14, M_0_15, M_1_0, M_1_1, M_1_2, M_2_0, M_2_1, M_2_2, M_3_0, M_3_1, M_3_2, M_65_0, M_65_1, M_65_2, M_65_3, M_65_4, M_66_2, M_129_2, M_198_0, M_198_1, M_198_2, M_198_3, M_198_4, M_198_5, M_198_7, M_198_17, M_198_18, M_198_28, M_198_31, M_198_32, M_198_33, M_198_36, M_198_37, M_198_38, M_198_39, M_198_41, M_198_48, S_199, S_200, S_201, S_202, S_203, S_204, S_205, S_206, S_207, S_208, S_209, S_210, S_211, S_212, S_213, S_214, S_215, S_216, S_217, S_218, S_219, S_220, S_221, S_222, S_223, S_224, S_225, S_226, S_227, S_228, S_128, S_191, S_rf, S_rs, S_rt, st_sA, ih]
theorem w_87 (hd : 1 ≤ d) : gCa K d 87 [.ref (N + 198)] (hH K N G B0) = some (.inl none, hH K N G (emB B0)) := by
  obtain ⟨d, rfl, hd'⟩ := d_succ hd
  have := l_87_1 (K := K) (d := d) (N := N) (G := G) (B0 := B0) 720 0 (by omega) (by omega)
  rw [show (0 : Int).toNat = 0 from rfl, fill_0, st_self] at this
  refine c_87 _ ?_
  unfold t_87_0
  simp only [I_lit, I_neg, I_add, I_sub, I_mul, I_ltT, I_ltF, I_leT, I_leF, I_eqT, I_eqF, c_int, c_long, c_obj, c_arr, c_bool, c_boolN, c_boolF, vn_bool, c_charN, vn_char, b2_f, b2_t]
  exact this
theorem l_11 : ∀ (n : Nat) (z y : Int), 0 ≤ z → z + n = 720 →
    gRn K d 11 12 [some (.ref (N + 198)), some (.int (I y)), some (.int (I z))] [] (hH K N G (stA B0 199 (fill (B0.2.1 199) 0 z.toNat))) = some (.inl (some (.int (I y))), hH K N G (sI (stA B0 199 (fill (B0.2.1 199) 0 720)) 198 5 0)) := by
  intro n
  induction n with
  | zero =>
    intro z y hz hn
    rw [show z.toNat = 720 by omega]
    refine e_11_12 _ ?_
    unfold t_11_12
    simp (disch := omega) only [rI_d, rJ_d, rR_d, rN_d, wF_d, xI_d, xJ_d, xD_d, xQ_d, yI_d, yJ_d, yD_d, yQ_d, dI_s, dJ_s, dR_s, dN_s, dN_n, dH_s, dX_s, dL_s, dD_s, dQ_s, bC_r, bC_t, kI_s, kJ_s, kF_s, kD_s, kR_s, kV_s, I_lit, I_neg, I_add, I_sub, I_mul, I_ltT, I_ltF, I_leT, I_leF, I_eqT, I_eqF, c_int, c_long, c_obj, c_arr, c_bool, c_boolN, c_boolF, vn_bool, c_charN, vn_char, b2_f, b2_t, Int.toNat_natCast, ↓reduceIte, eq_self, and_self, and_true, true_and, not_false_eq_true, not_true_eq_false, L_0_0, L_0_1, L_0_2, L_0_3, L_0_4, L_0_5, L_0_6, L_0_7, L_0_8, L_0_9, L_0_10, L_0_11, L_0_12, L_0_13, L_0_14, L_0_15, C_0, L_1_0, L_1_1, L_1_2, C_1, L_2_0, L_2_1, L_2_2, C_2, L_3_0, L_3_1, L_3_2, C_3, L_65_0, L_65_1, L_65_2, L_65_3, L_65_4, C_65, L_66_0, L_66_1, L_66_2, L_66_3, C_66, L_129_0, L_129_1, L_129_2, L_129_3, C_129, L_198_0, L_198_1, L_198_2, L_198_3, L_198_4, L_198_5, L_198_6, L_198_7, L_198_8, L_198_9, L_198_10, L_198_11, L_198_12, L_198_13, L_198_14, L_198_15, L_198_16, L_198_17, L_198_18, L_198_19, L_198_20, L_198_21, L_198_22, L_198_23, L_198_24, L_198_25, L_198_26, L_198_27, L_198_28, L_198_29, L_198_30, L_198_31, L_198_32, L_198_33, L_198_34, L_198_35, L_198_36, L_198_37, L_198_38, L_198_39, L_198_40, L_198_41, L_198_42, L_198_43, L_198_44, L_198_45, L_198_46, L_198_47, L_198_48, C_198, A_199, A_200, A_201, A_202, A_203, A_204, A_205, A_206, A_207, A_208, A_209, A_210, A_211, A_212, A_213, A_214, A_215, A_216, A_217, A_218, A_219, A_220, A_221, A_222, A_223, A_224, A_225, A_226, A_227, A_228, A_128, A_191, A_rf, A_rs, A_rt, Q_4, Q_67, Q_130, t_11_0_1, t_11_0_2, t_11_12_1, t_11_12_2, t_11_12_3, M_0_8, M_0_9, M_0_10, M_0_11, M_0_12, M_0_13, M_0_14, M_0_15, M_1_0, M_1_1, M_1_2, M_2_0, M_2_1, M_2_2, M_3_0, M_3_1, M_3_2, M_65_0, M_65_1, M_65_2, M_65_3, M_65_4, M_66_2, M_129_2, M_198_0, M_198_1, M_198_2, M_198_3, M_198_4, M_198_5, M_198_7, M_198_17, M_198_18, M_198_28, M_198_31, M_198_32, M_198_33, M_198_36, M_198_37, M_198_38, M_198_39, M_198_41, M_198_48, S_199, S_200, S_201, S_202, S_203, S_204, S_205, S_206, S_207, S_208, S_209, S_210, S_211, S_212, S_213, S_214, S_215, S_216, S_217, S_218, S_219, S_220, S_221, S_222, S_223, S_224, S_225, S_226, S_227, S_228, S_128, S_191, S_rf, S_rs, S_rt]
  | succ n ih =>
    intro z y hz hn
    have ih := ih (z + 1) y (by omega) (by omega)
    rw [show (z + 1).toNat = z.toNat + 1 by omega, fill_succ] at ih
    refine e_11_12 _ ?_
    unfold t_11_12
    simp (disch := omega) only [rI_d, rJ_d, rR_d, rN_d, wF_d, xI_d, xJ_d, xD_d, xQ_d, yI_d, yJ_d, yD_d, yQ_d, dI_s, dJ_s, dR_s, dN_s, dN_n, dH_s, dX_s, dL_s, dD_s, dQ_s, bC_r, bC_t, kI_s, kJ_s, kF_s, kD_s, kR_s, kV_s, I_lit, I_neg, I_add, I_sub, I_mul, I_ltT, I_ltF, I_leT, I_leF, I_eqT, I_eqF, c_int, c_long, c_obj, c_arr, c_bool, c_boolN, c_boolF, vn_bool, c_charN, vn_char, b2_f, b2_t, Int.toNat_natCast, ↓reduceIte, eq_self, and_self, and_true, true_and, not_false_eq_true, not_true_eq_false, L_0_0, L_0_1, L_0_2, L_0_3, L_0_4, L_0_5, L_0_6, L_0_7, L_0_8, L_0_9, L_0_10, L_0_11, L_0_12, L_0_13, L_0_14, L_0_15, C_0, L_1_0, L_1_1, L_1_2, C_1, L_2_0, L_2_1, L_2_2, C_2, L_3_0, L_3_1, L_3_2, C_3, L_65_0, L_65_1, L_65_2, L_65_3, L_65_4, C_65, L_66_0, L_66_1, L_66_2, L_66_3, C_66, L_129_0, L_129_1, L_129_2, L_129_3, C_129, L_198_0, L_198_1, L_198_2, L_198_3, L_198_4, L_198_5, L_198_6, L_198_7, L_198_8, L_198_9, L_198_10, L_198_11, L_198_12, L_198_13, L_198_14, L_198_15, L_198_16, L_198_17, L_198_18, L_198_19, L_198_20, L_198_21, L_198_22, L_198_23, L_198_24, L_198_25, L_198_26, L_198_27, L_198_28, L_198_29, L_198_30, L_198_31, L_198_32, L_198_33, L_198_34, L_198_35, L_198_36, L_198_37, L_198_38, L_198_39, L_198_40, L_198_41, L_198_42, L_198_43, L_198_44, L_198_45, L_198_46, L_198_47, L_198_48, C_198, A_199, A_200, A_201, A_202, A_203, A_204, A_205, A_206, A_207, A_208, A_209, A_210, A_211, A_212, A_213, A_214, A_215, A_216, A_217, A_218, A_219, A_220, A_221, A_222, A_223, A_224, A_225, A_226, A_227, A_228, A_128, A_191, A_rf, A_rs, A_rt, Q_4, Q_67, Q_130, t_11_0_1, t_11_0_2, t_11_12_1, t_11_12_2, t_11_12_3, M_0_8, M_0_9, M_0_10, M_0_11, M_0_12, M_0_13, M_0_14, M_0_15, M_1_0, M_1_1, M_1_2, M_2_0, M_2_1, M_2_2, M_3_0, M_3_1, M_3_2, M_65_0, M_65_1, M_65_2, M_65_3, M_65_4, M_66_2, M_129_2, M_198_0, M_198_1, M_198_2, M_198_3, M_198_4, M_198_5, M_198_7, M_198_17, M_198_18, M_198_28, M_198_31, M_198_32, M_198_33, M_198_36, M_198_37, M_198_38, M_198_39, M_198_41, M_198_48, S_199, S_200, S_201, S_202, S_203, S_204, S_205, S_206, S_207, S_208, S_209, S_210, S_211, S_212, S_213, S_214, S_215, S_216, S_217, S_218, S_219, S_220, S_221, S_222, S_223, S_224, S_225, S_226, S_227, S_228, S_128, S_191, S_rf, S_rs, S_rt, st_sA, ih]
theorem w_11 (hd : 1 ≤ d) : gCa K d 11 [.ref (N + 198)] (hH K N G B0) = some (.inl (some (.int (I ((B0.1 198 5))))), hH K N G (sI (stA (sI B0 198 0 0) 199 (fill (B0.2.1 199) 0 720)) 198 5 0)) := by
  obtain ⟨d, rfl, hd'⟩ := d_succ hd
  have := l_11 (K := K) (d := d) (N := N) (G := G) (B0 := sI B0 198 0 0) 720 0 ((B0.1 198 5)) (by omega) (by omega)
  rw [show (0 : Int).toNat = 0 from rfl, fill_0, st_self] at this
  refine c_11 _ ?_
  unfold t_11_0
  simp (disch := omega) only [rI_d, rJ_d, rR_d, rN_d, wF_d, xI_d, xJ_d, xD_d, xQ_d, yI_d, yJ_d, yD_d, yQ_d, dI_s, dJ_s, dR_s, dN_s, dN_n, dH_s, dX_s, dL_s, dD_s, dQ_s, bC_r, bC_t, kI_s, kJ_s, kF_s, kD_s, kR_s, kV_s, I_lit, I_neg, I_add, I_sub, I_mul, I_ltT, I_ltF, I_leT, I_leF, I_eqT, I_eqF, c_int, c_long, c_obj, c_arr, c_bool, c_boolN, c_boolF, vn_bool, c_charN, vn_char, b2_f, b2_t, Int.toNat_natCast, ↓reduceIte, eq_self, and_self, and_true, true_and, not_false_eq_true, not_true_eq_false, L_0_0, L_0_1, L_0_2, L_0_3, L_0_4, L_0_5, L_0_6, L_0_7, L_0_8, L_0_9, L_0_10, L_0_11, L_0_12, L_0_13, L_0_14, L_0_15, C_0, L_1_0, L_1_1, L_1_2, C_1, L_2_0, L_2_1, L_2_2, C_2, L_3_0, L_3_1, L_3_2, C_3, L_65_0, L_65_1, L_65_2, L_65_3, L_65_4, C_65, L_66_0, L_66_1, L_66_2, L_66_3, C_66, L_129_0, L_129_1, L_129_2, L_129_3, C_129, L_198_0, L_198_1, L_198_2, L_198_3, L_198_4, L_198_5, L_198_6, L_198_7, L_198_8, L_198_9, L_198_10, L_198_11, L_198_12, L_198_13, L_198_14, L_198_15, L_198_16, L_198_17, L_198_18, L_198_19, L_198_20, L_198_21, L_198_22, L_198_23, L_198_24, L_198_25, L_198_26, L_198_27, L_198_28, L_198_29, L_198_30, L_198_31, L_198_32, L_198_33, L_198_34, L_198_35, L_198_36, L_198_37, L_198_38, L_198_39, L_198_40, L_198_41, L_198_42, L_198_43, L_198_44, L_198_45, L_198_46, L_198_47, L_198_48, C_198, A_199, A_200, A_201, A_202, A_203, A_204, A_205, A_206, A_207, A_208, A_209, A_210, A_211, A_212, A_213, A_214, A_215, A_216, A_217, A_218, A_219, A_220, A_221, A_222, A_223, A_224, A_225, A_226, A_227, A_228, A_128, A_191, A_rf, A_rs, A_rt, Q_4, Q_67, Q_130, t_11_0_1, t_11_0_2, t_11_12_1, t_11_12_2, t_11_12_3, M_0_8, M_0_9, M_0_10, M_0_11, M_0_12, M_0_13, M_0_14, M_0_15, M_1_0, M_1_1, M_1_2, M_2_0, M_2_1, M_2_2, M_3_0, M_3_1, M_3_2, M_65_0, M_65_1, M_65_2, M_65_3, M_65_4, M_66_2, M_129_2, M_198_0, M_198_1, M_198_2, M_198_3, M_198_4, M_198_5, M_198_7, M_198_17, M_198_18, M_198_28, M_198_31, M_198_32, M_198_33, M_198_36, M_198_37, M_198_38, M_198_39, M_198_41, M_198_48, S_199, S_200, S_201, S_202, S_203, S_204, S_205, S_206, S_207, S_208, S_209, S_210, S_211, S_212, S_213, S_214, S_215, S_216, S_217, S_218, S_219, S_220, S_221, S_222, S_223, S_224, S_225, S_226, S_227, S_228, S_128, S_191, S_rf, S_rs, S_rt, sI_eq, sI_ne, sI_21, sI_22, sA_eq, sA_ne, sA_1, sA_3]
  exact this
end
