/-! PURE 25: the model's least length -/
set_option maxRecDepth 100000
theorem Perm_nil {u : List Nat} (h : u.Perm []) : u = [] := h.eq_nil
section
variable {K : gK} {d N : Nat} {G : gH}
theorem tr_all : ∀ (n d : Nat), 7 + n ≤ d → TR K N G n d := by
  intro n
  induction n with
  | zero =>
    intro d hd x B hx hlen hbq hT hmy hnx
    obtain ⟨d, rfl, hd'⟩ := d_succ (show 6 + 1 ≤ d by omega)
    have hb0 : bs x = [] := List.length_eq_zero_iff.mp hlen
    have hx0 := bit_4 ⟨x, hx⟩ hb0
    dsimp only at hx0
    subst hx0
    have hw := hT.1.1
    have w1 := w_109 (K := K) (d := d) (N := N) (G := G) (by omega) hw
    have hl := lng_b (B.2.1 215)
    have hls := mw_least hw
    have best : ∀ a, a = (if lng (B.2.1 215) < (B.1 198 48) then lng (B.2.1 215) else (B.1 198 48)) → Best B (fun u => u.Perm (bs 0)) ((B.1 198 48)) a := by
      intro a ha
      have er : runL (tw B) (dl (tw B)) (tS B) (([] : List Nat).map (B.2.1 222)) = some (tS B) := rfl
      have el : tlen (tS B) = lng (B.2.1 215) := lng_nz
      refine ⟨by split at ha <;> omega, fun u τ hu hr => ?_, ?_⟩
      · rw [hb0] at hu
        rw [Perm_nil hu, er] at hr
        cases hr
        rw [el]
        split at ha <;> omega
      · by_cases e : lng (B.2.1 215) < (B.1 198 48)
        · rw [if_pos e] at ha
          exact Or.inr ⟨[], tS B, by rw [hb0], er, by rw [ha, el]⟩
        · rw [if_neg e] at ha
          exact Or.inl ha
    refine ⟨sI B 198 48 (if lng (B.2.1 215) < (B.1 198 48) then lng (B.2.1 215) else (B.1 198 48)), c_186 _ ?_, TQ.ls, ms_least hw (by split <;> omega), ?_⟩
    · unfold t_186_0
      by_cases e : lng (B.2.1 215) < (B.1 198 48)
      · rw [if_pos e]
        simp (disch := omega) only [rI_d, rJ_d, rR_d, rN_d, wF_d, xI_d, xJ_d, xD_d, xQ_d, yI_d, yJ_d, yD_d, yQ_d, dI_s, dJ_s, dR_s, dN_s, dN_n, dH_s, dX_s, dL_s, dD_s, dQ_s, bC_r, bC_t, kI_s, kJ_s, kF_s, kD_s, kR_s, kV_s, I_lit, I_neg, I_add, I_sub, I_mul, I_ltT, I_ltF, I_leT, I_leF, I_eqT, I_eqF, c_int, c_long, c_obj, c_arr, c_bool, c_boolN, c_boolF, vn_bool, c_charN, vn_char, b2_f, b2_t, Int.toNat_natCast, ↓reduceIte, eq_self, and_self, and_true, true_and, not_false_eq_true, not_true_eq_false, L_0_0, L_0_1, L_0_2, L_0_3, L_0_4, L_0_5, L_0_6, L_0_7, L_0_8, L_0_9, L_0_10, L_0_11, L_0_12, L_0_13, L_0_14, L_0_15, C_0, L_1_0, L_1_1, L_1_2, C_1, L_2_0, L_2_1, L_2_2, C_2, L_3_0, L_3_1, L_3_2, C_3, L_65_0, L_65_1, L_65_2, L_65_3, L_65_4, C_65, L_66_0, L_66_1, L_66_2, L_66_3, C_66, L_129_0, L_129_1, L_129_2, L_129_3, C_129, L_198_0, L_198_1, L_198_2, L_198_3, L_198_4, L_198_5, L_198_6, L_198_7, L_198_8, L_198_9, L_198_10, L_198_11, L_198_12, L_198_13, L_198_14, L_198_15, L_198_16, L_198_17, L_198_18, L_198_19, L_198_20, L_198_21, L_198_22, L_198_23, L_198_24, L_198_25, L_198_26, L_198_27, L_198_28, L_198_29, L_198_30, L_198_31, L_198_32, L_198_33, L_198_34, L_198_35, L_198_36, L_198_37, L_198_38, L_198_39, L_198_40, L_198_41, L_198_42, L_198_43, L_198_44, L_198_45, L_198_46, L_198_47, L_198_48, C_198, A_199, A_200, A_201, A_202, A_203, A_204, A_205, A_206, A_207, A_208, A_209, A_210, A_211, A_212, A_213, A_214, A_215, A_216, A_217, A_218, A_219, A_220, A_221, A_222, A_223, A_224, A_225, A_226, A_227, A_228, A_128, A_191, A_rf, A_rs, A_rt, Q_4, Q_67, Q_130, t_186_0_1, t_186_0_2, t_186_0_3, t_186_0_4, t_186_0_5, t_186_32_1, t_186_32_2, t_186_32_3, t_186_32_4, t_186_32_5, t_186_32_6, t_186_32_7, t_186_32_8, t_186_32_9, t_186_32_10, t_186_32_11, t_186_32_12, t_186_32_13, t_186_32_14, t_186_32_15, t_186_32_16, t_186_32_17, t_186_32_18, t_186_32_19, t_186_32_20, t_186_32_21, t_186_32_22, t_186_32_23, t_186_32_24, t_186_32_25, t_186_32_26, t_186_32_27, t_186_32_28, t_186_32_29, t_186_32_30, t_186_32_31, t_186_32_32, t_186_32_33, t_186_32_34, t_186_32_35, t_186_32_36, t_186_32_37, t_186_32_38, t_186_32_39, t_186_32_40, t_186_32_41, t_186_32_42, t_186_32_43, t_186_32_44, t_186_32_45, M_0_8, M_0_9, M_0_10, M_0_11, M_0_12, M_0_13, M_0_14, M_0_15, M_1_0, M_1_1, M_1_2, M_2_0, M_2_1, M_2_2, M_3_0, M_3_1, M_3_2, M_65_0, M_65_1, M_65_2, M_65_3, M_65_4, M_66_2, M_129_2, M_198_0, M_198_1, M_198_2, M_198_3, M_198_4, M_198_5, M_198_7, M_198_17, M_198_18, M_198_28, M_198_31, M_198_32, M_198_33, M_198_36, M_198_37, M_198_38, M_198_39, M_198_41, M_198_48, S_199, S_200, S_201, S_202, S_203, S_204, S_205, S_206, S_207, S_208, S_209, S_210, S_211, S_212, S_213, S_214, S_215, S_216, S_217, S_218, S_219, S_220, S_221, S_222, S_223, S_224, S_225, S_226, S_227, S_228, S_128, S_191, S_rf, S_rs, S_rt, Int.ofNat_zero, show ((0 : Nat) : Int) = 0 from rfl, w1]
      · rw [if_neg e]
        simp (disch := omega) only [rI_d, rJ_d, rR_d, rN_d, wF_d, xI_d, xJ_d, xD_d, xQ_d, yI_d, yJ_d, yD_d, yQ_d, dI_s, dJ_s, dR_s, dN_s, dN_n, dH_s, dX_s, dL_s, dD_s, dQ_s, bC_r, bC_t, kI_s, kJ_s, kF_s, kD_s, kR_s, kV_s, I_lit, I_neg, I_add, I_sub, I_mul, I_ltT, I_ltF, I_leT, I_leF, I_eqT, I_eqF, c_int, c_long, c_obj, c_arr, c_bool, c_boolN, c_boolF, vn_bool, c_charN, vn_char, b2_f, b2_t, Int.toNat_natCast, ↓reduceIte, eq_self, and_self, and_true, true_and, not_false_eq_true, not_true_eq_false, L_0_0, L_0_1, L_0_2, L_0_3, L_0_4, L_0_5, L_0_6, L_0_7, L_0_8, L_0_9, L_0_10, L_0_11, L_0_12, L_0_13, L_0_14, L_0_15, C_0, L_1_0, L_1_1, L_1_2, C_1, L_2_0, L_2_1, L_2_2, C_2, L_3_0, L_3_1, L_3_2, C_3, L_65_0, L_65_1, L_65_2, L_65_3, L_65_4, C_65, L_66_0, L_66_1, L_66_2, L_66_3, C_66, L_129_0, L_129_1, L_129_2, L_129_3, C_129, L_198_0, L_198_1, L_198_2, L_198_3, L_198_4, L_198_5, L_198_6, L_198_7, L_198_8, L_198_9, L_198_10, L_198_11, L_198_12, L_198_13, L_198_14, L_198_15, L_198_16, L_198_17, L_198_18, L_198_19, L_198_20, L_198_21, L_198_22, L_198_23, L_198_24, L_198_25, L_198_26, L_198_27, L_198_28, L_198_29, L_198_30, L_198_31, L_198_32, L_198_33, L_198_34, L_198_35, L_198_36, L_198_37, L_198_38, L_198_39, L_198_40, L_198_41, L_198_42, L_198_43, L_198_44, L_198_45, L_198_46, L_198_47, L_198_48, C_198, A_199, A_200, A_201, A_202, A_203, A_204, A_205, A_206, A_207, A_208, A_209, A_210, A_211, A_212, A_213, A_214, A_215, A_216, A_217, A_218, A_219, A_220, A_221, A_222, A_223, A_224, A_225, A_226, A_227, A_228, A_128, A_191, A_rf, A_rs, A_rt, Q_4, Q_67, Q_130, t_186_0_1, t_186_0_2, t_186_0_3, t_186_0_4, t_186_0_5, t_186_32_1, t_186_32_2, t_186_32_3, t_186_32_4, t_186_32_5, t_186_32_6, t_186_32_7, t_186_32_8, t_186_32_9, t_186_32_10, t_186_32_11, t_186_32_12, t_186_32_13, t_186_32_14, t_186_32_15, t_186_32_16, t_186_32_17, t_186_32_18, t_186_32_19, t_186_32_20, t_186_32_21, t_186_32_22, t_186_32_23, t_186_32_24, t_186_32_25, t_186_32_26, t_186_32_27, t_186_32_28, t_186_32_29, t_186_32_30, t_186_32_31, t_186_32_32, t_186_32_33, t_186_32_34, t_186_32_35, t_186_32_36, t_186_32_37, t_186_32_38, t_186_32_39, t_186_32_40, t_186_32_41, t_186_32_42, t_186_32_43, t_186_32_44, t_186_32_45, M_0_8, M_0_9, M_0_10, M_0_11, M_0_12, M_0_13, M_0_14, M_0_15, M_1_0, M_1_1, M_1_2, M_2_0, M_2_1, M_2_2, M_3_0, M_3_1, M_3_2, M_65_0, M_65_1, M_65_2, M_65_3, M_65_4, M_66_2, M_129_2, M_198_0, M_198_1, M_198_2, M_198_3, M_198_4, M_198_5, M_198_7, M_198_17, M_198_18, M_198_28, M_198_31, M_198_32, M_198_33, M_198_36, M_198_37, M_198_38, M_198_39, M_198_41, M_198_48, S_199, S_200, S_201, S_202, S_203, S_204, S_205, S_206, S_207, S_208, S_209, S_210, S_211, S_212, S_213, S_214, S_215, S_216, S_217, S_218, S_219, S_220, S_221, S_222, S_223, S_224, S_225, S_226, S_227, S_228, S_128, S_191, S_rf, S_rs, S_rt, Int.ofNat_zero, show ((0 : Nat) : Int) = 0 from rfl, w1]
    · rw [sI_eq rfl]
      exact best _ rfl
  | succ n ih =>
    intro d hd x B hx hlen hbq hT hmy hnx
    obtain ⟨d, rfl, hd'⟩ := d_succ (show (7 + n) + 1 ≤ d by omega)
    have hqd := mw_queued hT.1.1
    obtain ⟨B', h1, h2⟩ := l_186 (K := K) (N := N) (G := G) (by omega) (ih d (by omega)) hx hlen hbq hT (by omega) (by omega) ((B.1 198 41)).toNat 0 B none (by omega) (by omega) TQ.rf hT.1.1 ⟨Int.le_refl _, fun u τ hu hr => by
      obtain ⟨-, k, u', -, hk⟩ := hu
      omega, Or.inl rfl⟩
    refine ⟨B', c_186 _ ?_, h2⟩
    have hx0 : x ≠ 0 := by
      rintro rfl
      cases hlen
    unfold t_186_0
    simp (disch := omega) only [rI_d, rJ_d, rR_d, rN_d, wF_d, xI_d, xJ_d, xD_d, xQ_d, yI_d, yJ_d, yD_d, yQ_d, dI_s, dJ_s, dR_s, dN_s, dN_n, dH_s, dX_s, dL_s, dD_s, dQ_s, bC_r, bC_t, kI_s, kJ_s, kF_s, kD_s, kR_s, kV_s, I_lit, I_neg, I_add, I_sub, I_mul, I_ltT, I_ltF, I_leT, I_leF, I_eqT, I_eqF, c_int, c_long, c_obj, c_arr, c_bool, c_boolN, c_boolF, vn_bool, c_charN, vn_char, b2_f, b2_t, Int.toNat_natCast, ↓reduceIte, eq_self, and_self, and_true, true_and, not_false_eq_true, not_true_eq_false, L_0_0, L_0_1, L_0_2, L_0_3, L_0_4, L_0_5, L_0_6, L_0_7, L_0_8, L_0_9, L_0_10, L_0_11, L_0_12, L_0_13, L_0_14, L_0_15, C_0, L_1_0, L_1_1, L_1_2, C_1, L_2_0, L_2_1, L_2_2, C_2, L_3_0, L_3_1, L_3_2, C_3, L_65_0, L_65_1, L_65_2, L_65_3, L_65_4, C_65, L_66_0, L_66_1, L_66_2, L_66_3, C_66, L_129_0, L_129_1, L_129_2, L_129_3, C_129, L_198_0, L_198_1, L_198_2, L_198_3, L_198_4, L_198_5, L_198_6, L_198_7, L_198_8, L_198_9, L_198_10, L_198_11, L_198_12, L_198_13, L_198_14, L_198_15, L_198_16, L_198_17, L_198_18, L_198_19, L_198_20, L_198_21, L_198_22, L_198_23, L_198_24, L_198_25, L_198_26, L_198_27, L_198_28, L_198_29, L_198_30, L_198_31, L_198_32, L_198_33, L_198_34, L_198_35, L_198_36, L_198_37, L_198_38, L_198_39, L_198_40, L_198_41, L_198_42, L_198_43, L_198_44, L_198_45, L_198_46, L_198_47, L_198_48, C_198, A_199, A_200, A_201, A_202, A_203, A_204, A_205, A_206, A_207, A_208, A_209, A_210, A_211, A_212, A_213, A_214, A_215, A_216, A_217, A_218, A_219, A_220, A_221, A_222, A_223, A_224, A_225, A_226, A_227, A_228, A_128, A_191, A_rf, A_rs, A_rt, Q_4, Q_67, Q_130, t_186_0_1, t_186_0_2, t_186_0_3, t_186_0_4, t_186_0_5, t_186_32_1, t_186_32_2, t_186_32_3, t_186_32_4, t_186_32_5, t_186_32_6, t_186_32_7, t_186_32_8, t_186_32_9, t_186_32_10, t_186_32_11, t_186_32_12, t_186_32_13, t_186_32_14, t_186_32_15, t_186_32_16, t_186_32_17, t_186_32_18, t_186_32_19, t_186_32_20, t_186_32_21, t_186_32_22, t_186_32_23, t_186_32_24, t_186_32_25, t_186_32_26, t_186_32_27, t_186_32_28, t_186_32_29, t_186_32_30, t_186_32_31, t_186_32_32, t_186_32_33, t_186_32_34, t_186_32_35, t_186_32_36, t_186_32_37, t_186_32_38, t_186_32_39, t_186_32_40, t_186_32_41, t_186_32_42, t_186_32_43, t_186_32_44, t_186_32_45]
    exact h1
end
abbrev pL (M : gM) (i : Nat) : List Nat := dl M (M.2 210 i).toNat
/-- the cloth laid anew with the first n pieces -/
noncomputable def reC (M : gM) : Nat → Nat → Int
  | 0 => fill (fun _ => 0) (-1) 720
  | n + 1 => putC (reC M n) (pL M n) (M.2 213 n) (M.2 214 n) (M.2 211 n) (M.2 212 n) (M.2 209 n) (pL M n)
noncomputable def reR (M : gM) : Nat → Nat → Int
  | 0 => fun _ => -1
  | n + 1 => fun g => cif (marked M (M.2 210 n).toNat ∧ g = (M.2 204 (M.2 210 n).toNat).toNat) (rem M (M.2 211 n + mb M (M.2 210 n).toNat (pL M n) (M.2 213 n) (M.2 214 n))) (reR M n g)
noncomputable def reO (M : gM) : Nat → Nat → Int
  | 0 => fun _ => 0
  | n + 1 => fun g => cif (marked M (M.2 210 n).toNat ∧ g = (M.2 204 (M.2 210 n).toNat).toNat) (reO M n g + 1) (reO M n g)
/-- a piece of the marker lies well -/
def PI (M : gM) (i : Nat) : Prop := ins M (pL M i) (M.2 213 i) (M.2 214 i) (M.2 211 i) (M.2 212 i) ∧ ¬ onP (reC M i) (pL M i) (M.2 213 i) (M.2 214 i) (M.2 211 i) (M.2 212 i) ∧ meets M (reR M i) (M.2 210 i).toNat (pL M i) (M.2 213 i) (M.2 214 i) (M.2 211 i) ∧ M.2 209 i < (M.1 18) ∧ (∀ j, j < i → M.2 209 j < M.2 209 i) ∧ pL M i ≠ []
/-- the marker and its cloth -/
def GI (B : gB) : Prop := B.2.1 215 = reC (tw B) ((B.1 198 17)).toNat ∧ rmT (tw B) = reR (tw B) ((B.1 198 17)).toNat ∧ B.2.1 217 = reO (tw B) ((B.1 198 17)).toNat ∧ ∀ i : Nat, (i : Int) < (B.1 198 17) → PI (tw B) i
theorem reO_b {M : gM} : ∀ n g, 0 ≤ reO M n g ∧ reO M n g ≤ n
  | 0, g => by simp only [reO]; omega
  | n + 1, g => by
    have := reO_b (M := M) n g
    unfold reO
    by_cases e : marked M (M.2 210 n).toNat ∧ g = (M.2 204 (M.2 210 n).toNat).toNat
    · rw [cifT e]; omega
    · rw [cifF e]; omega
theorem reC_lt {M : gM} {v : Int} (hv : 0 < v) : ∀ n, (∀ i, i < n → M.2 209 i < v) → ∀ q, reC M n q < v
  | 0, _, q => by
    simp only [reC, fill]
    split <;> omega
  | n + 1, h, q => by
    have := reC_lt hv n (fun i hi => h i (by omega)) q
    have h2 := h n (by omega)
    unfold reC putC
    by_cases e : ∃ k ∈ pL M n, q = (12 * (M.2 211 n + oR (pL M n) (M.2 213 n) (M.2 214 n) k) + (M.2 212 n + oC (pL M n) (M.2 213 n) (M.2 214 n) k)).toNat
    · rw [cifT e]; exact h2
    · rw [cifF e]; exact this
/-- these depend on the pieces that are there alone -/
theorem re_c {M M' : gM} (h : nsQ M' = nsQ M) : ∀ n, (∀ i, i < n → M'.2 209 i = M.2 209 i ∧ M'.2 210 i = M.2 210 i ∧ M'.2 211 i = M.2 211 i ∧ M'.2 212 i = M.2 212 i ∧ M'.2 213 i = M.2 213 i ∧ M'.2 214 i = M.2 214 i) → reC M' n = reC M n ∧ reR M' n = reR M n ∧ reO M' n = reO M n
  | 0, _ => ⟨rfl, rfl, rfl⟩
  | n + 1, hi => by
    obtain ⟨h1, h2, h3⟩ := re_c h n (fun i q => hi i (by omega))
    obtain ⟨e1, e2, e3, e4, e5, e6⟩ := hi n (by omega)
    have hD : ∀ s, dl M' s = dl M s := fun s => qf (fun M => dl M s) (fun _ => rfl) h
    have hM : ∀ s, marked M' s = marked M s := fun s => qf (fun M => marked M s) (fun _ => rfl) h
    have hG : M'.2 204 = M.2 204 := qf (fun M => M.2 204) (fun _ => rfl) h
    have hR : ∀ x, rem M' x = rem M x := fun x => qf (fun M => rem M x) (fun _ => rfl) h
    have hB : ∀ s l t m, mb M' s l t m = mb M s l t m := fun s l t m => qf (fun M => mb M s l t m) (fun _ => rfl) h
    refine ⟨?_, ?_, ?_⟩
    · simp only [reC, pL, h1, e1, e2, e3, e4, e5, e6, hD]
    · funext g
      simp only [reR, pL, h2, e1, e2, e3, e4, e5, e6, hD, hM, hG, hR, hB]
    · funext g
      simp only [reO, h3, e1, e2, e3, e4, e5, e6, hM, hG]
