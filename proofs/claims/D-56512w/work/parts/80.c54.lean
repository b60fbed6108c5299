/-! PURE 93: pliesFor -/
set_option maxRecDepth 100000
section
theorem fst1_none {P : Nat → Prop} : ∀ (n k : Nat), fst1 P k n = none → ∀ j, k ≤ j → j < k + n → ¬ P j
  | 0, k, _, j, h1, h2 => by omega
  | n + 1, k, h, j, h1, h2 => by
    unfold fst1 at h
    by_cases e : P k
    · rw [cifT e] at h; cases h
    · rw [cifF e] at h
      by_cases z : j = k
      · rw [z]; exact e
      · exact fst1_none n (k + 1) h j (by omega) (by omega)
theorem fst1_all {P : Nat → Prop} : ∀ (n k : Nat), (∀ j, k ≤ j → j < k + n → ¬ P j) → fst1 P k n = none
  | 0, k, _ => rfl
  | n + 1, k, h => by
    unfold fst1
    rw [cifF (h k (by omega) (by omega))]
    exact fst1_all n (k + 1) (fun j h1 h2 => h j (by omega) (by omega))
theorem fst1_more {P : Nat → Prop} : ∀ (n m k j : Nat), fst1 P k n = some j → n ≤ m → fst1 P k m = some j
  | 0, m, k, j, h, _ => by cases h
  | n + 1, 0, k, j, h, hm => by omega
  | n + 1, m + 1, k, j, h, hm => by
    unfold fst1 at h ⊢
    by_cases e : P k
    · rw [cifT e] at h ⊢; exact h
    · rw [cifF e] at h ⊢
      exact fst1_more n m (k + 1) j h (by omega)
variable {K : gK} {d N : Nat} {G G' : gH} {B B' B0 : gB} {M M' : gM} {ro : Nat → Nat} {sh st pc : List Nat} {cs : Nat → List Nat} {ps : Nat → List (Nat × Int)} {a i : Nat}
/-- four plies a garment are enough, if any number is -/
theorem mk_4 (hw : MW B) {n : Nat} {g p : Int} (hg : 1 ≤ g ∧ g ≤ 99) (hp : 0 ≤ p) (h : g ≤ mkP (tw B) (i : Int) p n) : g ≤ mkP (tw B) (i : Int) (4 * g) n := by
  rw [le_mkP] at h ⊢
  refine ⟨h.1, fun s hs hc => ?_⟩
  have bc := mw_count hw (8 * (i : Int) + (s : Int)).toNat
  obtain ⟨h1, h2⟩ := h.2 s hs hc
  have key : ∀ (x m : Int), 0 ≤ x → B.2.1 218 (8 * (i : Int) + (s : Int)).toNat * g ≤ x + p * gv (tw B) s m → B.2.1 218 (8 * (i : Int) + (s : Int)).toNat * g ≤ x + 4 * g * gv (tw B) s m := fun x m hx hy => by
    have bg := gv_b hw (s := (s : Int)) (m := m)
    by_cases z : gv (tw B) s m = 0
    · rw [z, Int.mul_zero] at hy ⊢
      exact hy
    · have e1 := Int.mul_le_mul_of_nonneg_right (show B.2.1 218 (8 * (i : Int) + (s : Int)).toNat ≤ 4 by omega) (show 0 ≤ g by omega)
      have e2 := Int.mul_le_mul_of_nonneg_left (show 1 ≤ gv (tw B) s m by omega) (show 0 ≤ 4 * g by omega)
      omega
  have t0 := mw_stock hw (2 * s)
  have t1 := mw_stock hw (2 * s + 1)
  exact ⟨key _ _ t0.1 h1, h2.imp_right (key _ _ t1.1)⟩
theorem pl_eq (hw : MW B) {g : Int} (hg : 1 ≤ g ∧ g ≤ 99) : fst1 (fun p => g ≤ mk (tw B) i (p : Int)) 0 (4 * g + 1).toNat = fst1 (fun p => g ≤ mk (tw B) i (p : Int)) 0 401 := by
  cases h : fst1 (fun p => g ≤ mk (tw B) i (p : Int)) 0 (4 * g + 1).toNat with
  | some j => exact (fst1_more _ _ _ _ h (by omega)).symm
  | none =>
    refine (fst1_all _ _ fun j h1 h2 hP => ?_).symm
    have := fst1_none _ _ h (4 * g).toNat (by omega) (by omega)
    refine this ?_
    show g ≤ mkP (tw B) (i : Int) (((4 * g).toNat : Nat) : Int) _
    rw [show (((4 * g).toNat : Nat) : Int) = 4 * g by omega]
    exact mk_4 hw hg (Int.natCast_nonneg j) hP
theorem l_141 (hd : 5 ≤ d) (hw : MW B) (hR : CR K N G B ro (tw B) sh st pc cs ps) (hi : st[i]? = some a) {s g : Int} (hg : 1 ≤ g ∧ g ≤ 99) : ∀ (n : Nat) (z : Int), 0 ≤ z → z + n = 4 * g + 1 → gRn K d 141 39 [some (.ref N), some (.int (I s)), some (.int (I g)), some (.ref a), some (.int (I z))] [] (hH K N G B) =
    some (cif (fst1 (fun p => g ≤ mk (tw B) i (p : Int)) z.toNat n ≠ none) (.inl (some (.int (I (((fst1 (fun p => g ≤ mk (tw B) i (p : Int)) z.toNat n).getD 0 : Nat) : Int)))), hH K N G B) (.inr 1, hH K N (gjunk G 6) B)) := by
  have T1 := w_151T (K := K) (d := d) (H := hH K N G B) (by omega)
  have F1 := w_151F (K := K) (d := d) (H := hH K N G B) (by omega)
  intro n
  induction n with
  | zero =>
    intro z hz hn
    rw [cifF (fun h => h rfl)]
    refine e_141_39 _ ?_
    unfold t_141_39
    simp (disch := omega) only [rI_d, rJ_d, rR_d, rN_d, wF_d, xI_d, xJ_d, xD_d, xQ_d, yI_d, yJ_d, yD_d, yQ_d, dI_s, dJ_s, dR_s, dN_s, dN_n, dH_s, dX_s, dL_s, dD_s, dQ_s, bC_r, bC_t, kI_s, kJ_s, kF_s, kD_s, kR_s, kV_s, I_lit, I_neg, I_add, I_sub, I_mul, I_ltT, I_ltF, I_leT, I_leF, I_eqT, I_eqF, c_int, c_long, c_obj, c_arr, c_bool, c_boolN, c_boolF, vn_bool, c_charN, vn_char, b2_f, b2_t, Int.toNat_natCast, ↓reduceIte, eq_self, and_self, and_true, true_and, not_false_eq_true, not_true_eq_false, L_0_0, L_0_1, L_0_2, L_0_3, L_0_4, L_0_5, L_0_6, L_0_7, L_0_8, L_0_9, L_0_10, L_0_11, L_0_12, L_0_13, L_0_14, L_0_15, C_0, L_1_0, L_1_1, L_1_2, C_1, L_2_0, L_2_1, L_2_2, C_2, L_3_0, L_3_1, L_3_2, C_3, L_65_0, L_65_1, L_65_2, L_65_3, L_65_4, C_65, L_66_0, L_66_1, L_66_2, L_66_3, C_66, L_129_0, L_129_1, L_129_2, L_129_3, C_129, L_198_0, L_198_1, L_198_2, L_198_3, L_198_4, L_198_5, L_198_6, L_198_7, L_198_8, L_198_9, L_198_10, L_198_11, L_198_12, L_198_13, L_198_14, L_198_15, L_198_16, L_198_17, L_198_18, L_198_19, L_198_20, L_198_21, L_198_22, L_198_23, L_198_24, L_198_25, L_198_26, L_198_27, L_198_28, L_198_29, L_198_30, L_198_31, L_198_32, L_198_33, L_198_34, L_198_35, L_198_36, L_198_37, L_198_38, L_198_39, L_198_40, L_198_41, L_198_42, L_198_43, L_198_44, L_198_45, L_198_46, L_198_47, L_198_48, C_198, A_199, A_200, A_201, A_202, A_203, A_204, A_205, A_206, A_207, A_208, A_209, A_210, A_211, A_212, A_213, A_214, A_215, A_216, A_217, A_218, A_219, A_220, A_221, A_222, A_223, A_224, A_225, A_226, A_227, A_228, A_128, A_191, A_rf, A_rs, A_rt, Q_4, Q_67, Q_130, t_141_0_1, t_141_0_2, t_141_0_3, t_141_0_4, t_141_0_5, t_141_0_6, t_141_0_7, t_141_39_1, t_141_39_2, t_141_39_3, t_141_39_4, t_141_39_5, F1, gjunk_hH]
  | succ n ih =>
    intro z hz hn
    have w := w_191 (d := d) (by omega) hw hR hi (g := g) (p := z) (by omega) (by omega)
    have ih := ih (z + 1) (by omega) (by omega)
    rw [show (z + 1).toNat = z.toNat + 1 by omega] at ih
    unfold fst1
    rw [show ((z.toNat : Nat) : Int) = z by omega]
    by_cases e : g ≤ mk (tw B) i z
    · rw [b2T e] at w
      rw [cifT e, cifT (fun h => by cases h)]
      refine e_141_39 _ ?_
      unfold t_141_39
      simp (disch := omega) only [rI_d, rJ_d, rR_d, rN_d, wF_d, xI_d, xJ_d, xD_d, xQ_d, yI_d, yJ_d, yD_d, yQ_d, dI_s, dJ_s, dR_s, dN_s, dN_n, dH_s, dX_s, dL_s, dD_s, dQ_s, bC_r, bC_t, kI_s, kJ_s, kF_s, kD_s, kR_s, kV_s, I_lit, I_neg, I_add, I_sub, I_mul, I_ltT, I_ltF, I_leT, I_leF, I_eqT, I_eqF, c_int, c_long, c_obj, c_arr, c_bool, c_boolN, c_boolF, vn_bool, c_charN, vn_char, b2_f, b2_t, Int.toNat_natCast, ↓reduceIte, eq_self, and_self, and_true, true_and, not_false_eq_true, not_true_eq_false, L_0_0, L_0_1, L_0_2, L_0_3, L_0_4, L_0_5, L_0_6, L_0_7, L_0_8, L_0_9, L_0_10, L_0_11, L_0_12, L_0_13, L_0_14, L_0_15, C_0, L_1_0, L_1_1, L_1_2, C_1, L_2_0, L_2_1, L_2_2, C_2, L_3_0, L_3_1, L_3_2, C_3, L_65_0, L_65_1, L_65_2, L_65_3, L_65_4, C_65, L_66_0, L_66_1, L_66_2, L_66_3, C_66, L_129_0, L_129_1, L_129_2, L_129_3, C_129, L_198_0, L_198_1, L_198_2, L_198_3, L_198_4, L_198_5, L_198_6, L_198_7, L_198_8, L_198_9, L_198_10, L_198_11, L_198_12, L_198_13, L_198_14, L_198_15, L_198_16, L_198_17, L_198_18, L_198_19, L_198_20, L_198_21, L_198_22, L_198_23, L_198_24, L_198_25, L_198_26, L_198_27, L_198_28, L_198_29, L_198_30, L_198_31, L_198_32, L_198_33, L_198_34, L_198_35, L_198_36, L_198_37, L_198_38, L_198_39, L_198_40, L_198_41, L_198_42, L_198_43, L_198_44, L_198_45, L_198_46, L_198_47, L_198_48, C_198, A_199, A_200, A_201, A_202, A_203, A_204, A_205, A_206, A_207, A_208, A_209, A_210, A_211, A_212, A_213, A_214, A_215, A_216, A_217, A_218, A_219, A_220, A_221, A_222, A_223, A_224, A_225, A_226, A_227, A_228, A_128, A_191, A_rf, A_rs, A_rt, Q_4, Q_67, Q_130, t_141_0_1, t_141_0_2, t_141_0_3, t_141_0_4, t_141_0_5, t_141_0_6, t_141_0_7, t_141_39_1, t_141_39_2, t_141_39_3, t_141_39_4, t_141_39_5, w, T1, Option.getD_some]
      rw [show ((z.toNat : Nat) : Int) = z by omega]
    · rw [b2F e] at w
      rw [cifF e]
      refine e_141_39 _ ?_
      unfold t_141_39
      simp (disch := omega) only [rI_d, rJ_d, rR_d, rN_d, wF_d, xI_d, xJ_d, xD_d, xQ_d, yI_d, yJ_d, yD_d, yQ_d, dI_s, dJ_s, dR_s, dN_s, dN_n, dH_s, dX_s, dL_s, dD_s, dQ_s, bC_r, bC_t, kI_s, kJ_s, kF_s, kD_s, kR_s, kV_s, I_lit, I_neg, I_add, I_sub, I_mul, I_ltT, I_ltF, I_leT, I_leF, I_eqT, I_eqF, c_int, c_long, c_obj, c_arr, c_bool, c_boolN, c_boolF, vn_bool, c_charN, vn_char, b2_f, b2_t, Int.toNat_natCast, ↓reduceIte, eq_self, and_self, and_true, true_and, not_false_eq_true, not_true_eq_false, L_0_0, L_0_1, L_0_2, L_0_3, L_0_4, L_0_5, L_0_6, L_0_7, L_0_8, L_0_9, L_0_10, L_0_11, L_0_12, L_0_13, L_0_14, L_0_15, C_0, L_1_0, L_1_1, L_1_2, C_1, L_2_0, L_2_1, L_2_2, C_2, L_3_0, L_3_1, L_3_2, C_3, L_65_0, L_65_1, L_65_2, L_65_3, L_65_4, C_65, L_66_0, L_66_1, L_66_2, L_66_3, C_66, L_129_0, L_129_1, L_129_2, L_129_3, C_129, L_198_0, L_198_1, L_198_2, L_198_3, L_198_4, L_198_5, L_198_6, L_198_7, L_198_8, L_198_9, L_198_10, L_198_11, L_198_12, L_198_13, L_198_14, L_198_15, L_198_16, L_198_17, L_198_18, L_198_19, L_198_20, L_198_21, L_198_22, L_198_23, L_198_24, L_198_25, L_198_26, L_198_27, L_198_28, L_198_29, L_198_30, L_198_31, L_198_32, L_198_33, L_198_34, L_198_35, L_198_36, L_198_37, L_198_38, L_198_39, L_198_40, L_198_41, L_198_42, L_198_43, L_198_44, L_198_45, L_198_46, L_198_47, L_198_48, C_198, A_199, A_200, A_201, A_202, A_203, A_204, A_205, A_206, A_207, A_208, A_209, A_210, A_211, A_212, A_213, A_214, A_215, A_216, A_217, A_218, A_219, A_220, A_221, A_222, A_223, A_224, A_225, A_226, A_227, A_228, A_128, A_191, A_rf, A_rs, A_rt, Q_4, Q_67, Q_130, t_141_0_1, t_141_0_2, t_141_0_3, t_141_0_4, t_141_0_5, t_141_0_6, t_141_0_7, t_141_39_1, t_141_39_2, t_141_39_3, t_141_39_4, t_141_39_5, w, ih]
theorem w_141 (hd : 7 ≤ d) (hw : MW B) (hR : CR K N G B ro (tw B) sh st pc cs ps) {s g : Int} (h1 : R32 s) (h2 : R32 g) : gCa K d 141 [.ref N, .int (I s), .int (I g)] (hH K N G B) =
    some (cif (k_plies (tw B) s g = 0) (.inl (some (.int (I (((plF (tw B) s g).getD 0 : Nat) : Int)))), hH K N G B) (.inr (exC (k_plies (tw B) s g)), hH K N (gjunk G 6) B)) := by
  obtain ⟨d, rfl, hd'⟩ := d_succ (show 6 + 1 ≤ d by omega)
  have e3 : (B.1 198 28) = (st.length : Int) := hR.nn.2.1
  have h8 := h8_of hw hR
  have T0 := w_149T (K := K) (d := d) (H := hH K N G B) (by omega)
  have F0 := w_149F (K := K) (d := d) (H := hH K N G B) (by omega)
  have T2 := w_153T (K := K) (d := d) (H := hH K N G B) (by omega)
  have F2 := w_153F (K := K) (d := d) (H := hH K N G B) (by omega)
  have w0 := w_148 (K := K) (d := d) (H := hH K N G B) (a := g) (b := 1) (c := 99) (by omega) h2 (by omega) (by omega)
  refine c_141 _ ?_
  unfold t_141_0
  by_cases c0 : 0 ≤ s ∧ s ≤ (B.1 198 28) - 1
  · obtain ⟨a, ha⟩ := at_lt (show s.toNat < st.length by omega)
    have w := w_181 (d := d) (by omega) hR (by omega) c0.1 ha
    have hs : ((s.toNat : Nat) : Int) = s := by omega
    by_cases c1 : 1 ≤ g ∧ g ≤ 99
    · rw [b2T c1] at w0
      have hn := ps_nil hw hR ha
      rw [hs] at hn
      have hl := ps_len hR ha h8.1
      obtain ⟨p, mc, e', ca, h3, k1, k2, k3, -⟩ := hR.part ha
      have v1 := cl_of h3
      have g0 := gf_of h3 0
      simp only [List.getElem?_cons_zero] at g0
      have cc := cl_of k1
      have em := w_150 (K := K) (d := d) (by omega) k1 (by omega)
      by_cases c2 : tk (tw B) s = 0
      · have hk : k_plies (tw B) s g = 3 := by
          unfold k_plies
          rw [cifF (fun h => h c0), cifF (fun h => h c1), cifT c2]
        have h0 := hn.mpr c2
        rw [h0] at k3
        rw [b2T (show ca.length = 0 from k3)] at em
        rw [hk]
        simp (disch := omega) only [rI_d, rJ_d, rR_d, rN_d, wF_d, xI_d, xJ_d, xD_d, xQ_d, yI_d, yJ_d, yD_d, yQ_d, dI_s, dJ_s, dR_s, dN_s, dN_n, dH_s, dX_s, dL_s, dD_s, dQ_s, bC_r, bC_t, kI_s, kJ_s, kF_s, kD_s, kR_s, kV_s, I_lit, I_neg, I_add, I_sub, I_mul, I_ltT, I_ltF, I_leT, I_leF, I_eqT, I_eqF, c_int, c_long, c_obj, c_arr, c_bool, c_boolN, c_boolF, vn_bool, c_charN, vn_char, b2_f, b2_t, Int.toNat_natCast, ↓reduceIte, eq_self, and_self, and_true, true_and, not_false_eq_true, not_true_eq_false, L_0_0, L_0_1, L_0_2, L_0_3, L_0_4, L_0_5, L_0_6, L_0_7, L_0_8, L_0_9, L_0_10, L_0_11, L_0_12, L_0_13, L_0_14, L_0_15, C_0, L_1_0, L_1_1, L_1_2, C_1, L_2_0, L_2_1, L_2_2, C_2, L_3_0, L_3_1, L_3_2, C_3, L_65_0, L_65_1, L_65_2, L_65_3, L_65_4, C_65, L_66_0, L_66_1, L_66_2, L_66_3, C_66, L_129_0, L_129_1, L_129_2, L_129_3, C_129, L_198_0, L_198_1, L_198_2, L_198_3, L_198_4, L_198_5, L_198_6, L_198_7, L_198_8, L_198_9, L_198_10, L_198_11, L_198_12, L_198_13, L_198_14, L_198_15, L_198_16, L_198_17, L_198_18, L_198_19, L_198_20, L_198_21, L_198_22, L_198_23, L_198_24, L_198_25, L_198_26, L_198_27, L_198_28, L_198_29, L_198_30, L_198_31, L_198_32, L_198_33, L_198_34, L_198_35, L_198_36, L_198_37, L_198_38, L_198_39, L_198_40, L_198_41, L_198_42, L_198_43, L_198_44, L_198_45, L_198_46, L_198_47, L_198_48, C_198, A_199, A_200, A_201, A_202, A_203, A_204, A_205, A_206, A_207, A_208, A_209, A_210, A_211, A_212, A_213, A_214, A_215, A_216, A_217, A_218, A_219, A_220, A_221, A_222, A_223, A_224, A_225, A_226, A_227, A_228, A_128, A_191, A_rf, A_rs, A_rt, Q_4, Q_67, Q_130, t_141_0_1, t_141_0_2, t_141_0_3, t_141_0_4, t_141_0_5, t_141_0_6, t_141_0_7, t_141_39_1, t_141_39_2, t_141_39_3, t_141_39_4, t_141_39_5, iltT, iltF, ileT, ileF, ieqT, ieqF, cif_T, cif_F, not_true_eq_false, not_false_eq_true, or_true, or_false, true_or, false_or, false_and, and_false, ne_eq, w, w0, T0, v1, g0, cc, em, F2, gjunk_hH]
        rfl
      · have h0 : ps s.toNat ≠ [] := fun h => c2 (hn.mp h)
        have h0' := List.length_pos_iff.mpr h0
        rw [b2F (show ¬ ca.length = 0 by omega)] at em
        have hl := l_141 (d := d) (by omega) hw hR ha (s := s) c1 (4 * g + 1).toNat 0 (by omega) (by omega)
        rw [show (0 : Int).toNat = 0 from rfl, pl_eq hw c1, hs, show fst1 (fun p => g ≤ mk (tw B) s (p : Int)) 0 401 = plF (tw B) s g from rfl] at hl
        by_cases c3 : plF (tw B) s g = none
        · have hk : k_plies (tw B) s g = 4 := by
            unfold k_plies
            rw [cifF (fun h => h c0), cifF (fun h => h c1), cifF c2, cifT c3]
          rw [cifF (fun h => h c3)] at hl
          rw [hk, cifF (by decide)]
          simp (disch := omega) only [rI_d, rJ_d, rR_d, rN_d, wF_d, xI_d, xJ_d, xD_d, xQ_d, yI_d, yJ_d, yD_d, yQ_d, dI_s, dJ_s, dR_s, dN_s, dN_n, dH_s, dX_s, dL_s, dD_s, dQ_s, bC_r, bC_t, kI_s, kJ_s, kF_s, kD_s, kR_s, kV_s, I_lit, I_neg, I_add, I_sub, I_mul, I_ltT, I_ltF, I_leT, I_leF, I_eqT, I_eqF, c_int, c_long, c_obj, c_arr, c_bool, c_boolN, c_boolF, vn_bool, c_charN, vn_char, b2_f, b2_t, Int.toNat_natCast, ↓reduceIte, eq_self, and_self, and_true, true_and, not_false_eq_true, not_true_eq_false, L_0_0, L_0_1, L_0_2, L_0_3, L_0_4, L_0_5, L_0_6, L_0_7, L_0_8, L_0_9, L_0_10, L_0_11, L_0_12, L_0_13, L_0_14, L_0_15, C_0, L_1_0, L_1_1, L_1_2, C_1, L_2_0, L_2_1, L_2_2, C_2, L_3_0, L_3_1, L_3_2, C_3, L_65_0, L_65_1, L_65_2, L_65_3, L_65_4, C_65, L_66_0, L_66_1, L_66_2, L_66_3, C_66, L_129_0, L_129_1, L_129_2, L_129_3, C_129, L_198_0, L_198_1, L_198_2, L_198_3, L_198_4, L_198_5, L_198_6, L_198_7, L_198_8, L_198_9, L_198_10, L_198_11, L_198_12, L_198_13, L_198_14, L_198_15, L_198_16, L_198_17, L_198_18, L_198_19, L_198_20, L_198_21, L_198_22, L_198_23, L_198_24, L_198_25, L_198_26, L_198_27, L_198_28, L_198_29, L_198_30, L_198_31, L_198_32, L_198_33, L_198_34, L_198_35, L_198_36, L_198_37, L_198_38, L_198_39, L_198_40, L_198_41, L_198_42, L_198_43, L_198_44, L_198_45, L_198_46, L_198_47, L_198_48, C_198, A_199, A_200, A_201, A_202, A_203, A_204, A_205, A_206, A_207, A_208, A_209, A_210, A_211, A_212, A_213, A_214, A_215, A_216, A_217, A_218, A_219, A_220, A_221, A_222, A_223, A_224, A_225, A_226, A_227, A_228, A_128, A_191, A_rf, A_rs, A_rt, Q_4, Q_67, Q_130, t_141_0_1, t_141_0_2, t_141_0_3, t_141_0_4, t_141_0_5, t_141_0_6, t_141_0_7, t_141_39_1, t_141_39_2, t_141_39_3, t_141_39_4, t_141_39_5, w, w0, T0, v1, g0, cc, em, T2]
          exact hl
        · have hk : k_plies (tw B) s g = 0 := by
            unfold k_plies
            rw [cifF (fun h => h c0), cifF (fun h => h c1), cifF c2, cifF c3]
          rw [cifT c3] at hl
          rw [hk, cifT rfl]
          simp (disch := omega) only [rI_d, rJ_d, rR_d, rN_d, wF_d, xI_d, xJ_d, xD_d, xQ_d, yI_d, yJ_d, yD_d, yQ_d, dI_s, dJ_s, dR_s, dN_s, dN_n, dH_s, dX_s, dL_s, dD_s, dQ_s, bC_r, bC_t, kI_s, kJ_s, kF_s, kD_s, kR_s, kV_s, I_lit, I_neg, I_add, I_sub, I_mul, I_ltT, I_ltF, I_leT, I_leF, I_eqT, I_eqF, c_int, c_long, c_obj, c_arr, c_bool, c_boolN, c_boolF, vn_bool, c_charN, vn_char, b2_f, b2_t, Int.toNat_natCast, ↓reduceIte, eq_self, and_self, and_true, true_and, not_false_eq_true, not_true_eq_false, L_0_0, L_0_1, L_0_2, L_0_3, L_0_4, L_0_5, L_0_6, L_0_7, L_0_8, L_0_9, L_0_10, L_0_11, L_0_12, L_0_13, L_0_14, L_0_15, C_0, L_1_0, L_1_1, L_1_2, C_1, L_2_0, L_2_1, L_2_2, C_2, L_3_0, L_3_1, L_3_2, C_3, L_65_0, L_65_1, L_65_2, L_65_3, L_65_4, C_65, L_66_0, L_66_1, L_66_2, L_66_3, C_66, L_129_0, L_129_1, L_129_2, L_129_3, C_129, L_198_0, L_198_1, L_198_2, L_198_3, L_198_4, L_198_5, L_198_6, L_198_7, L_198_8, L_198_9, L_198_10, L_198_11, L_198_12, L_198_13, L_198_14, L_198_15, L_198_16, L_198_17, L_198_18, L_198_19, L_198_20, L_198_21, L_198_22, L_198_23, L_198_24, L_198_25, L_198_26, L_198_27, L_198_28, L_198_29, L_198_30, L_198_31, L_198_32, L_198_33, L_198_34, L_198_35, L_198_36, L_198_37, L_198_38, L_198_39, L_198_40, L_198_41, L_198_42, L_198_43, L_198_44, L_198_45, L_198_46, L_198_47, L_198_48, C_198, A_199, A_200, A_201, A_202, A_203, A_204, A_205, A_206, A_207, A_208, A_209, A_210, A_211, A_212, A_213, A_214, A_215, A_216, A_217, A_218, A_219, A_220, A_221, A_222, A_223, A_224, A_225, A_226, A_227, A_228, A_128, A_191, A_rf, A_rs, A_rt, Q_4, Q_67, Q_130, t_141_0_1, t_141_0_2, t_141_0_3, t_141_0_4, t_141_0_5, t_141_0_6, t_141_0_7, t_141_39_1, t_141_39_2, t_141_39_3, t_141_39_4, t_141_39_5, w, w0, T0, v1, g0, cc, em, T2]
          exact hl
    · rw [b2F c1] at w0
      have hk : k_plies (tw B) s g = 2 := by
        unfold k_plies
        rw [cifF (fun h => h c0), cifT c1]
      rw [hk]
      simp (disch := omega) only [rI_d, rJ_d, rR_d, rN_d, wF_d, xI_d, xJ_d, xD_d, xQ_d, yI_d, yJ_d, yD_d, yQ_d, dI_s, dJ_s, dR_s, dN_s, dN_n, dH_s, dX_s, dL_s, dD_s, dQ_s, bC_r, bC_t, kI_s, kJ_s, kF_s, kD_s, kR_s, kV_s, I_lit, I_neg, I_add, I_sub, I_mul, I_ltT, I_ltF, I_leT, I_leF, I_eqT, I_eqF, c_int, c_long, c_obj, c_arr, c_bool, c_boolN, c_boolF, vn_bool, c_charN, vn_char, b2_f, b2_t, Int.toNat_natCast, ↓reduceIte, eq_self, and_self, and_true, true_and, not_false_eq_true, not_true_eq_false, L_0_0, L_0_1, L_0_2, L_0_3, L_0_4, L_0_5, L_0_6, L_0_7, L_0_8, L_0_9, L_0_10, L_0_11, L_0_12, L_0_13, L_0_14, L_0_15, C_0, L_1_0, L_1_1, L_1_2, C_1, L_2_0, L_2_1, L_2_2, C_2, L_3_0, L_3_1, L_3_2, C_3, L_65_0, L_65_1, L_65_2, L_65_3, L_65_4, C_65, L_66_0, L_66_1, L_66_2, L_66_3, C_66, L_129_0, L_129_1, L_129_2, L_129_3, C_129, L_198_0, L_198_1, L_198_2, L_198_3, L_198_4, L_198_5, L_198_6, L_198_7, L_198_8, L_198_9, L_198_10, L_198_11, L_198_12, L_198_13, L_198_14, L_198_15, L_198_16, L_198_17, L_198_18, L_198_19, L_198_20, L_198_21, L_198_22, L_198_23, L_198_24, L_198_25, L_198_26, L_198_27, L_198_28, L_198_29, L_198_30, L_198_31, L_198_32, L_198_33, L_198_34, L_198_35, L_198_36, L_198_37, L_198_38, L_198_39, L_198_40, L_198_41, L_198_42, L_198_43, L_198_44, L_198_45, L_198_46, L_198_47, L_198_48, C_198, A_199, A_200, A_201, A_202, A_203, A_204, A_205, A_206, A_207, A_208, A_209, A_210, A_211, A_212, A_213, A_214, A_215, A_216, A_217, A_218, A_219, A_220, A_221, A_222, A_223, A_224, A_225, A_226, A_227, A_228, A_128, A_191, A_rf, A_rs, A_rt, Q_4, Q_67, Q_130, t_141_0_1, t_141_0_2, t_141_0_3, t_141_0_4, t_141_0_5, t_141_0_6, t_141_0_7, t_141_39_1, t_141_39_2, t_141_39_3, t_141_39_4, t_141_39_5, iltT, iltF, ileT, ileF, ieqT, ieqF, cif_T, cif_F, not_true_eq_false, not_false_eq_true, or_true, or_false, true_or, false_or, false_and, and_false, ne_eq, w, w0, F0, gjunk_hH]
      rfl
  · have hk : k_plies (tw B) s g = 1 := by
      unfold k_plies
      rw [cifT c0]
    have w := w_181F (d := d) (by omega) hR (by omega) h1 (by omega)
    rw [hk]
    simp (disch := omega) only [rI_d, rJ_d, rR_d, rN_d, wF_d, xI_d, xJ_d, xD_d, xQ_d, yI_d, yJ_d, yD_d, yQ_d, dI_s, dJ_s, dR_s, dN_s, dN_n, dH_s, dX_s, dL_s, dD_s, dQ_s, bC_r, bC_t, kI_s, kJ_s, kF_s, kD_s, kR_s, kV_s, I_lit, I_neg, I_add, I_sub, I_mul, I_ltT, I_ltF, I_leT, I_leF, I_eqT, I_eqF, c_int, c_long, c_obj, c_arr, c_bool, c_boolN, c_boolF, vn_bool, c_charN, vn_char, b2_f, b2_t, Int.toNat_natCast, ↓reduceIte, eq_self, and_self, and_true, true_and, not_false_eq_true, not_true_eq_false, L_0_0, L_0_1, L_0_2, L_0_3, L_0_4, L_0_5, L_0_6, L_0_7, L_0_8, L_0_9, L_0_10, L_0_11, L_0_12, L_0_13, L_0_14, L_0_15, C_0, L_1_0, L_1_1, L_1_2, C_1, L_2_0, L_2_1, L_2_2, C_2, L_3_0, L_3_1, L_3_2, C_3, L_65_0, L_65_1, L_65_2, L_65_3, L_65_4, C_65, L_66_0, L_66_1, L_66_2, L_66_3, C_66, L_129_0, L_129_1, L_129_2, L_129_3, C_129, L_198_0, L_198_1, L_198_2, L_198_3, L_198_4, L_198_5, L_198_6, L_198_7, L_198_8, L_198_9, L_198_10, L_198_11, L_198_12, L_198_13, L_198_14, L_198_15, L_198_16, L_198_17, L_198_18, L_198_19, L_198_20, L_198_21, L_198_22, L_198_23, L_198_24, L_198_25, L_198_26, L_198_27, L_198_28, L_198_29, L_198_30, L_198_31, L_198_32, L_198_33, L_198_34, L_198_35, L_198_36, L_198_37, L_198_38, L_198_39, L_198_40, L_198_41, L_198_42, L_198_43, L_198_44, L_198_45, L_198_46, L_198_47, L_198_48, C_198, A_199, A_200, A_201, A_202, A_203, A_204, A_205, A_206, A_207, A_208, A_209, A_210, A_211, A_212, A_213, A_214, A_215, A_216, A_217, A_218, A_219, A_220, A_221, A_222, A_223, A_224, A_225, A_226, A_227, A_228, A_128, A_191, A_rf, A_rs, A_rt, Q_4, Q_67, Q_130, t_141_0_1, t_141_0_2, t_141_0_3, t_141_0_4, t_141_0_5, t_141_0_6, t_141_0_7, t_141_39_1, t_141_39_2, t_141_39_3, t_141_39_4, t_141_39_5, iltT, iltF, ileT, ileF, ieqT, ieqF, cif_T, cif_F, not_true_eq_false, not_false_eq_true, or_true, or_false, true_or, false_or, false_and, and_false, ne_eq, w]
    rfl
end
