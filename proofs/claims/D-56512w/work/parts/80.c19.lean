/-! PURE 58: the piece on a cell; the marker cleared -/
set_option maxRecDepth 100000
/-- the piece i covers the cell -/
def cov (M : gM) (i : Nat) (R C : Int) : Prop := ∃ k ∈ pL M i, M.2 211 i + oR (pL M i) (M.2 213 i) (M.2 214 i) k = R ∧ M.2 212 i + oC (pL M i) (M.2 213 i) (M.2 214 i) k = C
theorem ins_b {M : gM} (hc : cols M ≤ 12) {l : List Nat} (hl : ∀ k ∈ l, k < 25) {t m r c : Int} (h : ins M l t m r c) {k : Nat} (hk : k ∈ l) : (0 ≤ r + oR l t m k ∧ r + oR l t m k ≤ 59) ∧ 0 ≤ c + oC l t m k ∧ c + oC l t m k ≤ 11 := by
  obtain ⟨h1, h2⟩ := h
  have h3 := h2 k hk
  have h4 := oR_b (t := t) (m := m) hl hk
  have h5 := oC_b (t := t) (m := m) hl hk
  omega
theorem reC_cov {M : gM} (hc : cols M ≤ 12) (hb : ∀ j, 0 ≤ M.2 209 j) {R C : Int} (hR : 0 ≤ R ∧ R ≤ 59) (hC : 0 ≤ C ∧ C ≤ 11) : ∀ n, (∀ i, i < n → PI M i) → (∀ i, i < n → cov M i R C → reC M n (12 * R + C).toNat = M.2 209 i) ∧ ((∀ i, i < n → ¬ cov M i R C) → reC M n (12 * R + C).toNat = -1)
  | 0, _ => ⟨fun i h => absurd h (by omega), fun _ => by
    show fill (fun _ => 0) (-1) 720 (12 * R + C).toNat = -1
    exact if_pos (by omega)⟩
  | n + 1, hP => by
    obtain ⟨h1, h2⟩ := reC_cov hc hb hR hC n (fun i hi => hP i (by omega))
    have hn := hP n (by omega)
    have hl : ∀ k ∈ pL M n, k < 25 := fun k hk => List.mem_range.mp (List.mem_filter.mp hk).1
    have e : (∃ k ∈ pL M n, (12 * R + C).toNat = (12 * (M.2 211 n + oR (pL M n) (M.2 213 n) (M.2 214 n) k) + (M.2 212 n + oC (pL M n) (M.2 213 n) (M.2 214 n) k)).toNat) ↔ cov M n R C := by
      constructor
      · rintro ⟨k, hk, e⟩
        have := ins_b hc hl hn.1 hk
        exact ⟨k, hk, by omega, by omega⟩
      · rintro ⟨k, hk, e1, e2⟩
        exact ⟨k, hk, by rw [e1, e2]⟩
    have ec : reC M (n + 1) (12 * R + C).toNat = cif (cov M n R C) (M.2 209 n) (reC M n (12 * R + C).toNat) := by
      show cif _ _ _ = _
      exact cif_of e (fun _ => rfl) (fun _ => rfl)
    rw [ec]
    refine ⟨fun i hi hcv => ?_, fun h => ?_⟩
    · by_cases e3 : i = n
      · subst e3; rw [cifT hcv]
      · have q := h1 i (by omega) hcv
        rw [cifF, q]
        rintro ⟨k, hk, e4, e5⟩
        refine hn.2.1 ⟨k, hk, ?_⟩
        rw [e4, e5, q]
        have := hb i
        omega
    · rw [cifF (h n (by omega))]
      exact h2 (fun i hi => h i (by omega))
theorem c_b2 {p : Prop} : (narrow .boolean (.int (I (b2 p))) = .int (I (b2 p))) = True := by
  refine eq_true ?_
  by_cases e : p
  · rw [b2T e]; decide
  · rw [b2F e]; decide
theorem cov_i {B : gB} {j : Nat} {cl : List Nat} (h : cl.Perm (pL (tw B) j)) {r c : Int} : (∃ k ∈ cl, oR cl (B.2.1 213 j) (B.2.1 214 j) k = r - B.2.1 211 j ∧ oC cl (B.2.1 213 j) (B.2.1 214 j) k = c - B.2.1 212 j) ↔ cov (tw B) j r c := by
  show _ ↔ ∃ k ∈ pL (tw B) j, B.2.1 211 j + oR (pL (tw B) j) (B.2.1 213 j) (B.2.1 214 j) k = r ∧ B.2.1 212 j + oC (pL (tw B) j) (B.2.1 213 j) (B.2.1 214 j) k = c
  generalize pL (tw B) j = L at *
  constructor
  · rintro ⟨k, hk, e1, e2⟩
    refine ⟨k, h.mem_iff.mp hk, ?_, ?_⟩
    · rw [← oR_p h]; omega
    · rw [← oC_p h]; omega
  · rintro ⟨k, hk, e1, e2⟩
    rw [← oR_p h] at e1
    rw [← oC_p h] at e2
    exact ⟨k, h.mem_iff.mpr hk, by omega, by omega⟩
section
variable {K : gK} {d N : Nat} {G : gH} {B : gB} {M : gM} {ro : Nat → Nat} {sh st pc : List Nat} {cs : Nat → List Nat} {ps : Nat → List (Nat × Int)}
theorem w_179 (hd : 2 ≤ d) (hw : MW B) (hR : CR K N G B ro (tw B) sh st pc cs ps) {j a : Nat} (ha : pc[j]? = some a) {r c : Int} (hr : 0 ≤ r ∧ r ≤ 59) (hc : 0 ≤ c ∧ c ≤ 11) : gCa K d 179 [.ref a, .int (I r), .int (I c)] (hH K N G B) = some (.inl (some (.int (I (b2 (cov (tw B) j r c))))), hH K N G B) := by
  obtain ⟨d, rfl, hd'⟩ := d_succ (show 1 + 1 ≤ d by omega)
  obtain ⟨b, hbs, hp1⟩ := hR.pp ha
  obtain ⟨k1, k2, k3, k4, k5, k6, k7⟩ := pc_rd hp1
  have hS := hR.sp hbs
  have h25 := hR.cs25 hbs
  have cb : g_cls (hH K N G B) b = some 4 := by
    obtain ⟨⟨p, mk, vr, h1, -⟩, -⟩ := hS
    exact cl_of h1
  have b1 := mw_turned hw j
  have b2' := mw_mirrored hw j
  have b3 := mw_rowAt hw j
  have b4 := mw_columnAt hw j
  obtain ⟨va, w1, hv⟩ := w_217 (K := K) (d := d) (by omega) hS.1 (t := B.2.1 213 j) (m := B.2.1 214 j) (by omega) (by omega)
  have w2 := w_218 (K := K) (d := d) (by omega) hv h25.1 h25.2 (r := r - B.2.1 211 j) (c := c - B.2.1 212 j) (by omega) (by omega)
  have cv : g_cls (hH K N G B) va = some 6 := by
    obtain ⟨ra, ca, fr, fc, h1, -⟩ := hv
    exact cl_of h1
  have k4' : g_gf (hH K N G B) a 7 2 = some (.int (I (B.2.1 213 j))) := k4
  have k5' : g_gf (hH K N G B) a 7 3 = some (.int (I (B.2.1 214 j))) := k5
  have k6' : g_gf (hH K N G B) a 7 4 = some (.int (I (B.2.1 211 j))) := k6
  have k7' : g_gf (hH K N G B) a 7 5 = some (.int (I (B.2.1 212 j))) := k7
  rw [b2_of (cov_i hS.2)] at w2
  refine c_179 _ ?_
  unfold t_179_0
  simp (disch := omega) only [rI_d, rJ_d, rR_d, rN_d, wF_d, xI_d, xJ_d, xD_d, xQ_d, yI_d, yJ_d, yD_d, yQ_d, dI_s, dJ_s, dR_s, dN_s, dN_n, dH_s, dX_s, dL_s, dD_s, dQ_s, bC_r, bC_t, kI_s, kJ_s, kF_s, kD_s, kR_s, kV_s, I_lit, I_neg, I_add, I_sub, I_mul, I_ltT, I_ltF, I_leT, I_leF, I_eqT, I_eqF, c_int, c_long, c_obj, c_arr, c_bool, c_boolN, c_boolF, vn_bool, c_charN, vn_char, b2_f, b2_t, Int.toNat_natCast, ↓reduceIte, eq_self, and_self, and_true, true_and, not_false_eq_true, not_true_eq_false, L_0_0, L_0_1, L_0_2, L_0_3, L_0_4, L_0_5, L_0_6, L_0_7, L_0_8, L_0_9, L_0_10, L_0_11, L_0_12, L_0_13, L_0_14, L_0_15, C_0, L_1_0, L_1_1, L_1_2, C_1, L_2_0, L_2_1, L_2_2, C_2, L_3_0, L_3_1, L_3_2, C_3, L_65_0, L_65_1, L_65_2, L_65_3, L_65_4, C_65, L_66_0, L_66_1, L_66_2, L_66_3, C_66, L_129_0, L_129_1, L_129_2, L_129_3, C_129, L_198_0, L_198_1, L_198_2, L_198_3, L_198_4, L_198_5, L_198_6, L_198_7, L_198_8, L_198_9, L_198_10, L_198_11, L_198_12, L_198_13, L_198_14, L_198_15, L_198_16, L_198_17, L_198_18, L_198_19, L_198_20, L_198_21, L_198_22, L_198_23, L_198_24, L_198_25, L_198_26, L_198_27, L_198_28, L_198_29, L_198_30, L_198_31, L_198_32, L_198_33, L_198_34, L_198_35, L_198_36, L_198_37, L_198_38, L_198_39, L_198_40, L_198_41, L_198_42, L_198_43, L_198_44, L_198_45, L_198_46, L_198_47, L_198_48, C_198, A_199, A_200, A_201, A_202, A_203, A_204, A_205, A_206, A_207, A_208, A_209, A_210, A_211, A_212, A_213, A_214, A_215, A_216, A_217, A_218, A_219, A_220, A_221, A_222, A_223, A_224, A_225, A_226, A_227, A_228, A_128, A_191, A_rf, A_rs, A_rt, Q_4, Q_67, Q_130, t_179_0_1, t_179_0_2, t_179_0_3, t_179_0_4, t_179_0_5, t_179_0_6, t_179_0_7, k3, k4', k5', k6', k7', cb, cv, w1, w2, c_b2]
theorem l_117 (hd : 3 ≤ d) (hw : MW B) (hR : CR K N G B ro (tw B) sh st pc cs ps) {r c v : Int} (hr : 0 ≤ r ∧ r ≤ 59) (hc : 0 ≤ c ∧ c ≤ 11) (hv : ∀ i : Nat, (i : Int) < (B.1 198 17) → cov (tw B) i r c → B.2.1 209 i = v) : ∀ (n : Nat) (y : Int) (o4 : Option Value), 0 ≤ y → y + n = pc.length →
    gRn K d 117 7 [some (.ref N), some (.int (I r)), some (.int (I c)), some (.int (I y)), o4] [] (hH K N G B) = some (cif (∃ i : Nat, y ≤ i ∧ (i : Int) < (B.1 198 17) ∧ cov (tw B) i r c) (.inl (some (.int (I v))), hH K N G B) (.inr 1, hH K N (gjunk G 6) B)) := by
  intro n
  have q1 := mw_many hw
  have e3 : (B.1 198 17) = (pc.length : Int) := hR.nn.2.2
  have s3 := hR.s3 (d := d) (by omega)
  have c3 := cl_of hR.l3.o3
  induction n with
  | zero =>
    intro y o3 hy hn
    rw [cifF (by rintro ⟨k, h1, h2, h3⟩; omega)]
    refine e_117_7 _ ?_
    unfold t_117_7
    simp (disch := omega) only [rI_d, rJ_d, rR_d, rN_d, wF_d, xI_d, xJ_d, xD_d, xQ_d, yI_d, yJ_d, yD_d, yQ_d, dI_s, dJ_s, dR_s, dN_s, dN_n, dH_s, dX_s, dL_s, dD_s, dQ_s, bC_r, bC_t, kI_s, kJ_s, kF_s, kD_s, kR_s, kV_s, I_lit, I_neg, I_add, I_sub, I_mul, I_ltT, I_ltF, I_leT, I_leF, I_eqT, I_eqF, c_int, c_long, c_obj, c_arr, c_bool, c_boolN, c_boolF, vn_bool, c_charN, vn_char, b2_f, b2_t, Int.toNat_natCast, ↓reduceIte, eq_self, and_self, and_true, true_and, not_false_eq_true, not_true_eq_false, L_0_0, L_0_1, L_0_2, L_0_3, L_0_4, L_0_5, L_0_6, L_0_7, L_0_8, L_0_9, L_0_10, L_0_11, L_0_12, L_0_13, L_0_14, L_0_15, C_0, L_1_0, L_1_1, L_1_2, C_1, L_2_0, L_2_1, L_2_2, C_2, L_3_0, L_3_1, L_3_2, C_3, L_65_0, L_65_1, L_65_2, L_65_3, L_65_4, C_65, L_66_0, L_66_1, L_66_2, L_66_3, C_66, L_129_0, L_129_1, L_129_2, L_129_3, C_129, L_198_0, L_198_1, L_198_2, L_198_3, L_198_4, L_198_5, L_198_6, L_198_7, L_198_8, L_198_9, L_198_10, L_198_11, L_198_12, L_198_13, L_198_14, L_198_15, L_198_16, L_198_17, L_198_18, L_198_19, L_198_20, L_198_21, L_198_22, L_198_23, L_198_24, L_198_25, L_198_26, L_198_27, L_198_28, L_198_29, L_198_30, L_198_31, L_198_32, L_198_33, L_198_34, L_198_35, L_198_36, L_198_37, L_198_38, L_198_39, L_198_40, L_198_41, L_198_42, L_198_43, L_198_44, L_198_45, L_198_46, L_198_47, L_198_48, C_198, A_199, A_200, A_201, A_202, A_203, A_204, A_205, A_206, A_207, A_208, A_209, A_210, A_211, A_212, A_213, A_214, A_215, A_216, A_217, A_218, A_219, A_220, A_221, A_222, A_223, A_224, A_225, A_226, A_227, A_228, A_128, A_191, A_rf, A_rs, A_rt, Q_4, Q_67, Q_130, t_117_0_1, t_117_7_1, t_117_7_2, t_117_7_3, t_117_7_4, t_117_7_5, t_117_7_6, t_117_0_1, t_117_7_1, t_117_7_2, t_117_7_3, t_117_7_4, t_117_7_5, t_117_7_6, c3, s3, gjunk_hH]
  | succ n ih =>
    intro y o4 hy hn
    obtain ⟨a, ha⟩ := at_lt (show y.toNat < pc.length by omega)
    have g3 := hR.g3 (d := d) (by omega) (by omega) hy ha
    obtain ⟨b, hbs, hp1⟩ := hR.pp ha
    obtain ⟨k1, k2, k3, k4, k5, k6, k7⟩ := pc_rd hp1
    have w := w_179 (d := d) (by omega) hw hR ha hr hc
    have ih := ih (y + 1) (some (.ref a)) (by omega) (by omega)
    refine e_117_7 _ ?_
    unfold t_117_7
    by_cases e : cov (tw B) y.toNat r c
    · have ev := hv y.toNat (by omega) e
      have k2' : g_gf (hH K N G B) a 7 0 = some (.int (I (B.2.1 209 y.toNat))) := k2
      rw [ev] at k2'
      rw [b2T e] at w
      rw [cifT ⟨y.toNat, by omega, by omega, e⟩]
      simp (disch := omega) only [rI_d, rJ_d, rR_d, rN_d, wF_d, xI_d, xJ_d, xD_d, xQ_d, yI_d, yJ_d, yD_d, yQ_d, dI_s, dJ_s, dR_s, dN_s, dN_n, dH_s, dX_s, dL_s, dD_s, dQ_s, bC_r, bC_t, kI_s, kJ_s, kF_s, kD_s, kR_s, kV_s, I_lit, I_neg, I_add, I_sub, I_mul, I_ltT, I_ltF, I_leT, I_leF, I_eqT, I_eqF, c_int, c_long, c_obj, c_arr, c_bool, c_boolN, c_boolF, vn_bool, c_charN, vn_char, b2_f, b2_t, Int.toNat_natCast, ↓reduceIte, eq_self, and_self, and_true, true_and, not_false_eq_true, not_true_eq_false, L_0_0, L_0_1, L_0_2, L_0_3, L_0_4, L_0_5, L_0_6, L_0_7, L_0_8, L_0_9, L_0_10, L_0_11, L_0_12, L_0_13, L_0_14, L_0_15, C_0, L_1_0, L_1_1, L_1_2, C_1, L_2_0, L_2_1, L_2_2, C_2, L_3_0, L_3_1, L_3_2, C_3, L_65_0, L_65_1, L_65_2, L_65_3, L_65_4, C_65, L_66_0, L_66_1, L_66_2, L_66_3, C_66, L_129_0, L_129_1, L_129_2, L_129_3, C_129, L_198_0, L_198_1, L_198_2, L_198_3, L_198_4, L_198_5, L_198_6, L_198_7, L_198_8, L_198_9, L_198_10, L_198_11, L_198_12, L_198_13, L_198_14, L_198_15, L_198_16, L_198_17, L_198_18, L_198_19, L_198_20, L_198_21, L_198_22, L_198_23, L_198_24, L_198_25, L_198_26, L_198_27, L_198_28, L_198_29, L_198_30, L_198_31, L_198_32, L_198_33, L_198_34, L_198_35, L_198_36, L_198_37, L_198_38, L_198_39, L_198_40, L_198_41, L_198_42, L_198_43, L_198_44, L_198_45, L_198_46, L_198_47, L_198_48, C_198, A_199, A_200, A_201, A_202, A_203, A_204, A_205, A_206, A_207, A_208, A_209, A_210, A_211, A_212, A_213, A_214, A_215, A_216, A_217, A_218, A_219, A_220, A_221, A_222, A_223, A_224, A_225, A_226, A_227, A_228, A_128, A_191, A_rf, A_rs, A_rt, Q_4, Q_67, Q_130, t_117_0_1, t_117_7_1, t_117_7_2, t_117_7_3, t_117_7_4, t_117_7_5, t_117_7_6, t_117_0_1, t_117_7_1, t_117_7_2, t_117_7_3, t_117_7_4, t_117_7_5, t_117_7_6, c3, s3, g3, k1, k2', w]
    · rw [b2F e] at w
      have : cif (∃ i : Nat, y ≤ i ∧ (i : Int) < (B.1 198 17) ∧ cov (tw B) i r c) (Sum.inl (some (Value.int (I v))), hH K N G B) (Sum.inr 1, hH K N (gjunk G 6) B) = (cif (∃ i : Nat, y + 1 ≤ i ∧ (i : Int) < (B.1 198 17) ∧ cov (tw B) i r c) (.inl (some (.int (I v))), hH K N G B) (.inr 1, hH K N (gjunk G 6) B) : (Option Value ⊕ Nat) × gH) := by
        refine cif_of ⟨?_, ?_⟩ (fun _ => rfl) (fun _ => rfl)
        · rintro ⟨k, h1, h2, h3⟩
          refine ⟨k, ?_, h2, h3⟩
          have : (k : Int) ≠ y := by
            rintro rfl
            exact e (by rw [Int.toNat_natCast]; exact h3)
          omega
        · rintro ⟨k, h1, h2, h3⟩
          exact ⟨k, by omega, h2, h3⟩
      rw [this]
      simp (disch := omega) only [rI_d, rJ_d, rR_d, rN_d, wF_d, xI_d, xJ_d, xD_d, xQ_d, yI_d, yJ_d, yD_d, yQ_d, dI_s, dJ_s, dR_s, dN_s, dN_n, dH_s, dX_s, dL_s, dD_s, dQ_s, bC_r, bC_t, kI_s, kJ_s, kF_s, kD_s, kR_s, kV_s, I_lit, I_neg, I_add, I_sub, I_mul, I_ltT, I_ltF, I_leT, I_leF, I_eqT, I_eqF, c_int, c_long, c_obj, c_arr, c_bool, c_boolN, c_boolF, vn_bool, c_charN, vn_char, b2_f, b2_t, Int.toNat_natCast, ↓reduceIte, eq_self, and_self, and_true, true_and, not_false_eq_true, not_true_eq_false, L_0_0, L_0_1, L_0_2, L_0_3, L_0_4, L_0_5, L_0_6, L_0_7, L_0_8, L_0_9, L_0_10, L_0_11, L_0_12, L_0_13, L_0_14, L_0_15, C_0, L_1_0, L_1_1, L_1_2, C_1, L_2_0, L_2_1, L_2_2, C_2, L_3_0, L_3_1, L_3_2, C_3, L_65_0, L_65_1, L_65_2, L_65_3, L_65_4, C_65, L_66_0, L_66_1, L_66_2, L_66_3, C_66, L_129_0, L_129_1, L_129_2, L_129_3, C_129, L_198_0, L_198_1, L_198_2, L_198_3, L_198_4, L_198_5, L_198_6, L_198_7, L_198_8, L_198_9, L_198_10, L_198_11, L_198_12, L_198_13, L_198_14, L_198_15, L_198_16, L_198_17, L_198_18, L_198_19, L_198_20, L_198_21, L_198_22, L_198_23, L_198_24, L_198_25, L_198_26, L_198_27, L_198_28, L_198_29, L_198_30, L_198_31, L_198_32, L_198_33, L_198_34, L_198_35, L_198_36, L_198_37, L_198_38, L_198_39, L_198_40, L_198_41, L_198_42, L_198_43, L_198_44, L_198_45, L_198_46, L_198_47, L_198_48, C_198, A_199, A_200, A_201, A_202, A_203, A_204, A_205, A_206, A_207, A_208, A_209, A_210, A_211, A_212, A_213, A_214, A_215, A_216, A_217, A_218, A_219, A_220, A_221, A_222, A_223, A_224, A_225, A_226, A_227, A_228, A_128, A_191, A_rf, A_rs, A_rt, Q_4, Q_67, Q_130, t_117_0_1, t_117_7_1, t_117_7_2, t_117_7_3, t_117_7_4, t_117_7_5, t_117_7_6, t_117_0_1, t_117_7_1, t_117_7_2, t_117_7_3, t_117_7_4, t_117_7_5, t_117_7_6, c3, s3, g3, k1, w, ih]
theorem w_117 (hd : 4 ≤ d) (hw : MW B) (hg : GI B) (hR : CR K N G B ro (tw B) sh st pc cs ps) {r c : Int} (h1 : R32 r) (h2 : R32 c) : gCa K d 117 [.ref N, .int (I r), .int (I c)] (hH K N G B) =
    some (cif (k_at (tw B) r c = 0) (.inl (some (.int (I (B.2.1 215 (12 * r + c).toNat)))), hH K N G B) (.inr (exA (k_at (tw B) r c)), hH K N (gjunk G 6) B)) := by
  obtain ⟨d, rfl, hd'⟩ := d_succ (show 3 + 1 ≤ d by omega)
  have q5 := mw_cloth hw (12 * r + c).toNat
  have e3 : (B.1 198 17) = (pc.length : Int) := hR.nn.2.2
  refine c_117 _ ?_
  by_cases c1 : (0 ≤ r ∧ r ≤ 59) ∧ (0 ≤ c ∧ c ≤ 11)
  · have w1 := w_177T (K := K) (d := d) (H := hH K N G B) (by omega) c1.1 c1.2
    obtain ⟨v1, v2⟩ := reC_cov (M := tw B) (cols_b hw).2 (fun j => (mw_number hw j).1) c1.1 c1.2 ((B.1 198 17)).toNat (fun i hi => hg.2.2.2 i (by omega))
    have ev : ∀ i : Nat, (i : Int) < (B.1 198 17) → cov (tw B) i r c → B.2.1 209 i = B.2.1 215 (12 * r + c).toNat := fun i hi hcv => by
      rw [hg.1]; exact (v1 i (by omega) hcv).symm
    have w2 := l_117 (d := d) (by omega) hw hR c1.1 c1.2 ev pc.length 0 none (by omega) (by omega)
    unfold t_117_0
    simp (disch := omega) only [rI_d, rJ_d, rR_d, rN_d, wF_d, xI_d, xJ_d, xD_d, xQ_d, yI_d, yJ_d, yD_d, yQ_d, dI_s, dJ_s, dR_s, dN_s, dN_n, dH_s, dX_s, dL_s, dD_s, dQ_s, bC_r, bC_t, kI_s, kJ_s, kF_s, kD_s, kR_s, kV_s, I_lit, I_neg, I_add, I_sub, I_mul, I_ltT, I_ltF, I_leT, I_leF, I_eqT, I_eqF, c_int, c_long, c_obj, c_arr, c_bool, c_boolN, c_boolF, vn_bool, c_charN, vn_char, b2_f, b2_t, Int.toNat_natCast, ↓reduceIte, eq_self, and_self, and_true, true_and, not_false_eq_true, not_true_eq_false, L_0_0, L_0_1, L_0_2, L_0_3, L_0_4, L_0_5, L_0_6, L_0_7, L_0_8, L_0_9, L_0_10, L_0_11, L_0_12, L_0_13, L_0_14, L_0_15, C_0, L_1_0, L_1_1, L_1_2, C_1, L_2_0, L_2_1, L_2_2, C_2, L_3_0, L_3_1, L_3_2, C_3, L_65_0, L_65_1, L_65_2, L_65_3, L_65_4, C_65, L_66_0, L_66_1, L_66_2, L_66_3, C_66, L_129_0, L_129_1, L_129_2, L_129_3, C_129, L_198_0, L_198_1, L_198_2, L_198_3, L_198_4, L_198_5, L_198_6, L_198_7, L_198_8, L_198_9, L_198_10, L_198_11, L_198_12, L_198_13, L_198_14, L_198_15, L_198_16, L_198_17, L_198_18, L_198_19, L_198_20, L_198_21, L_198_22, L_198_23, L_198_24, L_198_25, L_198_26, L_198_27, L_198_28, L_198_29, L_198_30, L_198_31, L_198_32, L_198_33, L_198_34, L_198_35, L_198_36, L_198_37, L_198_38, L_198_39, L_198_40, L_198_41, L_198_42, L_198_43, L_198_44, L_198_45, L_198_46, L_198_47, L_198_48, C_198, A_199, A_200, A_201, A_202, A_203, A_204, A_205, A_206, A_207, A_208, A_209, A_210, A_211, A_212, A_213, A_214, A_215, A_216, A_217, A_218, A_219, A_220, A_221, A_222, A_223, A_224, A_225, A_226, A_227, A_228, A_128, A_191, A_rf, A_rs, A_rt, Q_4, Q_67, Q_130, t_117_0_1, t_117_7_1, t_117_7_2, t_117_7_3, t_117_7_4, t_117_7_5, t_117_7_6, t_117_0_1, t_117_7_1, t_117_7_2, t_117_7_3, t_117_7_4, t_117_7_5, t_117_7_6, w1, w2]
    by_cases c2 : B.2.1 215 (12 * r + c).toNat = -1
    · have hk : k_at (tw B) r c = 2 := by
        unfold k_at
        rw [cifF (fun h => h c1), cifT c2]
      rw [hk, cifF (p := (2 : Int) = 0) (by decide), cifF]
      · rfl
      · rintro ⟨i, -, h4, h5⟩
        have := ev i h4 h5
        have := mw_number hw i
        omega
    · have hk : k_at (tw B) r c = 0 := by
        unfold k_at
        rw [cifF (fun h => h c1), cifF c2]
      rw [hk, cifT (p := (0 : Int) = 0) rfl, cifT]
      refine Classical.byContradiction fun h => c2 ?_
      rw [hg.1]
      exact v2 (fun i hi hcv => h ⟨i, by omega, by omega, hcv⟩)
  · have hk : k_at (tw B) r c = 1 := by
      unfold k_at
      rw [cifT c1]
    have w1 := w_177F (K := K) (d := d) (H := hH K N G B) (by omega) h1 h2 c1
    rw [hk]
    unfold t_117_0
    simp (disch := omega) only [rI_d, rJ_d, rR_d, rN_d, wF_d, xI_d, xJ_d, xD_d, xQ_d, yI_d, yJ_d, yD_d, yQ_d, dI_s, dJ_s, dR_s, dN_s, dN_n, dH_s, dX_s, dL_s, dD_s, dQ_s, bC_r, bC_t, kI_s, kJ_s, kF_s, kD_s, kR_s, kV_s, I_lit, I_neg, I_add, I_sub, I_mul, I_ltT, I_ltF, I_leT, I_leF, I_eqT, I_eqF, c_int, c_long, c_obj, c_arr, c_bool, c_boolN, c_boolF, vn_bool, c_charN, vn_char, b2_f, b2_t, Int.toNat_natCast, ↓reduceIte, eq_self, and_self, and_true, true_and, not_false_eq_true, not_true_eq_false, L_0_0, L_0_1, L_0_2, L_0_3, L_0_4, L_0_5, L_0_6, L_0_7, L_0_8, L_0_9, L_0_10, L_0_11, L_0_12, L_0_13, L_0_14, L_0_15, C_0, L_1_0, L_1_1, L_1_2, C_1, L_2_0, L_2_1, L_2_2, C_2, L_3_0, L_3_1, L_3_2, C_3, L_65_0, L_65_1, L_65_2, L_65_3, L_65_4, C_65, L_66_0, L_66_1, L_66_2, L_66_3, C_66, L_129_0, L_129_1, L_129_2, L_129_3, C_129, L_198_0, L_198_1, L_198_2, L_198_3, L_198_4, L_198_5, L_198_6, L_198_7, L_198_8, L_198_9, L_198_10, L_198_11, L_198_12, L_198_13, L_198_14, L_198_15, L_198_16, L_198_17, L_198_18, L_198_19, L_198_20, L_198_21, L_198_22, L_198_23, L_198_24, L_198_25, L_198_26, L_198_27, L_198_28, L_198_29, L_198_30, L_198_31, L_198_32, L_198_33, L_198_34, L_198_35, L_198_36, L_198_37, L_198_38, L_198_39, L_198_40, L_198_41, L_198_42, L_198_43, L_198_44, L_198_45, L_198_46, L_198_47, L_198_48, C_198, A_199, A_200, A_201, A_202, A_203, A_204, A_205, A_206, A_207, A_208, A_209, A_210, A_211, A_212, A_213, A_214, A_215, A_216, A_217, A_218, A_219, A_220, A_221, A_222, A_223, A_224, A_225, A_226, A_227, A_228, A_128, A_191, A_rf, A_rs, A_rt, Q_4, Q_67, Q_130, t_117_0_1, t_117_7_1, t_117_7_2, t_117_7_3, t_117_7_4, t_117_7_5, t_117_7_6, t_117_0_1, t_117_7_1, t_117_7_2, t_117_7_3, t_117_7_4, t_117_7_5, t_117_7_6, M_0_8, M_0_9, M_0_10, M_0_11, M_0_12, M_0_13, M_0_14, M_0_15, M_1_0, M_1_1, M_1_2, M_2_0, M_2_1, M_2_2, M_3_0, M_3_1, M_3_2, M_65_0, M_65_1, M_65_2, M_65_3, M_65_4, M_66_2, M_129_2, M_198_0, M_198_1, M_198_2, M_198_3, M_198_4, M_198_5, M_198_7, M_198_17, M_198_18, M_198_28, M_198_31, M_198_32, M_198_33, M_198_36, M_198_37, M_198_38, M_198_39, M_198_41, M_198_48, S_199, S_200, S_201, S_202, S_203, S_204, S_205, S_206, S_207, S_208, S_209, S_210, S_211, S_212, S_213, S_214, S_215, S_216, S_217, S_218, S_219, S_220, S_221, S_222, S_223, S_224, S_225, S_226, S_227, S_228, S_128, S_191, S_rf, S_rs, S_rt, sI_eq, sI_ne, sI_21, sI_22, sA_eq, sA_ne, sA_1, sA_3, iltT, iltF, ileT, ileF, ieqT, ieqF, cif_T, cif_F, not_true_eq_false, not_false_eq_true, or_true, or_false, true_or, false_or, false_and, and_false, ne_eq, w1, gjunk_hH]
    rfl
end
