/-! PURE 75: lay, reason, nest -/
set_option maxRecDepth 100000
/-- rules are letters of rules -/
def RU (M : gM) : Prop := ∀ i : Nat, (i : Int) < (M.1 7) → M.2 200 i = 110 ∨ M.2 200 i = 104 ∨ M.2 200 i = 113
section
variable {K : gK} {d N : Nat} {G G' : gH} {B B' B0 : gB} {M M' : gM} {ro : Nat → Nat} {sh st pc : List Nat} {cs : Nat → List Nat} {ps : Nat → List (Nat × Int)} {a s : Nat} {cl : List Nat} {t m r c : Int}
theorem shb_of (hw : MW B) : SHB (B.2.1 215) (rmT (tw B)) := by
  refine ⟨mw_cloth hw, fun j hj => ?_⟩
  have := mw_phase hw j
  rw [rmT_e]
  split <;> omega
theorem KP.ch {m : Int} : KP B (chB B a m) := (KP.sI (by omega)).tr (KP.sI (by omega))
theorem KP.mv : KP B (mvB B t r c) := ((KP.sI (by omega)).tr (KP.sI (by omega))).tr (KP.sI (by omega))
theorem CR.spot (hw : MW B0) (hR : CR K N G B ro M sh st pc cs ps) (h8 : sh.length ≤ 8) (ha : sh[s]? = some a) (hm : 0 ≤ m ∧ m ≤ 1) : SPX K N G (chB B a m) M ro a s (cs s) (B.1 65 1) m (B.1 65 3) (B.1 65 4) := by
  have hC := hR.1
  have hk := hC.2.2.2.1 3 (by omega)
  have hN := hC.2.2.1
  obtain ⟨s1, s2, s3, s4, s5, s6, s7, s8, s9⟩ := hR.2.1
  have z : ∀ o k, (o ≠ 65 ∨ (k ≠ 0 ∧ k ≠ 2)) → (chB B a m).1 o k = B.1 o k := fun o k h => (sI_ne (by omega)).trans (sI_ne (by omega))
  refine ⟨hC, (hR.sp ha).1.fo hC.hb (FR.ln hC) OW.ln hk (by omega), (hR.sp ha).2, ⟨(z 0 8 (by omega)).trans s1, (z 0 9 (by omega)).trans s2, (z 0 10 (by omega)).trans s3, (z 0 11 (by omega)).trans s4, s9⟩, ⟨?_, z 65 1 (by omega), sI_eq rfl, z 65 3 (by omega), z 65 4 (by omega)⟩, hm, ?_⟩
  · exact (sI_ne (by omega)).trans (sI_eq rfl)
  · have := (List.getElem?_eq_some_iff.mp ha).1
    omega
/-- the spot's fields are not of the room's picture -/
theorem CR.sq (hR : CR K N G B ro M sh st pc cs ps) (h1 : ∀ o k, o ≤ 128 → o ≠ 65 → B'.1 o k = B.1 o k) (h2 : B'.2.1 = B.2.1) : CR K N G B' ro M sh st pc cs ps := hR.b h1 (fun o j _ => by rw [h2])
theorem ch_ne {o k : Nat} {m : Int} (h : o ≠ 65) : (chB B a m).1 o k = B.1 o k := (sI_ne (by omega)).trans (sI_ne (by omega))
theorem mv_ne {o k : Nat} (h : o ≠ 65) : (mvB B t r c).1 o k = B.1 o k := (sI_ne (by omega)).trans ((sI_ne (by omega)).trans (sI_ne (by omega)))
theorem w_103 (hd : 9 ≤ d) (hw : MW B) (hu : RU (tw B)) (hR : CR K N G B ro (tw B) sh st pc cs ps) {s : Int} (h1 : R32 s) (h2 : R32 t) (h3 : R32 r) (h4 : R32 c) (hm : 0 ≤ m ∧ m ≤ 1) : ∃ G' B', gCa K d 103 [.ref N, .int (I s), .int (I t), .int (I r), .int (I c), .int (I m)] (hH K N G B) =
    some (cif (k_reason B s t = 0) (.inl (some (.int (I (rsT B s t r c m))))) (.inr (exC (k_reason B s t))), hH K N G' B') ∧ KP B B' ∧ AL G G' 1 6 ∧ CR K N G' B' ro (tw B) sh st pc cs ps := by
  obtain ⟨d, rfl, hd'⟩ := d_succ (show 8 + 1 ≤ d by omega)
  have e3 : (B.1 198 7) = (sh.length : Int) := hR.nn.1
  have q := mw_shapes hw
  have c0 : ∀ B, g_cls (hH K N G B) N = some 0 := fun B => cl_of (c := 0) (hH_x (B := B))
  by_cases c1 : 0 ≤ s ∧ s ≤ (B.1 198 7) - 1
  · obtain ⟨a, ha⟩ := at_lt (show s.toNat < sh.length by omega)
    have w := w_157 (d := d) (by omega) hR (by omega) c1.1 ha
    have w1 := w_163 (K := K) (N := N) (G := G) (B := B) (d := d) (a := a) (by omega) hm
    by_cases c2 : 0 ≤ t ∧ t ≤ 3
    · have hk : k_reason B s t = 0 := by
        unfold k_reason
        rw [cifF (fun h => h c1), cifT c2]
      have w2 := w_164T (K := K) (d := d) (H := hH K N G (chB B a m)) (by omega) c2
      have w3 := w_165 (K := K) (N := N) (G := G) (B := chB B a m) (d := d) (t := t) (r := r) (c := c) (by omega)
      have hX := (CR.spot hw hR (by omega) ha hm).mv (t' := t) (r' := r) (c' := c)
      have hR' : CR K N G (mvB (chB B a m) t r c) ro (tw B) sh st pc cs ps := hR.sq (fun o k _ h => (mv_ne h).trans (ch_ne h)) rfl
      have w4 := w_166 (d := d) (by omega) hw hX (hu s.toNat (show (s.toNat : Int) < (B.1 198 7) by omega)) (Or.inl rfl) hR'.2.2.1 (shb_of hw) c2 h3 h4
      rw [rsn_p hX.2.2.1] at w4
      have w4' : gCa K d 166 [.ref N, .ref (N + 66)] (hH K N G (mvB (chB B a m) t r c)) = some (.inl (some (.int (I (rsT B s t r c m)))), hH K N G (mvB (chB B a m) t r c)) := w4
      have hrb : 45 ≤ rsT B s t r c m ∧ rsT B s t r c m ≤ 116 := rsn_b
      refine ⟨G, mvB (chB B a m) t r c, c_103 _ ?_, KP.ch.tr KP.mv, AL.rf, hR'⟩
      rw [hk, cifT (p := (0 : Int) = 0) rfl]
      generalize rsT B s t r c m = R at *
      unfold t_103_0
      simp (disch := omega) only [rI_d, rJ_d, rR_d, rN_d, wF_d, xI_d, xJ_d, xD_d, xQ_d, yI_d, yJ_d, yD_d, yQ_d, dI_s, dJ_s, dR_s, dN_s, dN_n, dH_s, dX_s, dL_s, dD_s, dQ_s, bC_r, bC_t, kI_s, kJ_s, kF_s, kD_s, kR_s, kV_s, I_lit, I_neg, I_add, I_sub, I_mul, I_ltT, I_ltF, I_leT, I_leF, I_eqT, I_eqF, c_int, c_long, c_obj, c_arr, c_bool, c_boolN, c_boolF, vn_bool, c_charN, vn_char, b2_f, b2_t, Int.toNat_natCast, ↓reduceIte, eq_self, and_self, and_true, true_and, not_false_eq_true, not_true_eq_false, L_0_0, L_0_1, L_0_2, L_0_3, L_0_4, L_0_5, L_0_6, L_0_7, L_0_8, L_0_9, L_0_10, L_0_11, L_0_12, L_0_13, L_0_14, L_0_15, C_0, L_1_0, L_1_1, L_1_2, C_1, L_2_0, L_2_1, L_2_2, C_2, L_3_0, L_3_1, L_3_2, C_3, L_65_0, L_65_1, L_65_2, L_65_3, L_65_4, C_65, L_66_0, L_66_1, L_66_2, L_66_3, C_66, L_129_0, L_129_1, L_129_2, L_129_3, C_129, L_198_0, L_198_1, L_198_2, L_198_3, L_198_4, L_198_5, L_198_6, L_198_7, L_198_8, L_198_9, L_198_10, L_198_11, L_198_12, L_198_13, L_198_14, L_198_15, L_198_16, L_198_17, L_198_18, L_198_19, L_198_20, L_198_21, L_198_22, L_198_23, L_198_24, L_198_25, L_198_26, L_198_27, L_198_28, L_198_29, L_198_30, L_198_31, L_198_32, L_198_33, L_198_34, L_198_35, L_198_36, L_198_37, L_198_38, L_198_39, L_198_40, L_198_41, L_198_42, L_198_43, L_198_44, L_198_45, L_198_46, L_198_47, L_198_48, C_198, A_199, A_200, A_201, A_202, A_203, A_204, A_205, A_206, A_207, A_208, A_209, A_210, A_211, A_212, A_213, A_214, A_215, A_216, A_217, A_218, A_219, A_220, A_221, A_222, A_223, A_224, A_225, A_226, A_227, A_228, A_128, A_191, A_rf, A_rs, A_rt, Q_4, Q_67, Q_130, t_103_0_1, t_103_0_2, t_103_0_3, t_103_0_4, t_103_0_5, t_103_0_6, t_103_0_7, t_103_0_8, c0, w, w1, w2, w3, w4']
    · have hk : k_reason B s t = 2 := by
        unfold k_reason
        rw [cifF (fun h => h c1), cifF c2]
      have w2 := w_164F (K := K) (d := d) (H := hH K N G (chB B a m)) (by omega) h2 c2
      have hR' : CR K N G (chB B a m) ro (tw B) sh st pc cs ps := hR.sq (fun o k _ h => ch_ne h) rfl
      refine ⟨gjunk G 6, chB B a m, c_103 _ ?_, KP.ch, AL.jk (by omega) (by omega), hR'.jk⟩
      rw [hk, cifF (p := (2 : Int) = 0) (by omega)]
      unfold t_103_0
      simp (disch := omega) only [rI_d, rJ_d, rR_d, rN_d, wF_d, xI_d, xJ_d, xD_d, xQ_d, yI_d, yJ_d, yD_d, yQ_d, dI_s, dJ_s, dR_s, dN_s, dN_n, dH_s, dX_s, dL_s, dD_s, dQ_s, bC_r, bC_t, kI_s, kJ_s, kF_s, kD_s, kR_s, kV_s, I_lit, I_neg, I_add, I_sub, I_mul, I_ltT, I_ltF, I_leT, I_leF, I_eqT, I_eqF, c_int, c_long, c_obj, c_arr, c_bool, c_boolN, c_boolF, vn_bool, c_charN, vn_char, b2_f, b2_t, Int.toNat_natCast, ↓reduceIte, eq_self, and_self, and_true, true_and, not_false_eq_true, not_true_eq_false, L_0_0, L_0_1, L_0_2, L_0_3, L_0_4, L_0_5, L_0_6, L_0_7, L_0_8, L_0_9, L_0_10, L_0_11, L_0_12, L_0_13, L_0_14, L_0_15, C_0, L_1_0, L_1_1, L_1_2, C_1, L_2_0, L_2_1, L_2_2, C_2, L_3_0, L_3_1, L_3_2, C_3, L_65_0, L_65_1, L_65_2, L_65_3, L_65_4, C_65, L_66_0, L_66_1, L_66_2, L_66_3, C_66, L_129_0, L_129_1, L_129_2, L_129_3, C_129, L_198_0, L_198_1, L_198_2, L_198_3, L_198_4, L_198_5, L_198_6, L_198_7, L_198_8, L_198_9, L_198_10, L_198_11, L_198_12, L_198_13, L_198_14, L_198_15, L_198_16, L_198_17, L_198_18, L_198_19, L_198_20, L_198_21, L_198_22, L_198_23, L_198_24, L_198_25, L_198_26, L_198_27, L_198_28, L_198_29, L_198_30, L_198_31, L_198_32, L_198_33, L_198_34, L_198_35, L_198_36, L_198_37, L_198_38, L_198_39, L_198_40, L_198_41, L_198_42, L_198_43, L_198_44, L_198_45, L_198_46, L_198_47, L_198_48, C_198, A_199, A_200, A_201, A_202, A_203, A_204, A_205, A_206, A_207, A_208, A_209, A_210, A_211, A_212, A_213, A_214, A_215, A_216, A_217, A_218, A_219, A_220, A_221, A_222, A_223, A_224, A_225, A_226, A_227, A_228, A_128, A_191, A_rf, A_rs, A_rt, Q_4, Q_67, Q_130, t_103_0_1, t_103_0_2, t_103_0_3, t_103_0_4, t_103_0_5, t_103_0_6, t_103_0_7, t_103_0_8, c0, w, w1, w2, gjunk_hH]
      rfl
  · have hk : k_reason B s t = 1 := by
      unfold k_reason
      rw [cifT c1]
    have w := w_157F (d := d) (by omega) hR (by omega) h1 (by omega)
    refine ⟨gjunk G 6, B, c_103 _ ?_, KP.rf, AL.jk (by omega) (by omega), hR.jk⟩
    rw [hk, cifF (p := (1 : Int) = 0) (by omega)]
    unfold t_103_0
    simp (disch := omega) only [rI_d, rJ_d, rR_d, rN_d, wF_d, xI_d, xJ_d, xD_d, xQ_d, yI_d, yJ_d, yD_d, yQ_d, dI_s, dJ_s, dR_s, dN_s, dN_n, dH_s, dX_s, dL_s, dD_s, dQ_s, bC_r, bC_t, kI_s, kJ_s, kF_s, kD_s, kR_s, kV_s, I_lit, I_neg, I_add, I_sub, I_mul, I_ltT, I_ltF, I_leT, I_leF, I_eqT, I_eqF, c_int, c_long, c_obj, c_arr, c_bool, c_boolN, c_boolF, vn_bool, c_charN, vn_char, b2_f, b2_t, Int.toNat_natCast, ↓reduceIte, eq_self, and_self, and_true, true_and, not_false_eq_true, not_true_eq_false, L_0_0, L_0_1, L_0_2, L_0_3, L_0_4, L_0_5, L_0_6, L_0_7, L_0_8, L_0_9, L_0_10, L_0_11, L_0_12, L_0_13, L_0_14, L_0_15, C_0, L_1_0, L_1_1, L_1_2, C_1, L_2_0, L_2_1, L_2_2, C_2, L_3_0, L_3_1, L_3_2, C_3, L_65_0, L_65_1, L_65_2, L_65_3, L_65_4, C_65, L_66_0, L_66_1, L_66_2, L_66_3, C_66, L_129_0, L_129_1, L_129_2, L_129_3, C_129, L_198_0, L_198_1, L_198_2, L_198_3, L_198_4, L_198_5, L_198_6, L_198_7, L_198_8, L_198_9, L_198_10, L_198_11, L_198_12, L_198_13, L_198_14, L_198_15, L_198_16, L_198_17, L_198_18, L_198_19, L_198_20, L_198_21, L_198_22, L_198_23, L_198_24, L_198_25, L_198_26, L_198_27, L_198_28, L_198_29, L_198_30, L_198_31, L_198_32, L_198_33, L_198_34, L_198_35, L_198_36, L_198_37, L_198_38, L_198_39, L_198_40, L_198_41, L_198_42, L_198_43, L_198_44, L_198_45, L_198_46, L_198_47, L_198_48, C_198, A_199, A_200, A_201, A_202, A_203, A_204, A_205, A_206, A_207, A_208, A_209, A_210, A_211, A_212, A_213, A_214, A_215, A_216, A_217, A_218, A_219, A_220, A_221, A_222, A_223, A_224, A_225, A_226, A_227, A_228, A_128, A_191, A_rf, A_rs, A_rt, Q_4, Q_67, Q_130, t_103_0_1, t_103_0_2, t_103_0_3, t_103_0_4, t_103_0_5, t_103_0_6, t_103_0_7, t_103_0_8, c0, w]
    rfl
theorem w_100 (hd : 10 ≤ d) (hw : MW B) (hu : RU (tw B)) (hR : CR K N G B ro (tw B) sh st pc cs ps) (hnx : (B.1 198 18) < 1000) {s : Int} (h1 : R32 s) (h2 : R32 t) (h3 : R32 r) (h4 : R32 c) (hm : 0 ≤ m ∧ m ≤ 1) : ∃ G' B', gCa K d 100 [.ref N, .int (I s), .int (I t), .int (I r), .int (I c), .int (I m)] (hH K N G B) =
    some (cif (k_lay B s t r c m = 0) (.inl (some (.int (I ((B.1 198 18)))))) (.inr (exC (k_lay B s t r c m))), hH K N G' B') ∧ KP B B' ∧ AL G G' 2 206 ∧ (k_lay B s t r c m = 0 → RM K N G' B' (tw (putB B s.toNat (dl (tw B) s.toNat) t r c m))) ∧ (k_lay B s t r c m ≠ 0 → RM K N G' B' (tw B)) := by
  obtain ⟨d, rfl, hd'⟩ := d_succ (show 9 + 1 ≤ d by omega)
  have e3 : (B.1 198 7) = (sh.length : Int) := hR.nn.1
  have e4 : (B.1 198 17) = (pc.length : Int) := hR.nn.2.2
  have q := mw_shapes hw
  have q2 := mw_many hw
  have c0 : ∀ B, g_cls (hH K N G B) N = some 0 := fun B => cl_of (c := 0) (hH_x (B := B))
  by_cases c1 : 0 ≤ s ∧ s ≤ (B.1 198 7) - 1
  · obtain ⟨a, ha⟩ := at_lt (show s.toNat < sh.length by omega)
    have w := w_157 (d := d) (by omega) hR (by omega) c1.1 ha
    have w1 := w_163 (K := K) (N := N) (G := G) (B := B) (d := d) (a := a) (by omega) hm
    by_cases c2 : 0 ≤ t ∧ t ≤ 3
    · have w2 := w_164T (K := K) (d := d) (H := hH K N G (chB B a m)) (by omega) c2
      have w3 := w_165 (K := K) (N := N) (G := G) (B := chB B a m) (d := d) (t := t) (r := r) (c := c) (by omega)
      have hX := (CR.spot hw hR (by omega) ha hm).mv (t' := t) (r' := r) (c' := c)
      have hR' : CR K N G (mvB (chB B a m) t r c) ro (tw B) sh st pc cs ps := hR.sq (fun o k _ h => (mv_ne h).trans (ch_ne h)) rfl
      have w4 := w_166 (d := d) (by omega) hw hX (hu s.toNat (show (s.toNat : Int) < (B.1 198 7) by omega)) (Or.inl rfl) hR'.2.2.1 (shb_of hw) c2 h3 h4
      rw [rsn_p hX.2.2.1] at w4
      have w4' : gCa K d 166 [.ref N, .ref (N + 66)] (hH K N G (mvB (chB B a m) t r c)) = some (.inl (some (.int (I (rsT B s t r c m)))), hH K N G (mvB (chB B a m) t r c)) := w4
      have hrb : 45 ≤ rsT B s t r c m ∧ rsT B s t r c m ≤ 116 := rsn_b
      have T1 := w_151T (K := K) (d := d) (H := hH K N G (mvB (chB B a m) t r c)) (by omega)
      have F1 := w_151F (K := K) (d := d) (H := hH K N G (mvB (chB B a m) t r c)) (by omega)
      have T2 := w_153T (K := K) (d := d) (H := hH K N G (mvB (chB B a m) t r c)) (by omega)
      have F2 := w_153F (K := K) (d := d) (H := hH K N G (mvB (chB B a m) t r c)) (by omega)
      have s3 := hR'.s3 (d := d) (by omega)
      have cc3 := cl_of hR'.l3.o3
      by_cases c3 : rsT B s t r c m = 45
      · rw [c3] at w4'
        by_cases c4 : (B.1 198 17) = 40
        · have hk : k_lay B s t r c m = 4 := by
            unfold k_lay
            rw [cifF (fun h => h c1), cifF (fun h => h c2), cifF (fun h => h c3), cifT c4]
          refine ⟨gjunk G 6, mvB (chB B a m) t r c, c_100 _ ?_, KP.ch.tr KP.mv, AL.jk (by omega) (by omega), fun h => absurd h (by rw [hk]; decide), fun _ => ⟨_, _, _, _, _, _, hR'.jk⟩⟩
          rw [hk, cifF (p := (4 : Int) = 0) (by omega)]
          unfold t_100_0
          simp (disch := omega) only [rI_d, rJ_d, rR_d, rN_d, wF_d, xI_d, xJ_d, xD_d, xQ_d, yI_d, yJ_d, yD_d, yQ_d, dI_s, dJ_s, dR_s, dN_s, dN_n, dH_s, dX_s, dL_s, dD_s, dQ_s, bC_r, bC_t, kI_s, kJ_s, kF_s, kD_s, kR_s, kV_s, I_lit, I_neg, I_add, I_sub, I_mul, I_ltT, I_ltF, I_leT, I_leF, I_eqT, I_eqF, c_int, c_long, c_obj, c_arr, c_bool, c_boolN, c_boolF, vn_bool, c_charN, vn_char, b2_f, b2_t, Int.toNat_natCast, ↓reduceIte, eq_self, and_self, and_true, true_and, not_false_eq_true, not_true_eq_false, L_0_0, L_0_1, L_0_2, L_0_3, L_0_4, L_0_5, L_0_6, L_0_7, L_0_8, L_0_9, L_0_10, L_0_11, L_0_12, L_0_13, L_0_14, L_0_15, C_0, L_1_0, L_1_1, L_1_2, C_1, L_2_0, L_2_1, L_2_2, C_2, L_3_0, L_3_1, L_3_2, C_3, L_65_0, L_65_1, L_65_2, L_65_3, L_65_4, C_65, L_66_0, L_66_1, L_66_2, L_66_3, C_66, L_129_0, L_129_1, L_129_2, L_129_3, C_129, L_198_0, L_198_1, L_198_2, L_198_3, L_198_4, L_198_5, L_198_6, L_198_7, L_198_8, L_198_9, L_198_10, L_198_11, L_198_12, L_198_13, L_198_14, L_198_15, L_198_16, L_198_17, L_198_18, L_198_19, L_198_20, L_198_21, L_198_22, L_198_23, L_198_24, L_198_25, L_198_26, L_198_27, L_198_28, L_198_29, L_198_30, L_198_31, L_198_32, L_198_33, L_198_34, L_198_35, L_198_36, L_198_37, L_198_38, L_198_39, L_198_40, L_198_41, L_198_42, L_198_43, L_198_44, L_198_45, L_198_46, L_198_47, L_198_48, C_198, A_199, A_200, A_201, A_202, A_203, A_204, A_205, A_206, A_207, A_208, A_209, A_210, A_211, A_212, A_213, A_214, A_215, A_216, A_217, A_218, A_219, A_220, A_221, A_222, A_223, A_224, A_225, A_226, A_227, A_228, A_128, A_191, A_rf, A_rs, A_rt, Q_4, Q_67, Q_130, t_100_0_1, t_100_0_2, t_100_0_3, t_100_0_4, t_100_0_5, t_100_0_6, t_100_0_7, t_100_0_8, t_100_0_9, t_100_0_10, t_100_0_11, t_100_0_12, t_100_0_13, t_100_0_14, t_100_0_15, t_100_0_16, t_100_0_17, t_100_0_18, t_100_0_19, t_100_0_20, t_100_0_21, t_100_0_22, c0, w, w1, w2, w3, w4', s3, cc3, T2, F1, gjunk_hH]
          rfl
        · have hk : k_lay B s t r c m = 0 := by
            unfold k_lay
            rw [cifF (fun h => h c1), cifF (fun h => h c2), cifF (fun h => h c3), cifF c4]
          have hins : ins (tw B) (cs s.toNat) t m r c := by
            have : rsn (tw B) (B.2.1 215) (rmT (tw B)) s.toNat (cs s.toNat) t r c m = 45 := by rw [rsn_p (hR.sp ha).2]; exact c3
            exact (ins_of_rsn this).2.2.2.1
          obtain ⟨G', B', ro', p, w5, v1, v2, v3⟩ := w_167 (d := d) (by omega) hw (KP.ch.tr KP.mv) hR' hX ha c2 hins (by omega) hnx
          refine ⟨G', B', c_100 _ ?_, (KP.ch.tr KP.mv).tr v1, v2, fun _ => ⟨_, _, _, _, _, _, v3⟩, fun h => absurd hk h⟩
          rw [hk, cifT (p := (0 : Int) = 0) rfl]
          unfold t_100_0
          simp (disch := omega) only [rI_d, rJ_d, rR_d, rN_d, wF_d, xI_d, xJ_d, xD_d, xQ_d, yI_d, yJ_d, yD_d, yQ_d, dI_s, dJ_s, dR_s, dN_s, dN_n, dH_s, dX_s, dL_s, dD_s, dQ_s, bC_r, bC_t, kI_s, kJ_s, kF_s, kD_s, kR_s, kV_s, I_lit, I_neg, I_add, I_sub, I_mul, I_ltT, I_ltF, I_leT, I_leF, I_eqT, I_eqF, c_int, c_long, c_obj, c_arr, c_bool, c_boolN, c_boolF, vn_bool, c_charN, vn_char, b2_f, b2_t, Int.toNat_natCast, ↓reduceIte, eq_self, and_self, and_true, true_and, not_false_eq_true, not_true_eq_false, L_0_0, L_0_1, L_0_2, L_0_3, L_0_4, L_0_5, L_0_6, L_0_7, L_0_8, L_0_9, L_0_10, L_0_11, L_0_12, L_0_13, L_0_14, L_0_15, C_0, L_1_0, L_1_1, L_1_2, C_1, L_2_0, L_2_1, L_2_2, C_2, L_3_0, L_3_1, L_3_2, C_3, L_65_0, L_65_1, L_65_2, L_65_3, L_65_4, C_65, L_66_0, L_66_1, L_66_2, L_66_3, C_66, L_129_0, L_129_1, L_129_2, L_129_3, C_129, L_198_0, L_198_1, L_198_2, L_198_3, L_198_4, L_198_5, L_198_6, L_198_7, L_198_8, L_198_9, L_198_10, L_198_11, L_198_12, L_198_13, L_198_14, L_198_15, L_198_16, L_198_17, L_198_18, L_198_19, L_198_20, L_198_21, L_198_22, L_198_23, L_198_24, L_198_25, L_198_26, L_198_27, L_198_28, L_198_29, L_198_30, L_198_31, L_198_32, L_198_33, L_198_34, L_198_35, L_198_36, L_198_37, L_198_38, L_198_39, L_198_40, L_198_41, L_198_42, L_198_43, L_198_44, L_198_45, L_198_46, L_198_47, L_198_48, C_198, A_199, A_200, A_201, A_202, A_203, A_204, A_205, A_206, A_207, A_208, A_209, A_210, A_211, A_212, A_213, A_214, A_215, A_216, A_217, A_218, A_219, A_220, A_221, A_222, A_223, A_224, A_225, A_226, A_227, A_228, A_128, A_191, A_rf, A_rs, A_rt, Q_4, Q_67, Q_130, t_100_0_1, t_100_0_2, t_100_0_3, t_100_0_4, t_100_0_5, t_100_0_6, t_100_0_7, t_100_0_8, t_100_0_9, t_100_0_10, t_100_0_11, t_100_0_12, t_100_0_13, t_100_0_14, t_100_0_15, t_100_0_16, t_100_0_17, t_100_0_18, t_100_0_19, t_100_0_20, t_100_0_21, t_100_0_22, c0, w, w1, w2, w3, w4', s3, cc3, T2, T1, w5]
      · have hk : k_lay B s t r c m = 3 := by
          unfold k_lay
          rw [cifF (fun h => h c1), cifF (fun h => h c2), cifT c3]
        refine ⟨gjunk G 6, mvB (chB B a m) t r c, c_100 _ ?_, KP.ch.tr KP.mv, AL.jk (by omega) (by omega), fun h => absurd h (by rw [hk]; decide), fun _ => ⟨_, _, _, _, _, _, hR'.jk⟩⟩
        rw [hk, cifF (p := (3 : Int) = 0) (by omega)]
        generalize rsT B s t r c m = R at *
        unfold t_100_0
        simp (disch := omega) only [rI_d, rJ_d, rR_d, rN_d, wF_d, xI_d, xJ_d, xD_d, xQ_d, yI_d, yJ_d, yD_d, yQ_d, dI_s, dJ_s, dR_s, dN_s, dN_n, dH_s, dX_s, dL_s, dD_s, dQ_s, bC_r, bC_t, kI_s, kJ_s, kF_s, kD_s, kR_s, kV_s, I_lit, I_neg, I_add, I_sub, I_mul, I_ltT, I_ltF, I_leT, I_leF, I_eqT, I_eqF, c_int, c_long, c_obj, c_arr, c_bool, c_boolN, c_boolF, vn_bool, c_charN, vn_char, b2_f, b2_t, Int.toNat_natCast, ↓reduceIte, eq_self, and_self, and_true, true_and, not_false_eq_true, not_true_eq_false, L_0_0, L_0_1, L_0_2, L_0_3, L_0_4, L_0_5, L_0_6, L_0_7, L_0_8, L_0_9, L_0_10, L_0_11, L_0_12, L_0_13, L_0_14, L_0_15, C_0, L_1_0, L_1_1, L_1_2, C_1, L_2_0, L_2_1, L_2_2, C_2, L_3_0, L_3_1, L_3_2, C_3, L_65_0, L_65_1, L_65_2, L_65_3, L_65_4, C_65, L_66_0, L_66_1, L_66_2, L_66_3, C_66, L_129_0, L_129_1, L_129_2, L_129_3, C_129, L_198_0, L_198_1, L_198_2, L_198_3, L_198_4, L_198_5, L_198_6, L_198_7, L_198_8, L_198_9, L_198_10, L_198_11, L_198_12, L_198_13, L_198_14, L_198_15, L_198_16, L_198_17, L_198_18, L_198_19, L_198_20, L_198_21, L_198_22, L_198_23, L_198_24, L_198_25, L_198_26, L_198_27, L_198_28, L_198_29, L_198_30, L_198_31, L_198_32, L_198_33, L_198_34, L_198_35, L_198_36, L_198_37, L_198_38, L_198_39, L_198_40, L_198_41, L_198_42, L_198_43, L_198_44, L_198_45, L_198_46, L_198_47, L_198_48, C_198, A_199, A_200, A_201, A_202, A_203, A_204, A_205, A_206, A_207, A_208, A_209, A_210, A_211, A_212, A_213, A_214, A_215, A_216, A_217, A_218, A_219, A_220, A_221, A_222, A_223, A_224, A_225, A_226, A_227, A_228, A_128, A_191, A_rf, A_rs, A_rt, Q_4, Q_67, Q_130, t_100_0_1, t_100_0_2, t_100_0_3, t_100_0_4, t_100_0_5, t_100_0_6, t_100_0_7, t_100_0_8, t_100_0_9, t_100_0_10, t_100_0_11, t_100_0_12, t_100_0_13, t_100_0_14, t_100_0_15, t_100_0_16, t_100_0_17, t_100_0_18, t_100_0_19, t_100_0_20, t_100_0_21, t_100_0_22, c0, w, w1, w2, w3, w4', F2, gjunk_hH]
        rfl
    · have hk : k_lay B s t r c m = 2 := by
        unfold k_lay
        rw [cifF (fun h => h c1), cifT c2]
      have w2 := w_164F (K := K) (d := d) (H := hH K N G (chB B a m)) (by omega) h2 c2
      have hR' : CR K N G (chB B a m) ro (tw B) sh st pc cs ps := hR.sq (fun o k _ h => ch_ne h) rfl
      refine ⟨gjunk G 6, chB B a m, c_100 _ ?_, KP.ch, AL.jk (by omega) (by omega), fun h => absurd h (by rw [hk]; decide), fun _ => ⟨_, _, _, _, _, _, hR'.jk⟩⟩
      rw [hk, cifF (p := (2 : Int) = 0) (by omega)]
      unfold t_100_0
      simp (disch := omega) only [rI_d, rJ_d, rR_d, rN_d, wF_d, xI_d, xJ_d, xD_d, xQ_d, yI_d, yJ_d, yD_d, yQ_d, dI_s, dJ_s, dR_s, dN_s, dN_n, dH_s, dX_s, dL_s, dD_s, dQ_s, bC_r, bC_t, kI_s, kJ_s, kF_s, kD_s, kR_s, kV_s, I_lit, I_neg, I_add, I_sub, I_mul, I_ltT, I_ltF, I_leT, I_leF, I_eqT, I_eqF, c_int, c_long, c_obj, c_arr, c_bool, c_boolN, c_boolF, vn_bool, c_charN, vn_char, b2_f, b2_t, Int.toNat_natCast, ↓reduceIte, eq_self, and_self, and_true, true_and, not_false_eq_true, not_true_eq_false, L_0_0, L_0_1, L_0_2, L_0_3, L_0_4, L_0_5, L_0_6, L_0_7, L_0_8, L_0_9, L_0_10, L_0_11, L_0_12, L_0_13, L_0_14, L_0_15, C_0, L_1_0, L_1_1, L_1_2, C_1, L_2_0, L_2_1, L_2_2, C_2, L_3_0, L_3_1, L_3_2, C_3, L_65_0, L_65_1, L_65_2, L_65_3, L_65_4, C_65, L_66_0, L_66_1, L_66_2, L_66_3, C_66, L_129_0, L_129_1, L_129_2, L_129_3, C_129, L_198_0, L_198_1, L_198_2, L_198_3, L_198_4, L_198_5, L_198_6, L_198_7, L_198_8, L_198_9, L_198_10, L_198_11, L_198_12, L_198_13, L_198_14, L_198_15, L_198_16, L_198_17, L_198_18, L_198_19, L_198_20, L_198_21, L_198_22, L_198_23, L_198_24, L_198_25, L_198_26, L_198_27, L_198_28, L_198_29, L_198_30, L_198_31, L_198_32, L_198_33, L_198_34, L_198_35, L_198_36, L_198_37, L_198_38, L_198_39, L_198_40, L_198_41, L_198_42, L_198_43, L_198_44, L_198_45, L_198_46, L_198_47, L_198_48, C_198, A_199, A_200, A_201, A_202, A_203, A_204, A_205, A_206, A_207, A_208, A_209, A_210, A_211, A_212, A_213, A_214, A_215, A_216, A_217, A_218, A_219, A_220, A_221, A_222, A_223, A_224, A_225, A_226, A_227, A_228, A_128, A_191, A_rf, A_rs, A_rt, Q_4, Q_67, Q_130, t_100_0_1, t_100_0_2, t_100_0_3, t_100_0_4, t_100_0_5, t_100_0_6, t_100_0_7, t_100_0_8, t_100_0_9, t_100_0_10, t_100_0_11, t_100_0_12, t_100_0_13, t_100_0_14, t_100_0_15, t_100_0_16, t_100_0_17, t_100_0_18, t_100_0_19, t_100_0_20, t_100_0_21, t_100_0_22, c0, w, w1, w2, gjunk_hH]
      rfl
  · have hk : k_lay B s t r c m = 1 := by
      unfold k_lay
      rw [cifT c1]
    have w := w_157F (d := d) (by omega) hR (by omega) h1 (by omega)
    refine ⟨gjunk G 6, B, c_100 _ ?_, KP.rf, AL.jk (by omega) (by omega), fun h => absurd h (by rw [hk]; decide), fun _ => ⟨_, _, _, _, _, _, hR.jk⟩⟩
    rw [hk, cifF (p := (1 : Int) = 0) (by omega)]
    unfold t_100_0
    simp (disch := omega) only [rI_d, rJ_d, rR_d, rN_d, wF_d, xI_d, xJ_d, xD_d, xQ_d, yI_d, yJ_d, yD_d, yQ_d, dI_s, dJ_s, dR_s, dN_s, dN_n, dH_s, dX_s, dL_s, dD_s, dQ_s, bC_r, bC_t, kI_s, kJ_s, kF_s, kD_s, kR_s, kV_s, I_lit, I_neg, I_add, I_sub, I_mul, I_ltT, I_ltF, I_leT, I_leF, I_eqT, I_eqF, c_int, c_long, c_obj, c_arr, c_bool, c_boolN, c_boolF, vn_bool, c_charN, vn_char, b2_f, b2_t, Int.toNat_natCast, ↓reduceIte, eq_self, and_self, and_true, true_and, not_false_eq_true, not_true_eq_false, L_0_0, L_0_1, L_0_2, L_0_3, L_0_4, L_0_5, L_0_6, L_0_7, L_0_8, L_0_9, L_0_10, L_0_11, L_0_12, L_0_13, L_0_14, L_0_15, C_0, L_1_0, L_1_1, L_1_2, C_1, L_2_0, L_2_1, L_2_2, C_2, L_3_0, L_3_1, L_3_2, C_3, L_65_0, L_65_1, L_65_2, L_65_3, L_65_4, C_65, L_66_0, L_66_1, L_66_2, L_66_3, C_66, L_129_0, L_129_1, L_129_2, L_129_3, C_129, L_198_0, L_198_1, L_198_2, L_198_3, L_198_4, L_198_5, L_198_6, L_198_7, L_198_8, L_198_9, L_198_10, L_198_11, L_198_12, L_198_13, L_198_14, L_198_15, L_198_16, L_198_17, L_198_18, L_198_19, L_198_20, L_198_21, L_198_22, L_198_23, L_198_24, L_198_25, L_198_26, L_198_27, L_198_28, L_198_29, L_198_30, L_198_31, L_198_32, L_198_33, L_198_34, L_198_35, L_198_36, L_198_37, L_198_38, L_198_39, L_198_40, L_198_41, L_198_42, L_198_43, L_198_44, L_198_45, L_198_46, L_198_47, L_198_48, C_198, A_199, A_200, A_201, A_202, A_203, A_204, A_205, A_206, A_207, A_208, A_209, A_210, A_211, A_212, A_213, A_214, A_215, A_216, A_217, A_218, A_219, A_220, A_221, A_222, A_223, A_224, A_225, A_226, A_227, A_228, A_128, A_191, A_rf, A_rs, A_rt, Q_4, Q_67, Q_130, t_100_0_1, t_100_0_2, t_100_0_3, t_100_0_4, t_100_0_5, t_100_0_6, t_100_0_7, t_100_0_8, t_100_0_9, t_100_0_10, t_100_0_11, t_100_0_12, t_100_0_13, t_100_0_14, t_100_0_15, t_100_0_16, t_100_0_17, t_100_0_18, t_100_0_19, t_100_0_20, t_100_0_21, t_100_0_22, c0, w]
    rfl
def exN (k : Int) : Nat := if k = 1 then 3 else if k = 2 then 4 else 1
theorem w_104 (hd : 10 ≤ d) (hw : MW B) (hu : RU (tw B)) (hR : CR K N G B ro (tw B) sh st pc cs ps) (hnx : (B.1 198 18) < 1000) {s : Int} (h1 : R32 s) (hm : 0 ≤ m ∧ m ≤ 1) : ∃ G' B', gCa K d 104 [.ref N, .int (I s), .int (I m)] (hH K N G B) =
    some (cif (k_nest B s m = 0) (.inl (some (.int (I ((B.1 198 18)))))) (.inr (exN (k_nest B s m))), hH K N G' B') ∧ KP B B' ∧ AL G G' 2 206 ∧ (k_nest B s m = 0 → RM K N G' B' (tw (putB B s.toNat (dl (tw B) s.toNat) ((((nsT B s m).getD 0 : Nat) : Int) % 4) ((((nsT B s m).getD 0 : Nat) : Int) / 48) ((((nsT B s m).getD 0 : Nat) : Int) / 4 % 12) m))) ∧ (k_nest B s m ≠ 0 → RM K N G' B' (tw B)) := by
  obtain ⟨d, rfl, hd'⟩ := d_succ (show 9 + 1 ≤ d by omega)
  have e3 : (B.1 198 7) = (sh.length : Int) := hR.nn.1
  have e4 : (B.1 198 17) = (pc.length : Int) := hR.nn.2.2
  have q := mw_shapes hw
  have q2 := mw_many hw
  have c0 : ∀ B, g_cls (hH K N G B) N = some 0 := fun B => cl_of (c := 0) (hH_x (B := B))
  by_cases c1 : 0 ≤ s ∧ s ≤ (B.1 198 7) - 1
  · obtain ⟨a, ha⟩ := at_lt (show s.toNat < sh.length by omega)
    have w := w_157 (d := d) (by omega) hR (by omega) c1.1 ha
    have w1 := w_163 (K := K) (N := N) (G := G) (B := B) (d := d) (a := a) (by omega) hm
    have hX := CR.spot hw hR (by omega) ha hm
    have hR' : CR K N G (chB B a m) ro (tw B) sh st pc cs ps := hR.sq (fun o k _ h => ch_ne h) rfl
    obtain ⟨B2, w2, hq, hj⟩ := w_173 (d := d) (by omega) hw hX (hu s.toNat (show (s.toNat : Int) < (B.1 198 7) by omega)) (Or.inl rfl) hR'.2.2.1 (shb_of hw)
    have w2' : gCa K d 173 [.ref N, .ref (N + 66)] (hH K N G (chB B a m)) = some (.inl (some (.int (I (b2 (nsT B s m ≠ none))))), hH K N G B2) := w2
    have hR2 : CR K N G B2 ro (tw B) sh st pc cs ps := hR'.sq (fun o k _ h => hq.1 o k (Or.inl h)) (by rw [hq.2])
    have hkp : KP B B2 := KP.ch.tr hq.kp
    have hj' : ∀ j, nsT B s m = some j → SPX K N G B2 (tw B) ro a s.toNat (cs s.toNat) ((j : Int) % 4) m ((j : Int) / 48) ((j : Int) / 4 % 12) := hj
    have T1 := w_151T (K := K) (d := d) (H := hH K N G B2) (by omega)
    have F1 := w_151F (K := K) (d := d) (H := hH K N G B2) (by omega)
    have s3 := hR2.s3 (d := d) (by omega)
    have cc3 := cl_of hR2.l3.o3
    rcases hz : nsT B s m with _ | j
    · have hk : k_nest B s m = 2 := by
        unfold k_nest
        rw [cifF (fun h => h c1), cifT hz]
      rw [hz, b2F (fun h => h rfl)] at w2'
      refine ⟨gjunk G 6, B2, c_104 _ ?_, hkp, AL.jk (by omega) (by omega), fun h => absurd h (by rw [hk]; decide), fun _ => ⟨_, _, _, _, _, _, hR2.jk⟩⟩
      rw [hk, cifF (p := (2 : Int) = 0) (by omega)]
      unfold t_104_0
      simp (disch := omega) only [rI_d, rJ_d, rR_d, rN_d, wF_d, xI_d, xJ_d, xD_d, xQ_d, yI_d, yJ_d, yD_d, yQ_d, dI_s, dJ_s, dR_s, dN_s, dN_n, dH_s, dX_s, dL_s, dD_s, dQ_s, bC_r, bC_t, kI_s, kJ_s, kF_s, kD_s, kR_s, kV_s, I_lit, I_neg, I_add, I_sub, I_mul, I_ltT, I_ltF, I_leT, I_leF, I_eqT, I_eqF, c_int, c_long, c_obj, c_arr, c_bool, c_boolN, c_boolF, vn_bool, c_charN, vn_char, b2_f, b2_t, Int.toNat_natCast, ↓reduceIte, eq_self, and_self, and_true, true_and, not_false_eq_true, not_true_eq_false, L_0_0, L_0_1, L_0_2, L_0_3, L_0_4, L_0_5, L_0_6, L_0_7, L_0_8, L_0_9, L_0_10, L_0_11, L_0_12, L_0_13, L_0_14, L_0_15, C_0, L_1_0, L_1_1, L_1_2, C_1, L_2_0, L_2_1, L_2_2, C_2, L_3_0, L_3_1, L_3_2, C_3, L_65_0, L_65_1, L_65_2, L_65_3, L_65_4, C_65, L_66_0, L_66_1, L_66_2, L_66_3, C_66, L_129_0, L_129_1, L_129_2, L_129_3, C_129, L_198_0, L_198_1, L_198_2, L_198_3, L_198_4, L_198_5, L_198_6, L_198_7, L_198_8, L_198_9, L_198_10, L_198_11, L_198_12, L_198_13, L_198_14, L_198_15, L_198_16, L_198_17, L_198_18, L_198_19, L_198_20, L_198_21, L_198_22, L_198_23, L_198_24, L_198_25, L_198_26, L_198_27, L_198_28, L_198_29, L_198_30, L_198_31, L_198_32, L_198_33, L_198_34, L_198_35, L_198_36, L_198_37, L_198_38, L_198_39, L_198_40, L_198_41, L_198_42, L_198_43, L_198_44, L_198_45, L_198_46, L_198_47, L_198_48, C_198, A_199, A_200, A_201, A_202, A_203, A_204, A_205, A_206, A_207, A_208, A_209, A_210, A_211, A_212, A_213, A_214, A_215, A_216, A_217, A_218, A_219, A_220, A_221, A_222, A_223, A_224, A_225, A_226, A_227, A_228, A_128, A_191, A_rf, A_rs, A_rt, Q_4, Q_67, Q_130, t_104_0_1, t_104_0_2, t_104_0_3, t_104_0_4, t_104_0_5, t_104_0_6, t_104_0_7, t_104_0_8, t_104_0_9, t_104_0_10, t_104_0_11, c0, w, w1, w2', gjunk_hH]
      rfl
    · rw [hz, b2T (fun h => by cases h)] at w2'
      by_cases c4 : (B.1 198 17) = 40
      · have hk : k_nest B s m = 3 := by
          unfold k_nest
          rw [cifF (fun h => h c1), cifF (by rw [hz]; exact fun h => by cases h), cifT c4]
        refine ⟨gjunk G 6, B2, c_104 _ ?_, hkp, AL.jk (by omega) (by omega), fun h => absurd h (by rw [hk]; decide), fun _ => ⟨_, _, _, _, _, _, hR2.jk⟩⟩
        rw [hk, cifF (p := (3 : Int) = 0) (by omega)]
        unfold t_104_0
        simp (disch := omega) only [rI_d, rJ_d, rR_d, rN_d, wF_d, xI_d, xJ_d, xD_d, xQ_d, yI_d, yJ_d, yD_d, yQ_d, dI_s, dJ_s, dR_s, dN_s, dN_n, dH_s, dX_s, dL_s, dD_s, dQ_s, bC_r, bC_t, kI_s, kJ_s, kF_s, kD_s, kR_s, kV_s, I_lit, I_neg, I_add, I_sub, I_mul, I_ltT, I_ltF, I_leT, I_leF, I_eqT, I_eqF, c_int, c_long, c_obj, c_arr, c_bool, c_boolN, c_boolF, vn_bool, c_charN, vn_char, b2_f, b2_t, Int.toNat_natCast, ↓reduceIte, eq_self, and_self, and_true, true_and, not_false_eq_true, not_true_eq_false, L_0_0, L_0_1, L_0_2, L_0_3, L_0_4, L_0_5, L_0_6, L_0_7, L_0_8, L_0_9, L_0_10, L_0_11, L_0_12, L_0_13, L_0_14, L_0_15, C_0, L_1_0, L_1_1, L_1_2, C_1, L_2_0, L_2_1, L_2_2, C_2, L_3_0, L_3_1, L_3_2, C_3, L_65_0, L_65_1, L_65_2, L_65_3, L_65_4, C_65, L_66_0, L_66_1, L_66_2, L_66_3, C_66, L_129_0, L_129_1, L_129_2, L_129_3, C_129, L_198_0, L_198_1, L_198_2, L_198_3, L_198_4, L_198_5, L_198_6, L_198_7, L_198_8, L_198_9, L_198_10, L_198_11, L_198_12, L_198_13, L_198_14, L_198_15, L_198_16, L_198_17, L_198_18, L_198_19, L_198_20, L_198_21, L_198_22, L_198_23, L_198_24, L_198_25, L_198_26, L_198_27, L_198_28, L_198_29, L_198_30, L_198_31, L_198_32, L_198_33, L_198_34, L_198_35, L_198_36, L_198_37, L_198_38, L_198_39, L_198_40, L_198_41, L_198_42, L_198_43, L_198_44, L_198_45, L_198_46, L_198_47, L_198_48, C_198, A_199, A_200, A_201, A_202, A_203, A_204, A_205, A_206, A_207, A_208, A_209, A_210, A_211, A_212, A_213, A_214, A_215, A_216, A_217, A_218, A_219, A_220, A_221, A_222, A_223, A_224, A_225, A_226, A_227, A_228, A_128, A_191, A_rf, A_rs, A_rt, Q_4, Q_67, Q_130, t_104_0_1, t_104_0_2, t_104_0_3, t_104_0_4, t_104_0_5, t_104_0_6, t_104_0_7, t_104_0_8, t_104_0_9, t_104_0_10, t_104_0_11, c0, w, w1, w2', s3, cc3, F1, gjunk_hH]
        rfl
      · have hk : k_nest B s m = 0 := by
          unfold k_nest
          rw [cifF (fun h => h c1), cifF (by rw [hz]; exact fun h => by cases h), cifF c4]
        have hX2 := hj' j hz
        have hz' := hz
        unfold nsT nst at hz'
        have hf := fst1_some _ _ _ hz'
        have hins : ins (tw B) (cs s.toNat) ((j : Int) % 4) m ((j : Int) / 48) ((j : Int) / 4 % 12) := by
          have : rsn (tw B) (B.2.1 215) (rmT (tw B)) s.toNat (cs s.toNat) ((j : Int) % 4) ((j : Int) / 48) ((j : Int) / 4 % 12) m = 45 := by rw [rsn_p (hR.sp ha).2]; exact hf.1
          exact (ins_of_rsn this).2.2.2.1
        obtain ⟨G', B', ro', p, w5, v1, v2, v3⟩ := w_167 (d := d) (by omega) hw hkp hR2 hX2 ha (by omega) hins (by omega) hnx
        refine ⟨G', B', c_104 _ ?_, hkp.tr v1, v2, fun _ => ⟨_, _, _, _, _, _, v3⟩, fun h => absurd hk h⟩
        rw [hk, cifT (p := (0 : Int) = 0) rfl]
        unfold t_104_0
        simp (disch := omega) only [rI_d, rJ_d, rR_d, rN_d, wF_d, xI_d, xJ_d, xD_d, xQ_d, yI_d, yJ_d, yD_d, yQ_d, dI_s, dJ_s, dR_s, dN_s, dN_n, dH_s, dX_s, dL_s, dD_s, dQ_s, bC_r, bC_t, kI_s, kJ_s, kF_s, kD_s, kR_s, kV_s, I_lit, I_neg, I_add, I_sub, I_mul, I_ltT, I_ltF, I_leT, I_leF, I_eqT, I_eqF, c_int, c_long, c_obj, c_arr, c_bool, c_boolN, c_boolF, vn_bool, c_charN, vn_char, b2_f, b2_t, Int.toNat_natCast, ↓reduceIte, eq_self, and_self, and_true, true_and, not_false_eq_true, not_true_eq_false, L_0_0, L_0_1, L_0_2, L_0_3, L_0_4, L_0_5, L_0_6, L_0_7, L_0_8, L_0_9, L_0_10, L_0_11, L_0_12, L_0_13, L_0_14, L_0_15, C_0, L_1_0, L_1_1, L_1_2, C_1, L_2_0, L_2_1, L_2_2, C_2, L_3_0, L_3_1, L_3_2, C_3, L_65_0, L_65_1, L_65_2, L_65_3, L_65_4, C_65, L_66_0, L_66_1, L_66_2, L_66_3, C_66, L_129_0, L_129_1, L_129_2, L_129_3, C_129, L_198_0, L_198_1, L_198_2, L_198_3, L_198_4, L_198_5, L_198_6, L_198_7, L_198_8, L_198_9, L_198_10, L_198_11, L_198_12, L_198_13, L_198_14, L_198_15, L_198_16, L_198_17, L_198_18, L_198_19, L_198_20, L_198_21, L_198_22, L_198_23, L_198_24, L_198_25, L_198_26, L_198_27, L_198_28, L_198_29, L_198_30, L_198_31, L_198_32, L_198_33, L_198_34, L_198_35, L_198_36, L_198_37, L_198_38, L_198_39, L_198_40, L_198_41, L_198_42, L_198_43, L_198_44, L_198_45, L_198_46, L_198_47, L_198_48, C_198, A_199, A_200, A_201, A_202, A_203, A_204, A_205, A_206, A_207, A_208, A_209, A_210, A_211, A_212, A_213, A_214, A_215, A_216, A_217, A_218, A_219, A_220, A_221, A_222, A_223, A_224, A_225, A_226, A_227, A_228, A_128, A_191, A_rf, A_rs, A_rt, Q_4, Q_67, Q_130, t_104_0_1, t_104_0_2, t_104_0_3, t_104_0_4, t_104_0_5, t_104_0_6, t_104_0_7, t_104_0_8, t_104_0_9, t_104_0_10, t_104_0_11, c0, w, w1, w2', s3, cc3, T1, w5]
  · have hk : k_nest B s m = 1 := by
      unfold k_nest
      rw [cifT c1]
    have w := w_157F (d := d) (by omega) hR (by omega) h1 (by omega)
    refine ⟨gjunk G 6, B, c_104 _ ?_, KP.rf, AL.jk (by omega) (by omega), fun h => absurd h (by rw [hk]; decide), fun _ => ⟨_, _, _, _, _, _, hR.jk⟩⟩
    rw [hk, cifF (p := (1 : Int) = 0) (by omega)]
    unfold t_104_0
    simp (disch := omega) only [rI_d, rJ_d, rR_d, rN_d, wF_d, xI_d, xJ_d, xD_d, xQ_d, yI_d, yJ_d, yD_d, yQ_d, dI_s, dJ_s, dR_s, dN_s, dN_n, dH_s, dX_s, dL_s, dD_s, dQ_s, bC_r, bC_t, kI_s, kJ_s, kF_s, kD_s, kR_s, kV_s, I_lit, I_neg, I_add, I_sub, I_mul, I_ltT, I_ltF, I_leT, I_leF, I_eqT, I_eqF, c_int, c_long, c_obj, c_arr, c_bool, c_boolN, c_boolF, vn_bool, c_charN, vn_char, b2_f, b2_t, Int.toNat_natCast, ↓reduceIte, eq_self, and_self, and_true, true_and, not_false_eq_true, not_true_eq_false, L_0_0, L_0_1, L_0_2, L_0_3, L_0_4, L_0_5, L_0_6, L_0_7, L_0_8, L_0_9, L_0_10, L_0_11, L_0_12, L_0_13, L_0_14, L_0_15, C_0, L_1_0, L_1_1, L_1_2, C_1, L_2_0, L_2_1, L_2_2, C_2, L_3_0, L_3_1, L_3_2, C_3, L_65_0, L_65_1, L_65_2, L_65_3, L_65_4, C_65, L_66_0, L_66_1, L_66_2, L_66_3, C_66, L_129_0, L_129_1, L_129_2, L_129_3, C_129, L_198_0, L_198_1, L_198_2, L_198_3, L_198_4, L_198_5, L_198_6, L_198_7, L_198_8, L_198_9, L_198_10, L_198_11, L_198_12, L_198_13, L_198_14, L_198_15, L_198_16, L_198_17, L_198_18, L_198_19, L_198_20, L_198_21, L_198_22, L_198_23, L_198_24, L_198_25, L_198_26, L_198_27, L_198_28, L_198_29, L_198_30, L_198_31, L_198_32, L_198_33, L_198_34, L_198_35, L_198_36, L_198_37, L_198_38, L_198_39, L_198_40, L_198_41, L_198_42, L_198_43, L_198_44, L_198_45, L_198_46, L_198_47, L_198_48, C_198, A_199, A_200, A_201, A_202, A_203, A_204, A_205, A_206, A_207, A_208, A_209, A_210, A_211, A_212, A_213, A_214, A_215, A_216, A_217, A_218, A_219, A_220, A_221, A_222, A_223, A_224, A_225, A_226, A_227, A_228, A_128, A_191, A_rf, A_rs, A_rt, Q_4, Q_67, Q_130, t_104_0_1, t_104_0_2, t_104_0_3, t_104_0_4, t_104_0_5, t_104_0_6, t_104_0_7, t_104_0_8, t_104_0_9, t_104_0_10, t_104_0_11, c0, w]
    rfl
end
