/-! PURE 54: the room is asked -/
set_option maxRecDepth 100000
section
variable {K : gK} {d N : Nat} {G : gH} {B : gB} {M : gM} {ro : Nat → Nat} {sh st pc : List Nat} {cs : Nat → List Nat} {ps : Nat → List (Nat × Int)}
theorem CR.l1 (h : CR K N G B ro M sh st pc cs ps) : CL K N G B ro 1 sh := h.2.2.2.1
theorem CR.l2 (h : CR K N G B ro M sh st pc cs ps) : CL K N G B ro 2 st := h.2.2.2.2.1
theorem CR.l3 (h : CR K N G B ro M sh st pc cs ps) : CL K N G B ro 3 pc := h.2.2.2.2.2.1
theorem CR.nn (h : CR K N G B ro M sh st pc cs ps) : (M.1 7) = (sh.length : Int) ∧ (M.1 28) = (st.length : Int) ∧ (M.1 17) = (pc.length : Int) := h.2.2.2.2.2.2.1
theorem CR.sp (h : CR K N G B ro M sh st pc cs ps) {i a : Nat} (e : sh[i]? = some a) : SHP K (PD N) (hH K N G B) ro a i M (cs i) ∧ (cs i).Perm (dl M i) := h.2.2.2.2.2.2.2.1 i a e
theorem CR.sy (h : CR K N G B ro M sh st pc cs ps) {i a : Nat} (e : st[i]? = some a) : STP K (PD N) (hH K N G B) ro a i M (ps i) sh ∧ PSW (ps i) M i sh.length := h.2.2.2.2.2.2.2.2.1 i a e
theorem CR.pp (h : CR K N G B ro M sh st pc cs ps) {j a : Nat} (e : pc[j]? = some a) : PCP (hH K N G B) a j M sh := h.2.2.2.2.2.2.2.2.2 j a e
theorem CR.inj (h : CR K N G B ro M sh st pc cs ps) {i j a : Nat} (e : sh[i]? = some a) (e' : sh[j]? = some a) : i = j := by
  obtain ⟨⟨_, _, _, _, _, _, _, r, _⟩, _⟩ := h.sp e
  obtain ⟨⟨_, _, _, _, _, _, _, r', _⟩, _⟩ := h.sp e'
  omega
theorem dl_lt {i k : Nat} (h : k ∈ dl M i) : k < 25 := List.mem_range.mp (List.mem_filter.mp h).1
theorem dl_len {i : Nat} : (dl M i).length ≤ 25 := by
  have := List.length_filter_le (fun k => decide (M.2 202 (25 * i + k) ≠ 0)) (List.range 25)
  rw [List.length_range] at this
  exact this
theorem CR.cs25 (h : CR K N G B ro M sh st pc cs ps) {i a : Nat} (e : sh[i]? = some a) : (cs i).length ≤ 25 ∧ ∀ k ∈ cs i, k < 25 := by
  have q := (h.sp e).2
  exact ⟨by rw [q.length_eq]; exact dl_len, fun k hk => dl_lt (q.mem_iff.mp hk)⟩
/-- fields of a piece -/
theorem pc_rd {H : gH} {a b : Nat} {x0 x2 x3 x4 x5 : Value} (h : H.1 a = some (.inr (7, [x0, .ref b, x2, x3, x4, x5]))) : g_cls H a = some 7 ∧ g_gf H a 7 0 = some x0 ∧ g_gf H a 7 1 = some (.ref b) ∧ g_gf H a 7 2 = some x2 ∧ g_gf H a 7 3 = some x3 ∧ g_gf H a 7 4 = some x4 ∧ g_gf H a 7 5 = some x5 := ⟨cl_of h, gf_of h 0, gf_of h 1, gf_of h 2, gf_of h 3, gf_of h 4, gf_of h 5⟩
theorem sh_rd {H : gH} {a i p mk vr : Nat} (h : H.1 a = some (.inr (4, shF K M i p mk vr))) : g_cls H a = some 4 ∧ g_gf H a 4 0 = some (.ref (K.2 (ru (M.2 200 i)))) ∧ g_gf H a 4 1 = some (.int (I (M.2 201 i))) ∧ g_gf H a 4 2 = some (.ref p) ∧ g_gf H a 4 3 = some (.int (I (M.2 204 i))) ∧ g_gf H a 4 4 = some (.ref mk) ∧ g_gf H a 4 5 = some (.int (I (M.2 208 (2 * i)))) ∧ g_gf H a 4 6 = some (.int (I (M.2 208 (2 * i + 1)))) ∧ g_gf H a 4 7 = some (.int (I (M.2 207 i))) ∧ g_gf H a 4 8 = some (.ref vr) := ⟨cl_of h, gf_of h 0, gf_of h 1, gf_of h 2, gf_of h 3, gf_of h 4, gf_of h 5, gf_of h 6, gf_of h 7, gf_of h 8⟩
theorem at_lt {α : Type} {l : List α} {i : Nat} (h : i < l.length) : ∃ x, l[i]? = some x := ⟨_, List.getElem?_eq_getElem h⟩
theorem CR.g3 (hd : 3 ≤ d) (h : CR K N G B ro M sh st pc cs ps) (hl : pc.length ≤ 40) {y : Int} {x : Nat} (hy : 0 ≤ y) (hx : pc[y.toNat]? = some x) : gCa K d 178 [.ref (N + 3), .int (I y)] (hH K N G B) = some (.inl (some (.ref x)), hH K N G B) := w_178 hd h.l3.o3 h.l3.2.2.1 hy hx (by omega)
theorem CR.g1 (hd : 3 ≤ d) (h : CR K N G B ro M sh st pc cs ps) (hl : sh.length ≤ 8) {y : Int} {x : Nat} (hy : 0 ≤ y) (hx : sh[y.toNat]? = some x) : gCa K d 178 [.ref (N + 1), .int (I y)] (hH K N G B) = some (.inl (some (.ref x)), hH K N G B) := w_178 hd h.l1.o1 h.l1.2.2.1 hy hx (by omega)
theorem CR.g2 (hd : 3 ≤ d) (h : CR K N G B ro M sh st pc cs ps) (hl : st.length ≤ 4) {y : Int} {x : Nat} (hy : 0 ≤ y) (hx : st[y.toNat]? = some x) : gCa K d 178 [.ref (N + 2), .int (I y)] (hH K N G B) = some (.inl (some (.ref x)), hH K N G B) := w_178 hd h.l2.o2 h.l2.2.2.1 hy hx (by omega)
theorem CR.s3 (hd : 1 ≤ d) (h : CR K N G B ro M sh st pc cs ps) : gCa K d 110 [.ref (N + 3)] (hH K N G B) = some (.inl (some (.int (I (pc.length : Int)))), hH K N G B) := w_110 hd h.l3.o3
theorem CR.s1 (hd : 1 ≤ d) (h : CR K N G B ro M sh st pc cs ps) : gCa K d 110 [.ref (N + 1)] (hH K N G B) = some (.inl (some (.int (I (sh.length : Int)))), hH K N G B) := w_110 hd h.l1.o1
theorem CR.s2 (hd : 1 ≤ d) (h : CR K N G B ro M sh st pc cs ps) : gCa K d 110 [.ref (N + 2)] (hH K N G B) = some (.inl (some (.int (I (st.length : Int)))), hH K N G B) := w_110 hd h.l2.o2
theorem w_30 (hd : 2 ≤ d) (hR : CR K N G B ro M sh st pc cs ps) : gCa K d 30 [.ref N] (hH K N G B) = some (.inl (some (.int (I ((M.1 17))))), hH K N G B) := by
  obtain ⟨d, rfl, hd'⟩ := d_succ (show 1 + 1 ≤ d by omega)
  have e := hR.nn.2.2
  have s3 := hR.s3 (d := d) (by omega)
  have c3 := cl_of hR.l3.o3
  refine c_30 _ ?_
  unfold t_30_0
  simp (disch := omega) only [rI_d, rJ_d, rR_d, rN_d, wF_d, xI_d, xJ_d, xD_d, xQ_d, yI_d, yJ_d, yD_d, yQ_d, dI_s, dJ_s, dR_s, dN_s, dN_n, dH_s, dX_s, dL_s, dD_s, dQ_s, bC_r, bC_t, kI_s, kJ_s, kF_s, kD_s, kR_s, kV_s, I_lit, I_neg, I_add, I_sub, I_mul, I_ltT, I_ltF, I_leT, I_leF, I_eqT, I_eqF, c_int, c_long, c_obj, c_arr, c_bool, c_boolN, c_boolF, vn_bool, c_charN, vn_char, b2_f, b2_t, Int.toNat_natCast, ↓reduceIte, eq_self, and_self, and_true, true_and, not_false_eq_true, not_true_eq_false, L_0_0, L_0_1, L_0_2, L_0_3, L_0_4, L_0_5, L_0_6, L_0_7, L_0_8, L_0_9, L_0_10, L_0_11, L_0_12, L_0_13, L_0_14, L_0_15, C_0, L_1_0, L_1_1, L_1_2, C_1, L_2_0, L_2_1, L_2_2, C_2, L_3_0, L_3_1, L_3_2, C_3, L_65_0, L_65_1, L_65_2, L_65_3, L_65_4, C_65, L_66_0, L_66_1, L_66_2, L_66_3, C_66, L_129_0, L_129_1, L_129_2, L_129_3, C_129, L_198_0, L_198_1, L_198_2, L_198_3, L_198_4, L_198_5, L_198_6, L_198_7, L_198_8, L_198_9, L_198_10, L_198_11, L_198_12, L_198_13, L_198_14, L_198_15, L_198_16, L_198_17, L_198_18, L_198_19, L_198_20, L_198_21, L_198_22, L_198_23, L_198_24, L_198_25, L_198_26, L_198_27, L_198_28, L_198_29, L_198_30, L_198_31, L_198_32, L_198_33, L_198_34, L_198_35, L_198_36, L_198_37, L_198_38, L_198_39, L_198_40, L_198_41, L_198_42, L_198_43, L_198_44, L_198_45, L_198_46, L_198_47, L_198_48, C_198, A_199, A_200, A_201, A_202, A_203, A_204, A_205, A_206, A_207, A_208, A_209, A_210, A_211, A_212, A_213, A_214, A_215, A_216, A_217, A_218, A_219, A_220, A_221, A_222, A_223, A_224, A_225, A_226, A_227, A_228, A_128, A_191, A_rf, A_rs, A_rt, Q_4, Q_67, Q_130, t_30_0_1, t_30_0_2, c3, s3, e]
theorem w_42 (hd : 1 ≤ d) (hR : CR K N G B ro M sh st pc cs ps) : gCa K d 42 [.ref N] (hH K N G B) = some (.inl (some (.int (I (lng (M.2 215))))), hH K N G B) := by
  obtain ⟨d, rfl, hd'⟩ := d_succ (show 0 + 1 ≤ d by omega)
  have e := hR.2.2.1.2.2
  refine c_42 _ ?_
  unfold t_42_0
  simp (disch := omega) only [rI_d, rJ_d, rR_d, rN_d, wF_d, xI_d, xJ_d, xD_d, xQ_d, yI_d, yJ_d, yD_d, yQ_d, dI_s, dJ_s, dR_s, dN_s, dN_n, dH_s, dX_s, dL_s, dD_s, dQ_s, bC_r, bC_t, kI_s, kJ_s, kF_s, kD_s, kR_s, kV_s, I_lit, I_neg, I_add, I_sub, I_mul, I_ltT, I_ltF, I_leT, I_leF, I_eqT, I_eqF, c_int, c_long, c_obj, c_arr, c_bool, c_boolN, c_boolF, vn_bool, c_charN, vn_char, b2_f, b2_t, Int.toNat_natCast, ↓reduceIte, eq_self, and_self, and_true, true_and, not_false_eq_true, not_true_eq_false, L_0_0, L_0_1, L_0_2, L_0_3, L_0_4, L_0_5, L_0_6, L_0_7, L_0_8, L_0_9, L_0_10, L_0_11, L_0_12, L_0_13, L_0_14, L_0_15, C_0, L_1_0, L_1_1, L_1_2, C_1, L_2_0, L_2_1, L_2_2, C_2, L_3_0, L_3_1, L_3_2, C_3, L_65_0, L_65_1, L_65_2, L_65_3, L_65_4, C_65, L_66_0, L_66_1, L_66_2, L_66_3, C_66, L_129_0, L_129_1, L_129_2, L_129_3, C_129, L_198_0, L_198_1, L_198_2, L_198_3, L_198_4, L_198_5, L_198_6, L_198_7, L_198_8, L_198_9, L_198_10, L_198_11, L_198_12, L_198_13, L_198_14, L_198_15, L_198_16, L_198_17, L_198_18, L_198_19, L_198_20, L_198_21, L_198_22, L_198_23, L_198_24, L_198_25, L_198_26, L_198_27, L_198_28, L_198_29, L_198_30, L_198_31, L_198_32, L_198_33, L_198_34, L_198_35, L_198_36, L_198_37, L_198_38, L_198_39, L_198_40, L_198_41, L_198_42, L_198_43, L_198_44, L_198_45, L_198_46, L_198_47, L_198_48, C_198, A_199, A_200, A_201, A_202, A_203, A_204, A_205, A_206, A_207, A_208, A_209, A_210, A_211, A_212, A_213, A_214, A_215, A_216, A_217, A_218, A_219, A_220, A_221, A_222, A_223, A_224, A_225, A_226, A_227, A_228, A_128, A_191, A_rf, A_rs, A_rt, Q_4, Q_67, Q_130, t_42_0_1, t_42_0_2, e]
theorem w_60 (hd : 1 ≤ d) (hR : CR K N G B ro M sh st pc cs ps) : gCa K d 60 [.ref N] (hH K N G B) = some (.inl (some (.int (I ((M.1 31))))), hH K N G B) := by
  obtain ⟨d, rfl, hd'⟩ := d_succ (show 0 + 1 ≤ d by omega)
  have e := hR.2.1.2.2.2.2.2.2.1
  refine c_60 _ ?_
  unfold t_60_0
  simp (disch := omega) only [rI_d, rJ_d, rR_d, rN_d, wF_d, xI_d, xJ_d, xD_d, xQ_d, yI_d, yJ_d, yD_d, yQ_d, dI_s, dJ_s, dR_s, dN_s, dN_n, dH_s, dX_s, dL_s, dD_s, dQ_s, bC_r, bC_t, kI_s, kJ_s, kF_s, kD_s, kR_s, kV_s, I_lit, I_neg, I_add, I_sub, I_mul, I_ltT, I_ltF, I_leT, I_leF, I_eqT, I_eqF, c_int, c_long, c_obj, c_arr, c_bool, c_boolN, c_boolF, vn_bool, c_charN, vn_char, b2_f, b2_t, Int.toNat_natCast, ↓reduceIte, eq_self, and_self, and_true, true_and, not_false_eq_true, not_true_eq_false, L_0_0, L_0_1, L_0_2, L_0_3, L_0_4, L_0_5, L_0_6, L_0_7, L_0_8, L_0_9, L_0_10, L_0_11, L_0_12, L_0_13, L_0_14, L_0_15, C_0, L_1_0, L_1_1, L_1_2, C_1, L_2_0, L_2_1, L_2_2, C_2, L_3_0, L_3_1, L_3_2, C_3, L_65_0, L_65_1, L_65_2, L_65_3, L_65_4, C_65, L_66_0, L_66_1, L_66_2, L_66_3, C_66, L_129_0, L_129_1, L_129_2, L_129_3, C_129, L_198_0, L_198_1, L_198_2, L_198_3, L_198_4, L_198_5, L_198_6, L_198_7, L_198_8, L_198_9, L_198_10, L_198_11, L_198_12, L_198_13, L_198_14, L_198_15, L_198_16, L_198_17, L_198_18, L_198_19, L_198_20, L_198_21, L_198_22, L_198_23, L_198_24, L_198_25, L_198_26, L_198_27, L_198_28, L_198_29, L_198_30, L_198_31, L_198_32, L_198_33, L_198_34, L_198_35, L_198_36, L_198_37, L_198_38, L_198_39, L_198_40, L_198_41, L_198_42, L_198_43, L_198_44, L_198_45, L_198_46, L_198_47, L_198_48, C_198, A_199, A_200, A_201, A_202, A_203, A_204, A_205, A_206, A_207, A_208, A_209, A_210, A_211, A_212, A_213, A_214, A_215, A_216, A_217, A_218, A_219, A_220, A_221, A_222, A_223, A_224, A_225, A_226, A_227, A_228, A_128, A_191, A_rf, A_rs, A_rt, Q_4, Q_67, Q_130, t_60_0_1, e]
theorem w_76 (hd : 1 ≤ d) (hR : CR K N G B ro M sh st pc cs ps) : gCa K d 76 [.ref N] (hH K N G B) = some (.inl (some (.long (J ((M.1 32))))), hH K N G B) := by
  obtain ⟨d, rfl, hd'⟩ := d_succ (show 0 + 1 ≤ d by omega)
  have e := hR.2.1.2.2.2.2.2.2.2.1
  refine c_76 _ ?_
  unfold t_76_0
  simp (disch := omega) only [rI_d, rJ_d, rR_d, rN_d, wF_d, xI_d, xJ_d, xD_d, xQ_d, yI_d, yJ_d, yD_d, yQ_d, dI_s, dJ_s, dR_s, dN_s, dN_n, dH_s, dX_s, dL_s, dD_s, dQ_s, bC_r, bC_t, kI_s, kJ_s, kF_s, kD_s, kR_s, kV_s, I_lit, I_neg, I_add, I_sub, I_mul, I_ltT, I_ltF, I_leT, I_leF, I_eqT, I_eqF, c_int, c_long, c_obj, c_arr, c_bool, c_boolN, c_boolF, vn_bool, c_charN, vn_char, b2_f, b2_t, Int.toNat_natCast, ↓reduceIte, eq_self, and_self, and_true, true_and, not_false_eq_true, not_true_eq_false, L_0_0, L_0_1, L_0_2, L_0_3, L_0_4, L_0_5, L_0_6, L_0_7, L_0_8, L_0_9, L_0_10, L_0_11, L_0_12, L_0_13, L_0_14, L_0_15, C_0, L_1_0, L_1_1, L_1_2, C_1, L_2_0, L_2_1, L_2_2, C_2, L_3_0, L_3_1, L_3_2, C_3, L_65_0, L_65_1, L_65_2, L_65_3, L_65_4, C_65, L_66_0, L_66_1, L_66_2, L_66_3, C_66, L_129_0, L_129_1, L_129_2, L_129_3, C_129, L_198_0, L_198_1, L_198_2, L_198_3, L_198_4, L_198_5, L_198_6, L_198_7, L_198_8, L_198_9, L_198_10, L_198_11, L_198_12, L_198_13, L_198_14, L_198_15, L_198_16, L_198_17, L_198_18, L_198_19, L_198_20, L_198_21, L_198_22, L_198_23, L_198_24, L_198_25, L_198_26, L_198_27, L_198_28, L_198_29, L_198_30, L_198_31, L_198_32, L_198_33, L_198_34, L_198_35, L_198_36, L_198_37, L_198_38, L_198_39, L_198_40, L_198_41, L_198_42, L_198_43, L_198_44, L_198_45, L_198_46, L_198_47, L_198_48, C_198, A_199, A_200, A_201, A_202, A_203, A_204, A_205, A_206, A_207, A_208, A_209, A_210, A_211, A_212, A_213, A_214, A_215, A_216, A_217, A_218, A_219, A_220, A_221, A_222, A_223, A_224, A_225, A_226, A_227, A_228, A_128, A_191, A_rf, A_rs, A_rt, Q_4, Q_67, Q_130, t_76_0_1, e]
theorem w_120 (hd : 2 ≤ d) (hw : MW B) (hR : CR K N G B ro (tw B) sh st pc cs ps) (hz : (B.1 198 4) < 2 → ∀ g, g < 4 → B.2.1 217 g = 0) (hp : ∀ g, B.2.1 217 g ≠ 0 → 0 ≤ B.2.1 216 g) {g : Int} (h1 : R32 g) : gCa K d 120 [.ref N, .int (I g)] (hH K N G B) =
    some (cif (k_phase (tw B) g = 0) (.inl (some (.int (I (B.2.1 216 g.toNat)))), hH K N G B) (.inr (exA (k_phase (tw B) g)), hH K N (gjunk G 6) B)) := by
  obtain ⟨d, rfl, hd'⟩ := d_succ (show 1 + 1 ≤ d by omega)
  have T0 := w_149T (K := K) (d := d) (H := hH K N G B) (by omega)
  have F0 := w_149F (K := K) (d := d) (H := hH K N G B) (by omega)
  have T1 := w_151T (K := K) (d := d) (H := hH K N G B) (by omega)
  have F1 := w_151F (K := K) (d := d) (H := hH K N G B) (by omega)
  refine c_120 _ ?_
  by_cases c1 : 0 ≤ g ∧ g ≤ 3
  · have e := hR.2.2.1.2.1 g.toNat (by omega)
    rw [show 66 + 62 = 128 from rfl] at e
    rw [rmT_e] at e
    have q := mw_phase hw g.toNat
    by_cases c2 : B.2.1 217 g.toNat = 0
    · rw [if_pos c2] at e
      have hk : k_phase (tw B) g = 2 := by
        unfold k_phase
        rw [cifF (fun h => h c1), cifT (Or.inr c2)]
      rw [hk]
      unfold t_120_0
      simp (disch := omega) only [rI_d, rJ_d, rR_d, rN_d, wF_d, xI_d, xJ_d, xD_d, xQ_d, yI_d, yJ_d, yD_d, yQ_d, dI_s, dJ_s, dR_s, dN_s, dN_n, dH_s, dX_s, dL_s, dD_s, dQ_s, bC_r, bC_t, kI_s, kJ_s, kF_s, kD_s, kR_s, kV_s, I_lit, I_neg, I_add, I_sub, I_mul, I_ltT, I_ltF, I_leT, I_leF, I_eqT, I_eqF, c_int, c_long, c_obj, c_arr, c_bool, c_boolN, c_boolF, vn_bool, c_charN, vn_char, b2_f, b2_t, Int.toNat_natCast, ↓reduceIte, eq_self, and_self, and_true, true_and, not_false_eq_true, not_true_eq_false, L_0_0, L_0_1, L_0_2, L_0_3, L_0_4, L_0_5, L_0_6, L_0_7, L_0_8, L_0_9, L_0_10, L_0_11, L_0_12, L_0_13, L_0_14, L_0_15, C_0, L_1_0, L_1_1, L_1_2, C_1, L_2_0, L_2_1, L_2_2, C_2, L_3_0, L_3_1, L_3_2, C_3, L_65_0, L_65_1, L_65_2, L_65_3, L_65_4, C_65, L_66_0, L_66_1, L_66_2, L_66_3, C_66, L_129_0, L_129_1, L_129_2, L_129_3, C_129, L_198_0, L_198_1, L_198_2, L_198_3, L_198_4, L_198_5, L_198_6, L_198_7, L_198_8, L_198_9, L_198_10, L_198_11, L_198_12, L_198_13, L_198_14, L_198_15, L_198_16, L_198_17, L_198_18, L_198_19, L_198_20, L_198_21, L_198_22, L_198_23, L_198_24, L_198_25, L_198_26, L_198_27, L_198_28, L_198_29, L_198_30, L_198_31, L_198_32, L_198_33, L_198_34, L_198_35, L_198_36, L_198_37, L_198_38, L_198_39, L_198_40, L_198_41, L_198_42, L_198_43, L_198_44, L_198_45, L_198_46, L_198_47, L_198_48, C_198, A_199, A_200, A_201, A_202, A_203, A_204, A_205, A_206, A_207, A_208, A_209, A_210, A_211, A_212, A_213, A_214, A_215, A_216, A_217, A_218, A_219, A_220, A_221, A_222, A_223, A_224, A_225, A_226, A_227, A_228, A_128, A_191, A_rf, A_rs, A_rt, Q_4, Q_67, Q_130, t_120_0_1, t_120_0_2, t_120_0_3, t_120_0_4, t_120_0_5, t_120_0_6, t_120_0_7, t_120_0_8, t_120_0_9, t_120_0_10, t_120_0_11, t_120_0_12, t_120_0_13, M_0_8, M_0_9, M_0_10, M_0_11, M_0_12, M_0_13, M_0_14, M_0_15, M_1_0, M_1_1, M_1_2, M_2_0, M_2_1, M_2_2, M_3_0, M_3_1, M_3_2, M_65_0, M_65_1, M_65_2, M_65_3, M_65_4, M_66_2, M_129_2, M_198_0, M_198_1, M_198_2, M_198_3, M_198_4, M_198_5, M_198_7, M_198_17, M_198_18, M_198_28, M_198_31, M_198_32, M_198_33, M_198_36, M_198_37, M_198_38, M_198_39, M_198_41, M_198_48, S_199, S_200, S_201, S_202, S_203, S_204, S_205, S_206, S_207, S_208, S_209, S_210, S_211, S_212, S_213, S_214, S_215, S_216, S_217, S_218, S_219, S_220, S_221, S_222, S_223, S_224, S_225, S_226, S_227, S_228, S_128, S_191, S_rf, S_rs, S_rt, sI_eq, sI_ne, sI_21, sI_22, sA_eq, sA_ne, sA_1, sA_3, iltT, iltF, ileT, ileF, ieqT, ieqF, cif_T, cif_F, not_true_eq_false, not_false_eq_true, or_true, or_false, true_or, false_or, false_and, and_false, ne_eq, w_148, c1, e, T0, F1, gjunk_hH]
      rfl
    · rw [if_neg c2] at e
      have c3 := hp _ c2
      have hk : k_phase (tw B) g = 0 := by
        unfold k_phase
        rw [cifF (fun h => h c1), cifF (by rintro (h | h); exact c2 (hz h _ (by omega)); exact c2 h)]
      rw [hk]
      unfold t_120_0
      simp (disch := omega) only [rI_d, rJ_d, rR_d, rN_d, wF_d, xI_d, xJ_d, xD_d, xQ_d, yI_d, yJ_d, yD_d, yQ_d, dI_s, dJ_s, dR_s, dN_s, dN_n, dH_s, dX_s, dL_s, dD_s, dQ_s, bC_r, bC_t, kI_s, kJ_s, kF_s, kD_s, kR_s, kV_s, I_lit, I_neg, I_add, I_sub, I_mul, I_ltT, I_ltF, I_leT, I_leF, I_eqT, I_eqF, c_int, c_long, c_obj, c_arr, c_bool, c_boolN, c_boolF, vn_bool, c_charN, vn_char, b2_f, b2_t, Int.toNat_natCast, ↓reduceIte, eq_self, and_self, and_true, true_and, not_false_eq_true, not_true_eq_false, L_0_0, L_0_1, L_0_2, L_0_3, L_0_4, L_0_5, L_0_6, L_0_7, L_0_8, L_0_9, L_0_10, L_0_11, L_0_12, L_0_13, L_0_14, L_0_15, C_0, L_1_0, L_1_1, L_1_2, C_1, L_2_0, L_2_1, L_2_2, C_2, L_3_0, L_3_1, L_3_2, C_3, L_65_0, L_65_1, L_65_2, L_65_3, L_65_4, C_65, L_66_0, L_66_1, L_66_2, L_66_3, C_66, L_129_0, L_129_1, L_129_2, L_129_3, C_129, L_198_0, L_198_1, L_198_2, L_198_3, L_198_4, L_198_5, L_198_6, L_198_7, L_198_8, L_198_9, L_198_10, L_198_11, L_198_12, L_198_13, L_198_14, L_198_15, L_198_16, L_198_17, L_198_18, L_198_19, L_198_20, L_198_21, L_198_22, L_198_23, L_198_24, L_198_25, L_198_26, L_198_27, L_198_28, L_198_29, L_198_30, L_198_31, L_198_32, L_198_33, L_198_34, L_198_35, L_198_36, L_198_37, L_198_38, L_198_39, L_198_40, L_198_41, L_198_42, L_198_43, L_198_44, L_198_45, L_198_46, L_198_47, L_198_48, C_198, A_199, A_200, A_201, A_202, A_203, A_204, A_205, A_206, A_207, A_208, A_209, A_210, A_211, A_212, A_213, A_214, A_215, A_216, A_217, A_218, A_219, A_220, A_221, A_222, A_223, A_224, A_225, A_226, A_227, A_228, A_128, A_191, A_rf, A_rs, A_rt, Q_4, Q_67, Q_130, t_120_0_1, t_120_0_2, t_120_0_3, t_120_0_4, t_120_0_5, t_120_0_6, t_120_0_7, t_120_0_8, t_120_0_9, t_120_0_10, t_120_0_11, t_120_0_12, t_120_0_13, M_0_8, M_0_9, M_0_10, M_0_11, M_0_12, M_0_13, M_0_14, M_0_15, M_1_0, M_1_1, M_1_2, M_2_0, M_2_1, M_2_2, M_3_0, M_3_1, M_3_2, M_65_0, M_65_1, M_65_2, M_65_3, M_65_4, M_66_2, M_129_2, M_198_0, M_198_1, M_198_2, M_198_3, M_198_4, M_198_5, M_198_7, M_198_17, M_198_18, M_198_28, M_198_31, M_198_32, M_198_33, M_198_36, M_198_37, M_198_38, M_198_39, M_198_41, M_198_48, S_199, S_200, S_201, S_202, S_203, S_204, S_205, S_206, S_207, S_208, S_209, S_210, S_211, S_212, S_213, S_214, S_215, S_216, S_217, S_218, S_219, S_220, S_221, S_222, S_223, S_224, S_225, S_226, S_227, S_228, S_128, S_191, S_rf, S_rs, S_rt, sI_eq, sI_ne, sI_21, sI_22, sA_eq, sA_ne, sA_1, sA_3, iltT, iltF, ileT, ileF, ieqT, ieqF, cif_T, cif_F, not_true_eq_false, not_false_eq_true, or_true, or_false, true_or, false_or, false_and, and_false, ne_eq, w_148, c1, e, T0, T1]
  · have hk : k_phase (tw B) g = 1 := by
      unfold k_phase
      rw [cifT c1]
    rw [hk]
    unfold t_120_0
    simp (disch := omega) only [rI_d, rJ_d, rR_d, rN_d, wF_d, xI_d, xJ_d, xD_d, xQ_d, yI_d, yJ_d, yD_d, yQ_d, dI_s, dJ_s, dR_s, dN_s, dN_n, dH_s, dX_s, dL_s, dD_s, dQ_s, bC_r, bC_t, kI_s, kJ_s, kF_s, kD_s, kR_s, kV_s, I_lit, I_neg, I_add, I_sub, I_mul, I_ltT, I_ltF, I_leT, I_leF, I_eqT, I_eqF, c_int, c_long, c_obj, c_arr, c_bool, c_boolN, c_boolF, vn_bool, c_charN, vn_char, b2_f, b2_t, Int.toNat_natCast, ↓reduceIte, eq_self, and_self, and_true, true_and, not_false_eq_true, not_true_eq_false, L_0_0, L_0_1, L_0_2, L_0_3, L_0_4, L_0_5, L_0_6, L_0_7, L_0_8, L_0_9, L_0_10, L_0_11, L_0_12, L_0_13, L_0_14, L_0_15, C_0, L_1_0, L_1_1, L_1_2, C_1, L_2_0, L_2_1, L_2_2, C_2, L_3_0, L_3_1, L_3_2, C_3, L_65_0, L_65_1, L_65_2, L_65_3, L_65_4, C_65, L_66_0, L_66_1, L_66_2, L_66_3, C_66, L_129_0, L_129_1, L_129_2, L_129_3, C_129, L_198_0, L_198_1, L_198_2, L_198_3, L_198_4, L_198_5, L_198_6, L_198_7, L_198_8, L_198_9, L_198_10, L_198_11, L_198_12, L_198_13, L_198_14, L_198_15, L_198_16, L_198_17, L_198_18, L_198_19, L_198_20, L_198_21, L_198_22, L_198_23, L_198_24, L_198_25, L_198_26, L_198_27, L_198_28, L_198_29, L_198_30, L_198_31, L_198_32, L_198_33, L_198_34, L_198_35, L_198_36, L_198_37, L_198_38, L_198_39, L_198_40, L_198_41, L_198_42, L_198_43, L_198_44, L_198_45, L_198_46, L_198_47, L_198_48, C_198, A_199, A_200, A_201, A_202, A_203, A_204, A_205, A_206, A_207, A_208, A_209, A_210, A_211, A_212, A_213, A_214, A_215, A_216, A_217, A_218, A_219, A_220, A_221, A_222, A_223, A_224, A_225, A_226, A_227, A_228, A_128, A_191, A_rf, A_rs, A_rt, Q_4, Q_67, Q_130, t_120_0_1, t_120_0_2, t_120_0_3, t_120_0_4, t_120_0_5, t_120_0_6, t_120_0_7, t_120_0_8, t_120_0_9, t_120_0_10, t_120_0_11, t_120_0_12, t_120_0_13, M_0_8, M_0_9, M_0_10, M_0_11, M_0_12, M_0_13, M_0_14, M_0_15, M_1_0, M_1_1, M_1_2, M_2_0, M_2_1, M_2_2, M_3_0, M_3_1, M_3_2, M_65_0, M_65_1, M_65_2, M_65_3, M_65_4, M_66_2, M_129_2, M_198_0, M_198_1, M_198_2, M_198_3, M_198_4, M_198_5, M_198_7, M_198_17, M_198_18, M_198_28, M_198_31, M_198_32, M_198_33, M_198_36, M_198_37, M_198_38, M_198_39, M_198_41, M_198_48, S_199, S_200, S_201, S_202, S_203, S_204, S_205, S_206, S_207, S_208, S_209, S_210, S_211, S_212, S_213, S_214, S_215, S_216, S_217, S_218, S_219, S_220, S_221, S_222, S_223, S_224, S_225, S_226, S_227, S_228, S_128, S_191, S_rf, S_rs, S_rt, sI_eq, sI_ne, sI_21, sI_22, sA_eq, sA_ne, sA_1, sA_3, iltT, iltF, ileT, ileF, ieqT, ieqF, cif_T, cif_F, not_true_eq_false, not_false_eq_true, or_true, or_false, true_or, false_or, false_and, and_false, ne_eq, w_148, c1, F0, gjunk_hH]
    rfl
theorem w_116 (hd : 3 ≤ d) (hw : MW B) (hR : CR K N G B ro (tw B) sh st pc cs ps) {r c : Int} (h1 : R32 r) (h2 : R32 c) : gCa K d 116 [.ref N, .int (I r), .int (I c)] (hH K N G B) =
    some (cif (k_at (tw B) r c = 0) (.inl (some (.int (I (B.2.1 215 (12 * r + c).toNat)))), hH K N G B) (.inr (exA (k_at (tw B) r c)), hH K N (gjunk G 6) B)) := by
  obtain ⟨d, rfl, hd'⟩ := d_succ (show 2 + 1 ≤ d by omega)
  have T1 := w_151T (K := K) (d := d) (H := hH K N G B) (by omega)
  have F1 := w_151F (K := K) (d := d) (H := hH K N G B) (by omega)
  have q5 := mw_cloth hw (12 * r + c).toNat
  refine c_116 _ ?_
  by_cases c1 : (0 ≤ r ∧ r ≤ 59) ∧ (0 ≤ c ∧ c ≤ 11)
  · have w1 := w_177T (K := K) (d := d) (H := hH K N G B) (by omega) c1.1 c1.2
    have a1 := w_152 (K := K) (N := N) (G := G) (d := d) (by omega) (Or.inl rfl) hR.2.2.1 c1.1 c1.2
    dsimp only [tw] at a1
    by_cases c2 : B.2.1 215 (12 * r + c).toNat = -1
    · have hk : k_at (tw B) r c = 2 := by
        unfold k_at
        rw [cifF (fun h => h c1), cifT c2]
      rw [hk]
      unfold t_116_0
      simp (disch := omega) only [rI_d, rJ_d, rR_d, rN_d, wF_d, xI_d, xJ_d, xD_d, xQ_d, yI_d, yJ_d, yD_d, yQ_d, dI_s, dJ_s, dR_s, dN_s, dN_n, dH_s, dX_s, dL_s, dD_s, dQ_s, bC_r, bC_t, kI_s, kJ_s, kF_s, kD_s, kR_s, kV_s, I_lit, I_neg, I_add, I_sub, I_mul, I_ltT, I_ltF, I_leT, I_leF, I_eqT, I_eqF, c_int, c_long, c_obj, c_arr, c_bool, c_boolN, c_boolF, vn_bool, c_charN, vn_char, b2_f, b2_t, Int.toNat_natCast, ↓reduceIte, eq_self, and_self, and_true, true_and, not_false_eq_true, not_true_eq_false, L_0_0, L_0_1, L_0_2, L_0_3, L_0_4, L_0_5, L_0_6, L_0_7, L_0_8, L_0_9, L_0_10, L_0_11, L_0_12, L_0_13, L_0_14, L_0_15, C_0, L_1_0, L_1_1, L_1_2, C_1, L_2_0, L_2_1, L_2_2, C_2, L_3_0, L_3_1, L_3_2, C_3, L_65_0, L_65_1, L_65_2, L_65_3, L_65_4, C_65, L_66_0, L_66_1, L_66_2, L_66_3, C_66, L_129_0, L_129_1, L_129_2, L_129_3, C_129, L_198_0, L_198_1, L_198_2, L_198_3, L_198_4, L_198_5, L_198_6, L_198_7, L_198_8, L_198_9, L_198_10, L_198_11, L_198_12, L_198_13, L_198_14, L_198_15, L_198_16, L_198_17, L_198_18, L_198_19, L_198_20, L_198_21, L_198_22, L_198_23, L_198_24, L_198_25, L_198_26, L_198_27, L_198_28, L_198_29, L_198_30, L_198_31, L_198_32, L_198_33, L_198_34, L_198_35, L_198_36, L_198_37, L_198_38, L_198_39, L_198_40, L_198_41, L_198_42, L_198_43, L_198_44, L_198_45, L_198_46, L_198_47, L_198_48, C_198, A_199, A_200, A_201, A_202, A_203, A_204, A_205, A_206, A_207, A_208, A_209, A_210, A_211, A_212, A_213, A_214, A_215, A_216, A_217, A_218, A_219, A_220, A_221, A_222, A_223, A_224, A_225, A_226, A_227, A_228, A_128, A_191, A_rf, A_rs, A_rt, Q_4, Q_67, Q_130, t_116_0_1, t_116_0_2, t_116_0_3, t_116_0_4, t_116_0_5, t_116_0_6, t_116_0_7, t_116_0_8, t_116_0_9, M_0_8, M_0_9, M_0_10, M_0_11, M_0_12, M_0_13, M_0_14, M_0_15, M_1_0, M_1_1, M_1_2, M_2_0, M_2_1, M_2_2, M_3_0, M_3_1, M_3_2, M_65_0, M_65_1, M_65_2, M_65_3, M_65_4, M_66_2, M_129_2, M_198_0, M_198_1, M_198_2, M_198_3, M_198_4, M_198_5, M_198_7, M_198_17, M_198_18, M_198_28, M_198_31, M_198_32, M_198_33, M_198_36, M_198_37, M_198_38, M_198_39, M_198_41, M_198_48, S_199, S_200, S_201, S_202, S_203, S_204, S_205, S_206, S_207, S_208, S_209, S_210, S_211, S_212, S_213, S_214, S_215, S_216, S_217, S_218, S_219, S_220, S_221, S_222, S_223, S_224, S_225, S_226, S_227, S_228, S_128, S_191, S_rf, S_rs, S_rt, sI_eq, sI_ne, sI_21, sI_22, sA_eq, sA_ne, sA_1, sA_3, iltT, iltF, ileT, ileF, ieqT, ieqF, cif_T, cif_F, not_true_eq_false, not_false_eq_true, or_true, or_false, true_or, false_or, false_and, and_false, ne_eq, w1, a1, c2, F1, gjunk_hH]
      rfl
    · have hk : k_at (tw B) r c = 0 := by
        unfold k_at
        rw [cifF (fun h => h c1), cifF c2]
      rw [hk]
      unfold t_116_0
      simp (disch := omega) only [rI_d, rJ_d, rR_d, rN_d, wF_d, xI_d, xJ_d, xD_d, xQ_d, yI_d, yJ_d, yD_d, yQ_d, dI_s, dJ_s, dR_s, dN_s, dN_n, dH_s, dX_s, dL_s, dD_s, dQ_s, bC_r, bC_t, kI_s, kJ_s, kF_s, kD_s, kR_s, kV_s, I_lit, I_neg, I_add, I_sub, I_mul, I_ltT, I_ltF, I_leT, I_leF, I_eqT, I_eqF, c_int, c_long, c_obj, c_arr, c_bool, c_boolN, c_boolF, vn_bool, c_charN, vn_char, b2_f, b2_t, Int.toNat_natCast, ↓reduceIte, eq_self, and_self, and_true, true_and, not_false_eq_true, not_true_eq_false, L_0_0, L_0_1, L_0_2, L_0_3, L_0_4, L_0_5, L_0_6, L_0_7, L_0_8, L_0_9, L_0_10, L_0_11, L_0_12, L_0_13, L_0_14, L_0_15, C_0, L_1_0, L_1_1, L_1_2, C_1, L_2_0, L_2_1, L_2_2, C_2, L_3_0, L_3_1, L_3_2, C_3, L_65_0, L_65_1, L_65_2, L_65_3, L_65_4, C_65, L_66_0, L_66_1, L_66_2, L_66_3, C_66, L_129_0, L_129_1, L_129_2, L_129_3, C_129, L_198_0, L_198_1, L_198_2, L_198_3, L_198_4, L_198_5, L_198_6, L_198_7, L_198_8, L_198_9, L_198_10, L_198_11, L_198_12, L_198_13, L_198_14, L_198_15, L_198_16, L_198_17, L_198_18, L_198_19, L_198_20, L_198_21, L_198_22, L_198_23, L_198_24, L_198_25, L_198_26, L_198_27, L_198_28, L_198_29, L_198_30, L_198_31, L_198_32, L_198_33, L_198_34, L_198_35, L_198_36, L_198_37, L_198_38, L_198_39, L_198_40, L_198_41, L_198_42, L_198_43, L_198_44, L_198_45, L_198_46, L_198_47, L_198_48, C_198, A_199, A_200, A_201, A_202, A_203, A_204, A_205, A_206, A_207, A_208, A_209, A_210, A_211, A_212, A_213, A_214, A_215, A_216, A_217, A_218, A_219, A_220, A_221, A_222, A_223, A_224, A_225, A_226, A_227, A_228, A_128, A_191, A_rf, A_rs, A_rt, Q_4, Q_67, Q_130, t_116_0_1, t_116_0_2, t_116_0_3, t_116_0_4, t_116_0_5, t_116_0_6, t_116_0_7, t_116_0_8, t_116_0_9, M_0_8, M_0_9, M_0_10, M_0_11, M_0_12, M_0_13, M_0_14, M_0_15, M_1_0, M_1_1, M_1_2, M_2_0, M_2_1, M_2_2, M_3_0, M_3_1, M_3_2, M_65_0, M_65_1, M_65_2, M_65_3, M_65_4, M_66_2, M_129_2, M_198_0, M_198_1, M_198_2, M_198_3, M_198_4, M_198_5, M_198_7, M_198_17, M_198_18, M_198_28, M_198_31, M_198_32, M_198_33, M_198_36, M_198_37, M_198_38, M_198_39, M_198_41, M_198_48, S_199, S_200, S_201, S_202, S_203, S_204, S_205, S_206, S_207, S_208, S_209, S_210, S_211, S_212, S_213, S_214, S_215, S_216, S_217, S_218, S_219, S_220, S_221, S_222, S_223, S_224, S_225, S_226, S_227, S_228, S_128, S_191, S_rf, S_rs, S_rt, sI_eq, sI_ne, sI_21, sI_22, sA_eq, sA_ne, sA_1, sA_3, iltT, iltF, ileT, ileF, ieqT, ieqF, cif_T, cif_F, not_true_eq_false, not_false_eq_true, or_true, or_false, true_or, false_or, false_and, and_false, ne_eq, w1, a1, T1]
  · have hk : k_at (tw B) r c = 1 := by
      unfold k_at
      rw [cifT c1]
    have w1 := w_177F (K := K) (d := d) (H := hH K N G B) (by omega) h1 h2 c1
    rw [hk]
    unfold t_116_0
    simp (disch := omega) only [rI_d, rJ_d, rR_d, rN_d, wF_d, xI_d, xJ_d, xD_d, xQ_d, yI_d, yJ_d, yD_d, yQ_d, dI_s, dJ_s, dR_s, dN_s, dN_n, dH_s, dX_s, dL_s, dD_s, dQ_s, bC_r, bC_t, kI_s, kJ_s, kF_s, kD_s, kR_s, kV_s, I_lit, I_neg, I_add, I_sub, I_mul, I_ltT, I_ltF, I_leT, I_leF, I_eqT, I_eqF, c_int, c_long, c_obj, c_arr, c_bool, c_boolN, c_boolF, vn_bool, c_charN, vn_char, b2_f, b2_t, Int.toNat_natCast, ↓reduceIte, eq_self, and_self, and_true, true_and, not_false_eq_true, not_true_eq_false, L_0_0, L_0_1, L_0_2, L_0_3, L_0_4, L_0_5, L_0_6, L_0_7, L_0_8, L_0_9, L_0_10, L_0_11, L_0_12, L_0_13, L_0_14, L_0_15, C_0, L_1_0, L_1_1, L_1_2, C_1, L_2_0, L_2_1, L_2_2, C_2, L_3_0, L_3_1, L_3_2, C_3, L_65_0, L_65_1, L_65_2, L_65_3, L_65_4, C_65, L_66_0, L_66_1, L_66_2, L_66_3, C_66, L_129_0, L_129_1, L_129_2, L_129_3, C_129, L_198_0, L_198_1, L_198_2, L_198_3, L_198_4, L_198_5, L_198_6, L_198_7, L_198_8, L_198_9, L_198_10, L_198_11, L_198_12, L_198_13, L_198_14, L_198_15, L_198_16, L_198_17, L_198_18, L_198_19, L_198_20, L_198_21, L_198_22, L_198_23, L_198_24, L_198_25, L_198_26, L_198_27, L_198_28, L_198_29, L_198_30, L_198_31, L_198_32, L_198_33, L_198_34, L_198_35, L_198_36, L_198_37, L_198_38, L_198_39, L_198_40, L_198_41, L_198_42, L_198_43, L_198_44, L_198_45, L_198_46, L_198_47, L_198_48, C_198, A_199, A_200, A_201, A_202, A_203, A_204, A_205, A_206, A_207, A_208, A_209, A_210, A_211, A_212, A_213, A_214, A_215, A_216, A_217, A_218, A_219, A_220, A_221, A_222, A_223, A_224, A_225, A_226, A_227, A_228, A_128, A_191, A_rf, A_rs, A_rt, Q_4, Q_67, Q_130, t_116_0_1, t_116_0_2, t_116_0_3, t_116_0_4, t_116_0_5, t_116_0_6, t_116_0_7, t_116_0_8, t_116_0_9, M_0_8, M_0_9, M_0_10, M_0_11, M_0_12, M_0_13, M_0_14, M_0_15, M_1_0, M_1_1, M_1_2, M_2_0, M_2_1, M_2_2, M_3_0, M_3_1, M_3_2, M_65_0, M_65_1, M_65_2, M_65_3, M_65_4, M_66_2, M_129_2, M_198_0, M_198_1, M_198_2, M_198_3, M_198_4, M_198_5, M_198_7, M_198_17, M_198_18, M_198_28, M_198_31, M_198_32, M_198_33, M_198_36, M_198_37, M_198_38, M_198_39, M_198_41, M_198_48, S_199, S_200, S_201, S_202, S_203, S_204, S_205, S_206, S_207, S_208, S_209, S_210, S_211, S_212, S_213, S_214, S_215, S_216, S_217, S_218, S_219, S_220, S_221, S_222, S_223, S_224, S_225, S_226, S_227, S_228, S_128, S_191, S_rf, S_rs, S_rt, sI_eq, sI_ne, sI_21, sI_22, sA_eq, sA_ne, sA_1, sA_3, iltT, iltF, ileT, ileF, ieqT, ieqF, cif_T, cif_F, not_true_eq_false, not_false_eq_true, or_true, or_false, true_or, false_or, false_and, and_false, ne_eq, w1, gjunk_hH]
    rfl
/-- the piece of a number -/
theorem l_174 (hd : 3 ≤ d) (hR : CR K N G B ro M sh st pc cs ps) (hl : pc.length ≤ 40) (hb : ∀ j, 0 ≤ M.2 209 j ∧ M.2 209 j ≤ 1000) {p : Int} (hp : R32 p) : ∀ (n : Nat) (y : Int) (o3 : Option Value), 0 ≤ y → y + n = pc.length →
    (∀ i a : Nat, y ≤ i → pc[i]? = some a → M.2 209 i = p → (∀ j : Nat, y ≤ j → j < i → M.2 209 j ≠ p) → gRn K d 174 2 [some (.ref N), some (.int (I p)), some (.int (I y)), o3] [] (hH K N G B) = some (.inl (some (.ref a)), hH K N G B)) ∧
    ((∀ j : Nat, y ≤ j → (j : Int) < pc.length → M.2 209 j ≠ p) → gRn K d 174 2 [some (.ref N), some (.int (I p)), some (.int (I y)), o3] [] (hH K N G B) = some (.inr 4, hH K N (gjunk G 6) B)) := by
  intro n
  have s3 := hR.s3 (d := d) (by omega)
  have c3 := cl_of hR.l3.o3
  induction n with
  | zero =>
    intro y o3 hy hn
    refine ⟨fun i a h1 h2 => ?_, fun _ => ?_⟩
    · have := (List.getElem?_eq_some_iff.mp h2).1
      omega
    · refine e_174_2 _ ?_
      unfold t_174_2
      simp (disch := omega) only [rI_d, rJ_d, rR_d, rN_d, wF_d, xI_d, xJ_d, xD_d, xQ_d, yI_d, yJ_d, yD_d, yQ_d, dI_s, dJ_s, dR_s, dN_s, dN_n, dH_s, dX_s, dL_s, dD_s, dQ_s, bC_r, bC_t, kI_s, kJ_s, kF_s, kD_s, kR_s, kV_s, I_lit, I_neg, I_add, I_sub, I_mul, I_ltT, I_ltF, I_leT, I_leF, I_eqT, I_eqF, c_int, c_long, c_obj, c_arr, c_bool, c_boolN, c_boolF, vn_bool, c_charN, vn_char, b2_f, b2_t, Int.toNat_natCast, ↓reduceIte, eq_self, and_self, and_true, true_and, not_false_eq_true, not_true_eq_false, L_0_0, L_0_1, L_0_2, L_0_3, L_0_4, L_0_5, L_0_6, L_0_7, L_0_8, L_0_9, L_0_10, L_0_11, L_0_12, L_0_13, L_0_14, L_0_15, C_0, L_1_0, L_1_1, L_1_2, C_1, L_2_0, L_2_1, L_2_2, C_2, L_3_0, L_3_1, L_3_2, C_3, L_65_0, L_65_1, L_65_2, L_65_3, L_65_4, C_65, L_66_0, L_66_1, L_66_2, L_66_3, C_66, L_129_0, L_129_1, L_129_2, L_129_3, C_129, L_198_0, L_198_1, L_198_2, L_198_3, L_198_4, L_198_5, L_198_6, L_198_7, L_198_8, L_198_9, L_198_10, L_198_11, L_198_12, L_198_13, L_198_14, L_198_15, L_198_16, L_198_17, L_198_18, L_198_19, L_198_20, L_198_21, L_198_22, L_198_23, L_198_24, L_198_25, L_198_26, L_198_27, L_198_28, L_198_29, L_198_30, L_198_31, L_198_32, L_198_33, L_198_34, L_198_35, L_198_36, L_198_37, L_198_38, L_198_39, L_198_40, L_198_41, L_198_42, L_198_43, L_198_44, L_198_45, L_198_46, L_198_47, L_198_48, C_198, A_199, A_200, A_201, A_202, A_203, A_204, A_205, A_206, A_207, A_208, A_209, A_210, A_211, A_212, A_213, A_214, A_215, A_216, A_217, A_218, A_219, A_220, A_221, A_222, A_223, A_224, A_225, A_226, A_227, A_228, A_128, A_191, A_rf, A_rs, A_rt, Q_4, Q_67, Q_130, t_174_2_1, t_174_2_2, t_174_2_3, t_174_2_4, t_174_2_5, c3, s3, gjunk_hH]
  | succ n ih =>
    intro y o3 hy hn
    obtain ⟨a, ha⟩ := at_lt (show y.toNat < pc.length by omega)
    have g3 := hR.g3 (d := d) (by omega) hl hy ha
    obtain ⟨b, -, hp1⟩ := hR.pp ha
    obtain ⟨k1, k2, -⟩ := pc_rd hp1
    have hbn := hb y.toNat
    obtain ⟨i1, i2⟩ := ih (y + 1) (some (.ref a)) (by omega) (by omega)
    refine ⟨fun i a' h1 h2 h3 h4 => ?_, fun h => ?_⟩
    · refine e_174_2 _ ?_
      unfold t_174_2
      by_cases e : M.2 209 y.toNat = p
      · have : i = y.toNat := by
          refine Classical.byContradiction fun h => ?_
          exact h4 y.toNat (by omega) (by omega) e
        subst this
        cases h2.symm.trans ha
        simp (disch := omega) only [rI_d, rJ_d, rR_d, rN_d, wF_d, xI_d, xJ_d, xD_d, xQ_d, yI_d, yJ_d, yD_d, yQ_d, dI_s, dJ_s, dR_s, dN_s, dN_n, dH_s, dX_s, dL_s, dD_s, dQ_s, bC_r, bC_t, kI_s, kJ_s, kF_s, kD_s, kR_s, kV_s, I_lit, I_neg, I_add, I_sub, I_mul, I_ltT, I_ltF, I_leT, I_leF, I_eqT, I_eqF, c_int, c_long, c_obj, c_arr, c_bool, c_boolN, c_boolF, vn_bool, c_charN, vn_char, b2_f, b2_t, Int.toNat_natCast, ↓reduceIte, eq_self, and_self, and_true, true_and, not_false_eq_true, not_true_eq_false, L_0_0, L_0_1, L_0_2, L_0_3, L_0_4, L_0_5, L_0_6, L_0_7, L_0_8, L_0_9, L_0_10, L_0_11, L_0_12, L_0_13, L_0_14, L_0_15, C_0, L_1_0, L_1_1, L_1_2, C_1, L_2_0, L_2_1, L_2_2, C_2, L_3_0, L_3_1, L_3_2, C_3, L_65_0, L_65_1, L_65_2, L_65_3, L_65_4, C_65, L_66_0, L_66_1, L_66_2, L_66_3, C_66, L_129_0, L_129_1, L_129_2, L_129_3, C_129, L_198_0, L_198_1, L_198_2, L_198_3, L_198_4, L_198_5, L_198_6, L_198_7, L_198_8, L_198_9, L_198_10, L_198_11, L_198_12, L_198_13, L_198_14, L_198_15, L_198_16, L_198_17, L_198_18, L_198_19, L_198_20, L_198_21, L_198_22, L_198_23, L_198_24, L_198_25, L_198_26, L_198_27, L_198_28, L_198_29, L_198_30, L_198_31, L_198_32, L_198_33, L_198_34, L_198_35, L_198_36, L_198_37, L_198_38, L_198_39, L_198_40, L_198_41, L_198_42, L_198_43, L_198_44, L_198_45, L_198_46, L_198_47, L_198_48, C_198, A_199, A_200, A_201, A_202, A_203, A_204, A_205, A_206, A_207, A_208, A_209, A_210, A_211, A_212, A_213, A_214, A_215, A_216, A_217, A_218, A_219, A_220, A_221, A_222, A_223, A_224, A_225, A_226, A_227, A_228, A_128, A_191, A_rf, A_rs, A_rt, Q_4, Q_67, Q_130, t_174_2_1, t_174_2_2, t_174_2_3, t_174_2_4, t_174_2_5, c3, s3, g3, k1, k2]
      · have : y ≠ (i : Int) := by
          rintro rfl
          exact e (by rw [show ((i : Nat) : Int).toNat = i by omega]; exact h3)
        have := i1 i a' (by omega) h2 h3 (fun j q1 q2 => h4 j (by omega) q2)
        simp (disch := omega) only [rI_d, rJ_d, rR_d, rN_d, wF_d, xI_d, xJ_d, xD_d, xQ_d, yI_d, yJ_d, yD_d, yQ_d, dI_s, dJ_s, dR_s, dN_s, dN_n, dH_s, dX_s, dL_s, dD_s, dQ_s, bC_r, bC_t, kI_s, kJ_s, kF_s, kD_s, kR_s, kV_s, I_lit, I_neg, I_add, I_sub, I_mul, I_ltT, I_ltF, I_leT, I_leF, I_eqT, I_eqF, c_int, c_long, c_obj, c_arr, c_bool, c_boolN, c_boolF, vn_bool, c_charN, vn_char, b2_f, b2_t, Int.toNat_natCast, ↓reduceIte, eq_self, and_self, and_true, true_and, not_false_eq_true, not_true_eq_false, L_0_0, L_0_1, L_0_2, L_0_3, L_0_4, L_0_5, L_0_6, L_0_7, L_0_8, L_0_9, L_0_10, L_0_11, L_0_12, L_0_13, L_0_14, L_0_15, C_0, L_1_0, L_1_1, L_1_2, C_1, L_2_0, L_2_1, L_2_2, C_2, L_3_0, L_3_1, L_3_2, C_3, L_65_0, L_65_1, L_65_2, L_65_3, L_65_4, C_65, L_66_0, L_66_1, L_66_2, L_66_3, C_66, L_129_0, L_129_1, L_129_2, L_129_3, C_129, L_198_0, L_198_1, L_198_2, L_198_3, L_198_4, L_198_5, L_198_6, L_198_7, L_198_8, L_198_9, L_198_10, L_198_11, L_198_12, L_198_13, L_198_14, L_198_15, L_198_16, L_198_17, L_198_18, L_198_19, L_198_20, L_198_21, L_198_22, L_198_23, L_198_24, L_198_25, L_198_26, L_198_27, L_198_28, L_198_29, L_198_30, L_198_31, L_198_32, L_198_33, L_198_34, L_198_35, L_198_36, L_198_37, L_198_38, L_198_39, L_198_40, L_198_41, L_198_42, L_198_43, L_198_44, L_198_45, L_198_46, L_198_47, L_198_48, C_198, A_199, A_200, A_201, A_202, A_203, A_204, A_205, A_206, A_207, A_208, A_209, A_210, A_211, A_212, A_213, A_214, A_215, A_216, A_217, A_218, A_219, A_220, A_221, A_222, A_223, A_224, A_225, A_226, A_227, A_228, A_128, A_191, A_rf, A_rs, A_rt, Q_4, Q_67, Q_130, t_174_2_1, t_174_2_2, t_174_2_3, t_174_2_4, t_174_2_5, c3, s3, g3, k1, k2, this]
    · have e := h y.toNat (by omega) (by omega)
      have := i2 (fun j q1 q2 => h j (by omega) q2)
      refine e_174_2 _ ?_
      unfold t_174_2
      simp (disch := omega) only [rI_d, rJ_d, rR_d, rN_d, wF_d, xI_d, xJ_d, xD_d, xQ_d, yI_d, yJ_d, yD_d, yQ_d, dI_s, dJ_s, dR_s, dN_s, dN_n, dH_s, dX_s, dL_s, dD_s, dQ_s, bC_r, bC_t, kI_s, kJ_s, kF_s, kD_s, kR_s, kV_s, I_lit, I_neg, I_add, I_sub, I_mul, I_ltT, I_ltF, I_leT, I_leF, I_eqT, I_eqF, c_int, c_long, c_obj, c_arr, c_bool, c_boolN, c_boolF, vn_bool, c_charN, vn_char, b2_f, b2_t, Int.toNat_natCast, ↓reduceIte, eq_self, and_self, and_true, true_and, not_false_eq_true, not_true_eq_false, L_0_0, L_0_1, L_0_2, L_0_3, L_0_4, L_0_5, L_0_6, L_0_7, L_0_8, L_0_9, L_0_10, L_0_11, L_0_12, L_0_13, L_0_14, L_0_15, C_0, L_1_0, L_1_1, L_1_2, C_1, L_2_0, L_2_1, L_2_2, C_2, L_3_0, L_3_1, L_3_2, C_3, L_65_0, L_65_1, L_65_2, L_65_3, L_65_4, C_65, L_66_0, L_66_1, L_66_2, L_66_3, C_66, L_129_0, L_129_1, L_129_2, L_129_3, C_129, L_198_0, L_198_1, L_198_2, L_198_3, L_198_4, L_198_5, L_198_6, L_198_7, L_198_8, L_198_9, L_198_10, L_198_11, L_198_12, L_198_13, L_198_14, L_198_15, L_198_16, L_198_17, L_198_18, L_198_19, L_198_20, L_198_21, L_198_22, L_198_23, L_198_24, L_198_25, L_198_26, L_198_27, L_198_28, L_198_29, L_198_30, L_198_31, L_198_32, L_198_33, L_198_34, L_198_35, L_198_36, L_198_37, L_198_38, L_198_39, L_198_40, L_198_41, L_198_42, L_198_43, L_198_44, L_198_45, L_198_46, L_198_47, L_198_48, C_198, A_199, A_200, A_201, A_202, A_203, A_204, A_205, A_206, A_207, A_208, A_209, A_210, A_211, A_212, A_213, A_214, A_215, A_216, A_217, A_218, A_219, A_220, A_221, A_222, A_223, A_224, A_225, A_226, A_227, A_228, A_128, A_191, A_rf, A_rs, A_rt, Q_4, Q_67, Q_130, t_174_2_1, t_174_2_2, t_174_2_3, t_174_2_4, t_174_2_5, c3, s3, g3, k1, k2, this]
theorem w_174 (hd : 4 ≤ d) (hR : CR K N G B ro M sh st pc cs ps) (hl : pc.length ≤ 40) (hb : ∀ j, 0 ≤ M.2 209 j ∧ M.2 209 j ≤ 1000) {p : Int} (hp : R32 p) {i a : Nat} (h1 : pc[i]? = some a) (h2 : M.2 209 i = p) (h3 : ∀ j : Nat, j < i → M.2 209 j ≠ p) : gCa K d 174 [.ref N, .int (I p)] (hH K N G B) = some (.inl (some (.ref a)), hH K N G B) := by
  obtain ⟨d, rfl, hd'⟩ := d_succ (show 3 + 1 ≤ d by omega)
  have := (l_174 (d := d) (by omega) hR hl hb hp pc.length 0 none (by omega) (by omega)).1 i a (by omega) h1 h2 (fun j _ q => h3 j q)
  refine c_174 _ ?_
  unfold t_174_0
  simp only [I_lit, I_neg, I_add, I_sub, I_mul, I_ltT, I_ltF, I_leT, I_leF, I_eqT, I_eqF, c_int, c_long, c_obj, c_arr, c_bool, c_boolN, c_boolF, vn_bool, c_charN, vn_char, b2_f, b2_t]
  exact this
theorem w_174F (hd : 4 ≤ d) (hR : CR K N G B ro M sh st pc cs ps) (hl : pc.length ≤ 40) (hb : ∀ j, 0 ≤ M.2 209 j ∧ M.2 209 j ≤ 1000) {p : Int} (hp : R32 p) (h : ∀ j : Nat, j < pc.length → M.2 209 j ≠ p) : gCa K d 174 [.ref N, .int (I p)] (hH K N G B) = some (.inr 4, hH K N (gjunk G 6) B) := by
  obtain ⟨d, rfl, hd'⟩ := d_succ (show 3 + 1 ≤ d by omega)
  have := (l_174 (d := d) (by omega) hR hl hb hp pc.length 0 none (by omega) (by omega)).2 (fun j _ q => h j (by omega))
  refine c_174 _ ?_
  unfold t_174_0
  simp only [I_lit, I_neg, I_add, I_sub, I_mul, I_ltT, I_ltF, I_leT, I_leF, I_eqT, I_eqF, c_int, c_long, c_obj, c_arr, c_bool, c_boolN, c_boolF, vn_bool, c_charN, vn_char, b2_f, b2_t]
  exact this
theorem plcP_none {p : Int} : ∀ n, plcP M p n = -1 → ∀ j, j < n → M.2 209 j ≠ p
  | 0, _, j, hj => absurd hj (by omega)
  | n + 1, h, j, hj => by
    unfold plcP at h
    by_cases e : M.2 209 n = p
    · rw [if_pos e] at h; omega
    · rw [if_neg e] at h
      by_cases e2 : j = n
      · rw [e2]; exact e
      · exact plcP_none n h j (by omega)
theorem plcP_some {p : Int} : ∀ n, plcP M p n ≠ -1 → M.2 209 (plcP M p n).toNat = p
  | 0, h => absurd rfl h
  | n + 1, h => by
    unfold plcP at h ⊢
    by_cases e : M.2 209 n = p
    · rw [if_pos e] at h ⊢; exact e
    · rw [if_neg e] at h ⊢; exact plcP_some n h
/-- numbers grow along the marker -/
def UP (M : gM) : Prop := ∀ i j : Nat, (i : Int) < (M.1 17) → j < i → M.2 209 j < M.2 209 i
theorem GI.up (hg : GI B) : UP (tw B) := fun i j h1 h2 => (hg.2.2.2 i h1).2.2.2.2.1 j h2
theorem w_174p (hd : 4 ≤ d) (hw : MW B) (hR : CR K N G B ro (tw B) sh st pc cs ps) (hu : UP (tw B)) {p : Int} (hp : R32 p) : (plc (tw B) p = -1 → gCa K d 174 [.ref N, .int (I p)] (hH K N G B) = some (.inr 4, hH K N (gjunk G 6) B)) ∧ (plc (tw B) p ≠ -1 → ∃ a, pc[(plc (tw B) p).toNat]? = some a ∧ gCa K d 174 [.ref N, .int (I p)] (hH K N G B) = some (.inl (some (.ref a)), hH K N G B)) := by
  have q1 := mw_many hw
  have e3 : (B.1 198 17) = (pc.length : Int) := hR.nn.2.2
  refine ⟨fun h => ?_, fun h => ?_⟩
  · exact w_174F hd hR (by omega) (mw_number hw) hp (fun j hj => plcP_none _ h j (by dsimp only [tw]; omega))
  · have hb := plcP_b (M := tw B) (p := p) ((B.1 198 17)).toNat
    have hb2 := plc_b hw (p := p)
    have hb3 : plc (tw B) p < ((B.1 198 17)).toNat := hb.2
    have hs := plcP_some _ h
    obtain ⟨a, ha⟩ := at_lt (show (plc (tw B) p).toNat < pc.length by omega)
    refine ⟨a, ha, w_174 hd hR (by omega) (mw_number hw) hp ha hs (fun j hj e => ?_)⟩
    have h5 := hu (plc (tw B) p).toNat j (show ((plc (tw B) p).toNat : Int) < (B.1 198 17) by omega) hj
    exact absurd h5 (by rw [show (tw B).2 209 j = p from e, show (tw B).2 209 (plc (tw B) p).toNat = p from hs]; exact Int.lt_irrefl p)
end
