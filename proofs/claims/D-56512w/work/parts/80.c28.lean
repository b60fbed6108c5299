/-! PURE 67: the spot -/
set_option maxRecDepth 100000
/-- the spot holds the shape s (at a) so turned, mirrored and placed -/
def SPX (K : gK) (N : Nat) (G : gH) (B : gB) (M : gM) (ro : Nat → Nat) (a s : Nat) (cl : List Nat) (t m r c : Int) : Prop := CB K N G ∧ SHP K (PD N) (hH K N G B) ro a s M cl ∧ cl.Perm (dl M s) ∧ (B.1 0 8 = (M.1 1) ∧ B.1 0 9 = (M.1 2) ∧ B.1 0 10 = (M.1 3) ∧ B.1 0 11 = (M.1 4) ∧ ∀ r c : Nat, r < 60 → c < 12 → B.2.1 (5 + r) c = M.2 199 (12 * r + c)) ∧ (B.1 65 0 = (a : Int) ∧ B.1 65 1 = t ∧ B.1 65 2 = m ∧ B.1 65 3 = r ∧ B.1 65 4 = c) ∧ (0 ≤ m ∧ m ≤ 1) ∧ s < 8
theorem rn_n {a : Nat} : rn (a : Int) = .ref a := by rw [rn_ref (by omega), Int.toNat_natCast]
def mvB (B : gB) (t r c : Int) : gB := sI (sI (sI B 65 1 t) 65 3 r) 65 4 c
def chB (B : gB) (a : Nat) (m : Int) : gB := sI (sI B 65 0 (a : Int)) 65 2 m
section
variable {K : gK} {d N : Nat} {G G' : gH} {B B' B0 : gB} {M : gM} {ro : Nat → Nat} {a s : Nat} {cl : List Nat} {t m r c : Int}
theorem SPX.l25 (h : SPX K N G B M ro a s cl t m r c) : cl.length ≤ 25 ∧ ∀ k ∈ cl, k < 25 := by
  have q := h.2.2.1
  exact ⟨by rw [q.length_eq]; exact dl_len, fun k hk => dl_lt (q.mem_iff.mp hk)⟩
theorem SPX.ca (h : SPX K N G B M ro a s cl t m r c) : g_cls (hH K N G B) a = some 4 := by
  obtain ⟨p, mk, vr, h1, -⟩ := h.2.1
  exact cl_of h1
/-- the spot when other fixed objects changed -/
theorem SPX.ln (h : SPX K N G B M ro a s cl t m r c) (h1 : ∀ k, B'.1 0 k = B.1 0 k ∨ k = 13) (h2 : ∀ o j, o < 65 → B'.2.1 o j = B.2.1 o j) {t' m' r' c' : Int} (h3 : B'.1 65 0 = (a : Int) ∧ B'.1 65 1 = t' ∧ B'.1 65 2 = m' ∧ B'.1 65 3 = r' ∧ B'.1 65 4 = c') (hm : 0 ≤ m' ∧ m' ≤ 1) : SPX K N G B' M ro a s cl t' m' r' c' := by
  obtain ⟨q1, q2, q3, ⟨q4, q5, q6, q7, q8⟩, -, -, q9⟩ := h
  have hk := q1.2.2.2.1 3 (by omega)
  have hN : N ≤ G.2.1 := by have := q1.2.2.1; omega
  refine ⟨q1, q2.fo q1.hb (FR.ln q1) OW.ln hk hN, q3, ⟨((h1 8).resolve_right (by omega)).trans q4, ((h1 9).resolve_right (by omega)).trans q5, ((h1 10).resolve_right (by omega)).trans q6, ((h1 11).resolve_right (by omega)).trans q7, fun r c hr hc => (h2 _ _ (by omega)).trans (q8 r c hr hc)⟩, h3, hm, q9⟩
theorem SPX.mv (h : SPX K N G B M ro a s cl t m r c) {t' r' c' : Int} : SPX K N G (mvB B t' r' c') M ro a s cl t' m r' c' := by
  have h65 := h.2.2.2.2.1
  refine h.ln (fun k => Or.inl ((sI_ne (by omega)).trans ((sI_ne (by omega)).trans (sI_ne (by omega))))) (fun _ _ _ => rfl) ⟨?_, ?_, ?_, ?_, ?_⟩ h.2.2.2.2.2.1
  · exact ((sI_ne (by omega)).trans ((sI_ne (by omega)).trans (sI_ne (by omega)))).trans h65.1
  · exact (sI_ne (by omega)).trans ((sI_ne (by omega)).trans (sI_eq rfl))
  · exact ((sI_ne (by omega)).trans ((sI_ne (by omega)).trans (sI_ne (by omega)))).trans h65.2.2.1
  · exact (sI_ne (by omega)).trans (sI_eq rfl)
  · exact sI_eq rfl
theorem w_163 (hd : 1 ≤ d) {a : Nat} (hm : 0 ≤ m ∧ m ≤ 1) : gCa K d 163 [.ref (N + 65), .ref a, .int (I m)] (hH K N G B) = some (.inl none, hH K N G (chB B a m)) := by
  obtain ⟨d, rfl, hd'⟩ := d_succ (show 0 + 1 ≤ d by omega)
  refine c_163 _ ?_
  unfold t_163_0 chB
  simp (disch := omega) only [rI_d, rJ_d, rR_d, rN_d, wF_d, xI_d, xJ_d, xD_d, xQ_d, yI_d, yJ_d, yD_d, yQ_d, dI_s, dJ_s, dR_s, dN_s, dN_n, dH_s, dX_s, dL_s, dD_s, dQ_s, bC_r, bC_t, kI_s, kJ_s, kF_s, kD_s, kR_s, kV_s, I_lit, I_neg, I_add, I_sub, I_mul, I_ltT, I_ltF, I_leT, I_leF, I_eqT, I_eqF, c_int, c_long, c_obj, c_arr, c_bool, c_boolN, c_boolF, vn_bool, c_charN, vn_char, b2_f, b2_t, Int.toNat_natCast, ↓reduceIte, eq_self, and_self, and_true, true_and, not_false_eq_true, not_true_eq_false, L_0_0, L_0_1, L_0_2, L_0_3, L_0_4, L_0_5, L_0_6, L_0_7, L_0_8, L_0_9, L_0_10, L_0_11, L_0_12, L_0_13, L_0_14, L_0_15, C_0, L_1_0, L_1_1, L_1_2, C_1, L_2_0, L_2_1, L_2_2, C_2, L_3_0, L_3_1, L_3_2, C_3, L_65_0, L_65_1, L_65_2, L_65_3, L_65_4, C_65, L_66_0, L_66_1, L_66_2, L_66_3, C_66, L_129_0, L_129_1, L_129_2, L_129_3, C_129, L_198_0, L_198_1, L_198_2, L_198_3, L_198_4, L_198_5, L_198_6, L_198_7, L_198_8, L_198_9, L_198_10, L_198_11, L_198_12, L_198_13, L_198_14, L_198_15, L_198_16, L_198_17, L_198_18, L_198_19, L_198_20, L_198_21, L_198_22, L_198_23, L_198_24, L_198_25, L_198_26, L_198_27, L_198_28, L_198_29, L_198_30, L_198_31, L_198_32, L_198_33, L_198_34, L_198_35, L_198_36, L_198_37, L_198_38, L_198_39, L_198_40, L_198_41, L_198_42, L_198_43, L_198_44, L_198_45, L_198_46, L_198_47, L_198_48, C_198, A_199, A_200, A_201, A_202, A_203, A_204, A_205, A_206, A_207, A_208, A_209, A_210, A_211, A_212, A_213, A_214, A_215, A_216, A_217, A_218, A_219, A_220, A_221, A_222, A_223, A_224, A_225, A_226, A_227, A_228, A_128, A_191, A_rf, A_rs, A_rt, Q_4, Q_67, Q_130, t_163_0_1, t_163_0_2, M_0_8, M_0_9, M_0_10, M_0_11, M_0_12, M_0_13, M_0_14, M_0_15, M_1_0, M_1_1, M_1_2, M_2_0, M_2_1, M_2_2, M_3_0, M_3_1, M_3_2, M_65_0, M_65_1, M_65_2, M_65_3, M_65_4, M_66_2, M_129_2, M_198_0, M_198_1, M_198_2, M_198_3, M_198_4, M_198_5, M_198_7, M_198_17, M_198_18, M_198_28, M_198_31, M_198_32, M_198_33, M_198_36, M_198_37, M_198_38, M_198_39, M_198_41, M_198_48, S_199, S_200, S_201, S_202, S_203, S_204, S_205, S_206, S_207, S_208, S_209, S_210, S_211, S_212, S_213, S_214, S_215, S_216, S_217, S_218, S_219, S_220, S_221, S_222, S_223, S_224, S_225, S_226, S_227, S_228, S_128, S_191, S_rf, S_rs, S_rt, sI_eq, sI_ne, sI_21, sI_22, sA_eq, sA_ne, sA_1, sA_3]
theorem w_165 (hd : 1 ≤ d) : gCa K d 165 [.ref (N + 65), .int (I t), .int (I r), .int (I c)] (hH K N G B) = some (.inl none, hH K N G (mvB B t r c)) := by
  obtain ⟨d, rfl, hd'⟩ := d_succ (show 0 + 1 ≤ d by omega)
  refine c_165 _ ?_
  unfold t_165_0 mvB
  simp (disch := omega) only [rI_d, rJ_d, rR_d, rN_d, wF_d, xI_d, xJ_d, xD_d, xQ_d, yI_d, yJ_d, yD_d, yQ_d, dI_s, dJ_s, dR_s, dN_s, dN_n, dH_s, dX_s, dL_s, dD_s, dQ_s, bC_r, bC_t, kI_s, kJ_s, kF_s, kD_s, kR_s, kV_s, I_lit, I_neg, I_add, I_sub, I_mul, I_ltT, I_ltF, I_leT, I_leF, I_eqT, I_eqF, c_int, c_long, c_obj, c_arr, c_bool, c_boolN, c_boolF, vn_bool, c_charN, vn_char, b2_f, b2_t, Int.toNat_natCast, ↓reduceIte, eq_self, and_self, and_true, true_and, not_false_eq_true, not_true_eq_false, L_0_0, L_0_1, L_0_2, L_0_3, L_0_4, L_0_5, L_0_6, L_0_7, L_0_8, L_0_9, L_0_10, L_0_11, L_0_12, L_0_13, L_0_14, L_0_15, C_0, L_1_0, L_1_1, L_1_2, C_1, L_2_0, L_2_1, L_2_2, C_2, L_3_0, L_3_1, L_3_2, C_3, L_65_0, L_65_1, L_65_2, L_65_3, L_65_4, C_65, L_66_0, L_66_1, L_66_2, L_66_3, C_66, L_129_0, L_129_1, L_129_2, L_129_3, C_129, L_198_0, L_198_1, L_198_2, L_198_3, L_198_4, L_198_5, L_198_6, L_198_7, L_198_8, L_198_9, L_198_10, L_198_11, L_198_12, L_198_13, L_198_14, L_198_15, L_198_16, L_198_17, L_198_18, L_198_19, L_198_20, L_198_21, L_198_22, L_198_23, L_198_24, L_198_25, L_198_26, L_198_27, L_198_28, L_198_29, L_198_30, L_198_31, L_198_32, L_198_33, L_198_34, L_198_35, L_198_36, L_198_37, L_198_38, L_198_39, L_198_40, L_198_41, L_198_42, L_198_43, L_198_44, L_198_45, L_198_46, L_198_47, L_198_48, C_198, A_199, A_200, A_201, A_202, A_203, A_204, A_205, A_206, A_207, A_208, A_209, A_210, A_211, A_212, A_213, A_214, A_215, A_216, A_217, A_218, A_219, A_220, A_221, A_222, A_223, A_224, A_225, A_226, A_227, A_228, A_128, A_191, A_rf, A_rs, A_rt, Q_4, Q_67, Q_130, t_165_0_1, t_165_0_2, t_165_0_3, M_0_8, M_0_9, M_0_10, M_0_11, M_0_12, M_0_13, M_0_14, M_0_15, M_1_0, M_1_1, M_1_2, M_2_0, M_2_1, M_2_2, M_3_0, M_3_1, M_3_2, M_65_0, M_65_1, M_65_2, M_65_3, M_65_4, M_66_2, M_129_2, M_198_0, M_198_1, M_198_2, M_198_3, M_198_4, M_198_5, M_198_7, M_198_17, M_198_18, M_198_28, M_198_31, M_198_32, M_198_33, M_198_36, M_198_37, M_198_38, M_198_39, M_198_41, M_198_48, S_199, S_200, S_201, S_202, S_203, S_204, S_205, S_206, S_207, S_208, S_209, S_210, S_211, S_212, S_213, S_214, S_215, S_216, S_217, S_218, S_219, S_220, S_221, S_222, S_223, S_224, S_225, S_226, S_227, S_228, S_128, S_191, S_rf, S_rs, S_rt, sI_eq, sI_ne, sI_21, sI_22, sA_eq, sA_ne, sA_1, sA_3]
theorem w_228 (hd : 2 ≤ d) (h : SPX K N G B M ro a s cl t m r c) : gCa K d 228 [.ref (N + 65)] (hH K N G B) = some (.inl (some (.int (I (cl.length : Int)))), hH K N G B) := by
  obtain ⟨d, rfl, hd'⟩ := d_succ (show 1 + 1 ≤ d by omega)
  obtain ⟨p, mk, vr, h1, ⟨lmc, le, ca, c1, c2, hQ, c4, c5⟩, -⟩ := h.2.1
  obtain ⟨v1, v2, v3, v4, v5, v6, v7, v8, v9, v10⟩ := sh_rd h1
  have cc := cl_of c1
  have sz := w_110 (K := K) (d := d) (by omega) c1
  rw [c4] at sz
  have e0 := h.2.2.2.2.1.1
  refine c_228 _ ?_
  unfold t_228_0
  simp (disch := omega) only [rI_d, rJ_d, rR_d, rN_d, wF_d, xI_d, xJ_d, xD_d, xQ_d, yI_d, yJ_d, yD_d, yQ_d, dI_s, dJ_s, dR_s, dN_s, dN_n, dH_s, dX_s, dL_s, dD_s, dQ_s, bC_r, bC_t, kI_s, kJ_s, kF_s, kD_s, kR_s, kV_s, I_lit, I_neg, I_add, I_sub, I_mul, I_ltT, I_ltF, I_leT, I_leF, I_eqT, I_eqF, c_int, c_long, c_obj, c_arr, c_bool, c_boolN, c_boolF, vn_bool, c_charN, vn_char, b2_f, b2_t, Int.toNat_natCast, ↓reduceIte, eq_self, and_self, and_true, true_and, not_false_eq_true, not_true_eq_false, L_0_0, L_0_1, L_0_2, L_0_3, L_0_4, L_0_5, L_0_6, L_0_7, L_0_8, L_0_9, L_0_10, L_0_11, L_0_12, L_0_13, L_0_14, L_0_15, C_0, L_1_0, L_1_1, L_1_2, C_1, L_2_0, L_2_1, L_2_2, C_2, L_3_0, L_3_1, L_3_2, C_3, L_65_0, L_65_1, L_65_2, L_65_3, L_65_4, C_65, L_66_0, L_66_1, L_66_2, L_66_3, C_66, L_129_0, L_129_1, L_129_2, L_129_3, C_129, L_198_0, L_198_1, L_198_2, L_198_3, L_198_4, L_198_5, L_198_6, L_198_7, L_198_8, L_198_9, L_198_10, L_198_11, L_198_12, L_198_13, L_198_14, L_198_15, L_198_16, L_198_17, L_198_18, L_198_19, L_198_20, L_198_21, L_198_22, L_198_23, L_198_24, L_198_25, L_198_26, L_198_27, L_198_28, L_198_29, L_198_30, L_198_31, L_198_32, L_198_33, L_198_34, L_198_35, L_198_36, L_198_37, L_198_38, L_198_39, L_198_40, L_198_41, L_198_42, L_198_43, L_198_44, L_198_45, L_198_46, L_198_47, L_198_48, C_198, A_199, A_200, A_201, A_202, A_203, A_204, A_205, A_206, A_207, A_208, A_209, A_210, A_211, A_212, A_213, A_214, A_215, A_216, A_217, A_218, A_219, A_220, A_221, A_222, A_223, A_224, A_225, A_226, A_227, A_228, A_128, A_191, A_rf, A_rs, A_rt, Q_4, Q_67, Q_130, t_228_0_1, t_228_0_2, t_228_0_3, e0, rn_n, v4, cc, sz]
theorem w_248 (hd : 2 ≤ d) (h : SPX K N G B M ro a s cl t m r c) (ht : 0 ≤ t ∧ t ≤ 3) : ∃ va, gCa K d 248 [.ref (N + 65)] (hH K N G B) = some (.inl (some (.ref va)), hH K N G B) ∧ VA (PD N) (hH K N G B) va cl t m (mb M s cl t m) := by
  obtain ⟨d, rfl, hd'⟩ := d_succ (show 1 + 1 ≤ d by omega)
  have ca := h.ca
  obtain ⟨e0, e1, e2, e3, e4⟩ := h.2.2.2.2.1
  have hm := h.2.2.2.2.2.1
  obtain ⟨va, w1, hv⟩ := w_217 (K := K) (d := d) (by omega) h.2.1 ht hm
  refine ⟨va, c_248 _ ?_, hv⟩
  unfold t_248_0
  simp (disch := omega) only [rI_d, rJ_d, rR_d, rN_d, wF_d, xI_d, xJ_d, xD_d, xQ_d, yI_d, yJ_d, yD_d, yQ_d, dI_s, dJ_s, dR_s, dN_s, dN_n, dH_s, dX_s, dL_s, dD_s, dQ_s, bC_r, bC_t, kI_s, kJ_s, kF_s, kD_s, kR_s, kV_s, I_lit, I_neg, I_add, I_sub, I_mul, I_ltT, I_ltF, I_leT, I_leF, I_eqT, I_eqF, c_int, c_long, c_obj, c_arr, c_bool, c_boolN, c_boolF, vn_bool, c_charN, vn_char, b2_f, b2_t, Int.toNat_natCast, ↓reduceIte, eq_self, and_self, and_true, true_and, not_false_eq_true, not_true_eq_false, L_0_0, L_0_1, L_0_2, L_0_3, L_0_4, L_0_5, L_0_6, L_0_7, L_0_8, L_0_9, L_0_10, L_0_11, L_0_12, L_0_13, L_0_14, L_0_15, C_0, L_1_0, L_1_1, L_1_2, C_1, L_2_0, L_2_1, L_2_2, C_2, L_3_0, L_3_1, L_3_2, C_3, L_65_0, L_65_1, L_65_2, L_65_3, L_65_4, C_65, L_66_0, L_66_1, L_66_2, L_66_3, C_66, L_129_0, L_129_1, L_129_2, L_129_3, C_129, L_198_0, L_198_1, L_198_2, L_198_3, L_198_4, L_198_5, L_198_6, L_198_7, L_198_8, L_198_9, L_198_10, L_198_11, L_198_12, L_198_13, L_198_14, L_198_15, L_198_16, L_198_17, L_198_18, L_198_19, L_198_20, L_198_21, L_198_22, L_198_23, L_198_24, L_198_25, L_198_26, L_198_27, L_198_28, L_198_29, L_198_30, L_198_31, L_198_32, L_198_33, L_198_34, L_198_35, L_198_36, L_198_37, L_198_38, L_198_39, L_198_40, L_198_41, L_198_42, L_198_43, L_198_44, L_198_45, L_198_46, L_198_47, L_198_48, C_198, A_199, A_200, A_201, A_202, A_203, A_204, A_205, A_206, A_207, A_208, A_209, A_210, A_211, A_212, A_213, A_214, A_215, A_216, A_217, A_218, A_219, A_220, A_221, A_222, A_223, A_224, A_225, A_226, A_227, A_228, A_128, A_191, A_rf, A_rs, A_rt, Q_4, Q_67, Q_130, t_248_0_1, t_248_0_2, t_248_0_3, t_248_0_4, e0, rn_n, e1, e2, ca, w1]
theorem w_234 (hd : 3 ≤ d) (h : SPX K N G B M ro a s cl t m r c) (ht : 0 ≤ t ∧ t ≤ 3) {j : Int} (hj : 0 ≤ j) {k : Nat} (hk : cl[j.toNat]? = some k) : gCa K d 234 [.ref (N + 65), .int (I j)] (hH K N G B) = some (.inl (some (.int (I (r + oR cl t m k)))), hH K N G B) := by
  obtain ⟨d, rfl, hd'⟩ := d_succ (show 2 + 1 ≤ d by omega)
  obtain ⟨e0, e1, e2, e3, e4⟩ := h.2.2.2.2.1
  obtain ⟨va, w1, ra, ca, fr, fc, h1, -, h2, h3, h4⟩ := w_248 (d := d) (by omega) h ht
  have g0 := gf_of h1 0
  simp only [List.getElem?_cons_succ, List.getElem?_cons_zero] at g0
  have hl := h.l25.1
  have := (List.getElem?_eq_some_iff.mp hk).1
  have ia := ia_of h2 (z := j) (by omega) (by omega)
  rw [(h4 _ _ hk).1] at ia
  refine c_234 _ ?_
  unfold t_234_0
  simp (disch := omega) only [rI_d, rJ_d, rR_d, rN_d, wF_d, xI_d, xJ_d, xD_d, xQ_d, yI_d, yJ_d, yD_d, yQ_d, dI_s, dJ_s, dR_s, dN_s, dN_n, dH_s, dX_s, dL_s, dD_s, dQ_s, bC_r, bC_t, kI_s, kJ_s, kF_s, kD_s, kR_s, kV_s, I_lit, I_neg, I_add, I_sub, I_mul, I_ltT, I_ltF, I_leT, I_leF, I_eqT, I_eqF, c_int, c_long, c_obj, c_arr, c_bool, c_boolN, c_boolF, vn_bool, c_charN, vn_char, b2_f, b2_t, Int.toNat_natCast, ↓reduceIte, eq_self, and_self, and_true, true_and, not_false_eq_true, not_true_eq_false, L_0_0, L_0_1, L_0_2, L_0_3, L_0_4, L_0_5, L_0_6, L_0_7, L_0_8, L_0_9, L_0_10, L_0_11, L_0_12, L_0_13, L_0_14, L_0_15, C_0, L_1_0, L_1_1, L_1_2, C_1, L_2_0, L_2_1, L_2_2, C_2, L_3_0, L_3_1, L_3_2, C_3, L_65_0, L_65_1, L_65_2, L_65_3, L_65_4, C_65, L_66_0, L_66_1, L_66_2, L_66_3, C_66, L_129_0, L_129_1, L_129_2, L_129_3, C_129, L_198_0, L_198_1, L_198_2, L_198_3, L_198_4, L_198_5, L_198_6, L_198_7, L_198_8, L_198_9, L_198_10, L_198_11, L_198_12, L_198_13, L_198_14, L_198_15, L_198_16, L_198_17, L_198_18, L_198_19, L_198_20, L_198_21, L_198_22, L_198_23, L_198_24, L_198_25, L_198_26, L_198_27, L_198_28, L_198_29, L_198_30, L_198_31, L_198_32, L_198_33, L_198_34, L_198_35, L_198_36, L_198_37, L_198_38, L_198_39, L_198_40, L_198_41, L_198_42, L_198_43, L_198_44, L_198_45, L_198_46, L_198_47, L_198_48, C_198, A_199, A_200, A_201, A_202, A_203, A_204, A_205, A_206, A_207, A_208, A_209, A_210, A_211, A_212, A_213, A_214, A_215, A_216, A_217, A_218, A_219, A_220, A_221, A_222, A_223, A_224, A_225, A_226, A_227, A_228, A_128, A_191, A_rf, A_rs, A_rt, Q_4, Q_67, Q_130, t_234_0_1, t_234_0_2, t_234_0_3, t_234_0_4, e3, w1, g0, ia]
theorem w_235 (hd : 3 ≤ d) (h : SPX K N G B M ro a s cl t m r c) (ht : 0 ≤ t ∧ t ≤ 3) {j : Int} (hj : 0 ≤ j) {k : Nat} (hk : cl[j.toNat]? = some k) : gCa K d 235 [.ref (N + 65), .int (I j)] (hH K N G B) = some (.inl (some (.int (I (c + oC cl t m k)))), hH K N G B) := by
  obtain ⟨d, rfl, hd'⟩ := d_succ (show 2 + 1 ≤ d by omega)
  obtain ⟨e0, e1, e2, e3, e4⟩ := h.2.2.2.2.1
  obtain ⟨va, w1, ra, ca, fr, fc, h1, -, h2, h3, h4⟩ := w_248 (d := d) (by omega) h ht
  have g0 := gf_of h1 1
  simp only [List.getElem?_cons_succ, List.getElem?_cons_zero] at g0
  have hl := h.l25.1
  have := (List.getElem?_eq_some_iff.mp hk).1
  have ia := ia_of h3 (z := j) (by omega) (by omega)
  rw [(h4 _ _ hk).2] at ia
  refine c_235 _ ?_
  unfold t_235_0
  simp (disch := omega) only [rI_d, rJ_d, rR_d, rN_d, wF_d, xI_d, xJ_d, xD_d, xQ_d, yI_d, yJ_d, yD_d, yQ_d, dI_s, dJ_s, dR_s, dN_s, dN_n, dH_s, dX_s, dL_s, dD_s, dQ_s, bC_r, bC_t, kI_s, kJ_s, kF_s, kD_s, kR_s, kV_s, I_lit, I_neg, I_add, I_sub, I_mul, I_ltT, I_ltF, I_leT, I_leF, I_eqT, I_eqF, c_int, c_long, c_obj, c_arr, c_bool, c_boolN, c_boolF, vn_bool, c_charN, vn_char, b2_f, b2_t, Int.toNat_natCast, ↓reduceIte, eq_self, and_self, and_true, true_and, not_false_eq_true, not_true_eq_false, L_0_0, L_0_1, L_0_2, L_0_3, L_0_4, L_0_5, L_0_6, L_0_7, L_0_8, L_0_9, L_0_10, L_0_11, L_0_12, L_0_13, L_0_14, L_0_15, C_0, L_1_0, L_1_1, L_1_2, C_1, L_2_0, L_2_1, L_2_2, C_2, L_3_0, L_3_1, L_3_2, C_3, L_65_0, L_65_1, L_65_2, L_65_3, L_65_4, C_65, L_66_0, L_66_1, L_66_2, L_66_3, C_66, L_129_0, L_129_1, L_129_2, L_129_3, C_129, L_198_0, L_198_1, L_198_2, L_198_3, L_198_4, L_198_5, L_198_6, L_198_7, L_198_8, L_198_9, L_198_10, L_198_11, L_198_12, L_198_13, L_198_14, L_198_15, L_198_16, L_198_17, L_198_18, L_198_19, L_198_20, L_198_21, L_198_22, L_198_23, L_198_24, L_198_25, L_198_26, L_198_27, L_198_28, L_198_29, L_198_30, L_198_31, L_198_32, L_198_33, L_198_34, L_198_35, L_198_36, L_198_37, L_198_38, L_198_39, L_198_40, L_198_41, L_198_42, L_198_43, L_198_44, L_198_45, L_198_46, L_198_47, L_198_48, C_198, A_199, A_200, A_201, A_202, A_203, A_204, A_205, A_206, A_207, A_208, A_209, A_210, A_211, A_212, A_213, A_214, A_215, A_216, A_217, A_218, A_219, A_220, A_221, A_222, A_223, A_224, A_225, A_226, A_227, A_228, A_128, A_191, A_rf, A_rs, A_rt, Q_4, Q_67, Q_130, t_235_0_1, t_235_0_2, t_235_0_3, t_235_0_4, e4, w1, g0, ia]
theorem w_249 (hd : 3 ≤ d) (h : SPX K N G B M ro a s cl t m r c) (ht : 0 ≤ t ∧ t ≤ 3) : gCa K d 249 [.ref (N + 65)] (hH K N G B) = some (.inl (some (.int (I (r + mb M s cl t m)))), hH K N G B) := by
  obtain ⟨d, rfl, hd'⟩ := d_succ (show 2 + 1 ≤ d by omega)
  obtain ⟨e0, e1, e2, e3, e4⟩ := h.2.2.2.2.1
  obtain ⟨va, w1, ra, ca, fr, fc, h1, -⟩ := w_248 (d := d) (by omega) h ht
  have g0 := gf_of h1 2
  simp only [List.getElem?_cons_succ, List.getElem?_cons_zero] at g0
  refine c_249 _ ?_
  unfold t_249_0
  simp (disch := omega) only [rI_d, rJ_d, rR_d, rN_d, wF_d, xI_d, xJ_d, xD_d, xQ_d, yI_d, yJ_d, yD_d, yQ_d, dI_s, dJ_s, dR_s, dN_s, dN_n, dH_s, dX_s, dL_s, dD_s, dQ_s, bC_r, bC_t, kI_s, kJ_s, kF_s, kD_s, kR_s, kV_s, I_lit, I_neg, I_add, I_sub, I_mul, I_ltT, I_ltF, I_leT, I_leF, I_eqT, I_eqF, c_int, c_long, c_obj, c_arr, c_bool, c_boolN, c_boolF, vn_bool, c_charN, vn_char, b2_f, b2_t, Int.toNat_natCast, ↓reduceIte, eq_self, and_self, and_true, true_and, not_false_eq_true, not_true_eq_false, L_0_0, L_0_1, L_0_2, L_0_3, L_0_4, L_0_5, L_0_6, L_0_7, L_0_8, L_0_9, L_0_10, L_0_11, L_0_12, L_0_13, L_0_14, L_0_15, C_0, L_1_0, L_1_1, L_1_2, C_1, L_2_0, L_2_1, L_2_2, C_2, L_3_0, L_3_1, L_3_2, C_3, L_65_0, L_65_1, L_65_2, L_65_3, L_65_4, C_65, L_66_0, L_66_1, L_66_2, L_66_3, C_66, L_129_0, L_129_1, L_129_2, L_129_3, C_129, L_198_0, L_198_1, L_198_2, L_198_3, L_198_4, L_198_5, L_198_6, L_198_7, L_198_8, L_198_9, L_198_10, L_198_11, L_198_12, L_198_13, L_198_14, L_198_15, L_198_16, L_198_17, L_198_18, L_198_19, L_198_20, L_198_21, L_198_22, L_198_23, L_198_24, L_198_25, L_198_26, L_198_27, L_198_28, L_198_29, L_198_30, L_198_31, L_198_32, L_198_33, L_198_34, L_198_35, L_198_36, L_198_37, L_198_38, L_198_39, L_198_40, L_198_41, L_198_42, L_198_43, L_198_44, L_198_45, L_198_46, L_198_47, L_198_48, C_198, A_199, A_200, A_201, A_202, A_203, A_204, A_205, A_206, A_207, A_208, A_209, A_210, A_211, A_212, A_213, A_214, A_215, A_216, A_217, A_218, A_219, A_220, A_221, A_222, A_223, A_224, A_225, A_226, A_227, A_228, A_128, A_191, A_rf, A_rs, A_rt, Q_4, Q_67, Q_130, t_249_0_1, t_249_0_2, t_249_0_3, e3, w1, g0]
end
