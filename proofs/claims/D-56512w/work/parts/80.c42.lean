/-! PURE 81: styles are asked -/
set_option maxRecDepth 100000
section
variable {K : gK} {d N : Nat} {G G' : gH} {B B' B0 : gB} {M M' : gM} {ro : Nat → Nat} {sh st pc : List Nat} {cs : Nat → List Nat} {ps : Nat → List (Nat × Int)} {a i : Nat}
def pcF (M : gM) (z : Int) (q : Nat × Int) : Int := z + q.2 * (if M.2 201 q.1 = 0 then 1 else 2)
theorem tk_fold {p : List (Nat × Int)} {n : Nat} (h : PSW p M i n) (hn : n ≤ 8) : p.foldl (pcF M) 0 = tkP M (i : Int) n := by
  refine h.fold hn (pcF M) (fun x y z => ?_) (fun z s => ?_) (tkP M (i : Int)) (fun k => ?_)
  · unfold pcF; omega
  · unfold pcF; omega
  · show tkP M (i : Int) k + M.2 218 (8 * (i : Int) + k).toNat * _ = pcF M _ _
    rw [show (8 * (i : Int) + (k : Int)).toNat = 8 * i + k by omega]; rfl
/-- a part read -/
theorem CR.part (hR : CR K N G B ro M sh st pc cs ps) (hi : st[i]? = some a) : ∃ p mc e ca, (hH K N G B).1 a = some (.inr (8, [.ref p, .int (I (M.2 219 i))])) ∧ ALo (hH K N G B) p mc e ca.length ∧ ARR K (hH K N G B) e ca ∧ ca.length = (ps i).length ∧ ∀ (j : Nat) (q : Nat × Int), (ps i)[j]? = some q → ∃ c b, ca[j]? = some c ∧ sh[q.1]? = some b ∧ (hH K N G B).1 c = some (.inr (9, [.ref b, .int (I q.2)])) := by
  obtain ⟨⟨p, mc, e, ca, h1, c1, c2, c3, c4, -⟩, -⟩ := hR.sy hi
  refine ⟨p, mc, e, ca, h1, c1, c2, c3, fun j q hq => ?_⟩
  obtain ⟨c, hc⟩ := at_lt (l := ca) (i := j) (by have := (List.getElem?_eq_some_iff.mp hq).1; omega)
  obtain ⟨b, k1, k2⟩ := c4 j c q hc hq
  exact ⟨c, b, hc, k1, k2⟩
theorem ps_len (hR : CR K N G B ro M sh st pc cs ps) (hi : st[i]? = some a) (h8 : sh.length ≤ 8) : (ps i).length ≤ 8 := by
  have h1 := ((hR.sy hi).2.perm h8).length_eq
  rw [h1]
  unfold cps
  rw [List.length_map]
  have := List.length_filter_le (fun s => decide (M.2 218 (8 * i + s) ≠ 0)) (List.range sh.length)
  rw [List.length_range] at this
  omega
theorem w_219 (hd : 1 ≤ d) (hw : MW B0) (hR : CR K N G B ro (tw B0) sh st pc cs ps) {c b s : Nat} {x : Int} (hb : sh[s]? = some b) (hc : (hH K N G B).1 c = some (.inr (9, [.ref b, .int (I x)]))) : gCa K d 219 [.ref c] (hH K N G B) = some (.inl (some (.int (I (x * (if B0.2.1 201 s = 0 then 1 else 2))))), hH K N G B) := by
  obtain ⟨d, rfl, hd'⟩ := d_succ (show 0 + 1 ≤ d by omega)
  have g0 := gf_of hc 0
  have g1 := gf_of hc 1
  simp only [List.getElem?_cons_succ, List.getElem?_cons_zero] at g0 g1
  obtain ⟨⟨p, mk, vr, h1, -⟩, -⟩ := hR.sp hb
  obtain ⟨v1, v2, v3, -⟩ := sh_rd h1
  have v3' : g_gf (hH K N G B) b 4 1 = some (.int (I (B0.2.1 201 s))) := v3
  have bp := mw_paired hw s
  refine c_219 _ ?_
  unfold t_219_0
  by_cases e : B0.2.1 201 s = 0
  · rw [if_pos e, Int.mul_one]
    rw [e] at v3'
    simp (disch := omega) only [rI_d, rJ_d, rR_d, rN_d, wF_d, xI_d, xJ_d, xD_d, xQ_d, yI_d, yJ_d, yD_d, yQ_d, dI_s, dJ_s, dR_s, dN_s, dN_n, dH_s, dX_s, dL_s, dD_s, dQ_s, bC_r, bC_t, kI_s, kJ_s, kF_s, kD_s, kR_s, kV_s, I_lit, I_neg, I_add, I_sub, I_mul, I_ltT, I_ltF, I_leT, I_leF, I_eqT, I_eqF, c_int, c_long, c_obj, c_arr, c_bool, c_boolN, c_boolF, vn_bool, c_charN, vn_char, b2_f, b2_t, Int.toNat_natCast, ↓reduceIte, eq_self, and_self, and_true, true_and, not_false_eq_true, not_true_eq_false, L_0_0, L_0_1, L_0_2, L_0_3, L_0_4, L_0_5, L_0_6, L_0_7, L_0_8, L_0_9, L_0_10, L_0_11, L_0_12, L_0_13, L_0_14, L_0_15, C_0, L_1_0, L_1_1, L_1_2, C_1, L_2_0, L_2_1, L_2_2, C_2, L_3_0, L_3_1, L_3_2, C_3, L_65_0, L_65_1, L_65_2, L_65_3, L_65_4, C_65, L_66_0, L_66_1, L_66_2, L_66_3, C_66, L_129_0, L_129_1, L_129_2, L_129_3, C_129, L_198_0, L_198_1, L_198_2, L_198_3, L_198_4, L_198_5, L_198_6, L_198_7, L_198_8, L_198_9, L_198_10, L_198_11, L_198_12, L_198_13, L_198_14, L_198_15, L_198_16, L_198_17, L_198_18, L_198_19, L_198_20, L_198_21, L_198_22, L_198_23, L_198_24, L_198_25, L_198_26, L_198_27, L_198_28, L_198_29, L_198_30, L_198_31, L_198_32, L_198_33, L_198_34, L_198_35, L_198_36, L_198_37, L_198_38, L_198_39, L_198_40, L_198_41, L_198_42, L_198_43, L_198_44, L_198_45, L_198_46, L_198_47, L_198_48, C_198, A_199, A_200, A_201, A_202, A_203, A_204, A_205, A_206, A_207, A_208, A_209, A_210, A_211, A_212, A_213, A_214, A_215, A_216, A_217, A_218, A_219, A_220, A_221, A_222, A_223, A_224, A_225, A_226, A_227, A_228, A_128, A_191, A_rf, A_rs, A_rt, Q_4, Q_67, Q_130, t_219_0_1, t_219_0_2, t_219_0_3, t_219_0_4, g0, g1, v3']
  · rw [if_neg e, Int.mul_comm]
    simp (disch := omega) only [rI_d, rJ_d, rR_d, rN_d, wF_d, xI_d, xJ_d, xD_d, xQ_d, yI_d, yJ_d, yD_d, yQ_d, dI_s, dJ_s, dR_s, dN_s, dN_n, dH_s, dX_s, dL_s, dD_s, dQ_s, bC_r, bC_t, kI_s, kJ_s, kF_s, kD_s, kR_s, kV_s, I_lit, I_neg, I_add, I_sub, I_mul, I_ltT, I_ltF, I_leT, I_leF, I_eqT, I_eqF, c_int, c_long, c_obj, c_arr, c_bool, c_boolN, c_boolF, vn_bool, c_charN, vn_char, b2_f, b2_t, Int.toNat_natCast, ↓reduceIte, eq_self, and_self, and_true, true_and, not_false_eq_true, not_true_eq_false, L_0_0, L_0_1, L_0_2, L_0_3, L_0_4, L_0_5, L_0_6, L_0_7, L_0_8, L_0_9, L_0_10, L_0_11, L_0_12, L_0_13, L_0_14, L_0_15, C_0, L_1_0, L_1_1, L_1_2, C_1, L_2_0, L_2_1, L_2_2, C_2, L_3_0, L_3_1, L_3_2, C_3, L_65_0, L_65_1, L_65_2, L_65_3, L_65_4, C_65, L_66_0, L_66_1, L_66_2, L_66_3, C_66, L_129_0, L_129_1, L_129_2, L_129_3, C_129, L_198_0, L_198_1, L_198_2, L_198_3, L_198_4, L_198_5, L_198_6, L_198_7, L_198_8, L_198_9, L_198_10, L_198_11, L_198_12, L_198_13, L_198_14, L_198_15, L_198_16, L_198_17, L_198_18, L_198_19, L_198_20, L_198_21, L_198_22, L_198_23, L_198_24, L_198_25, L_198_26, L_198_27, L_198_28, L_198_29, L_198_30, L_198_31, L_198_32, L_198_33, L_198_34, L_198_35, L_198_36, L_198_37, L_198_38, L_198_39, L_198_40, L_198_41, L_198_42, L_198_43, L_198_44, L_198_45, L_198_46, L_198_47, L_198_48, C_198, A_199, A_200, A_201, A_202, A_203, A_204, A_205, A_206, A_207, A_208, A_209, A_210, A_211, A_212, A_213, A_214, A_215, A_216, A_217, A_218, A_219, A_220, A_221, A_222, A_223, A_224, A_225, A_226, A_227, A_228, A_128, A_191, A_rf, A_rs, A_rt, Q_4, Q_67, Q_130, t_219_0_1, t_219_0_2, t_219_0_3, t_219_0_4, g0, g1, v3']
theorem l_184 (hd : 3 ≤ d) (hw : MW B0) (hR : CR K N G B ro (tw B0) sh st pc cs ps) (hi : st[i]? = some a) : ∀ (n : Nat) (y : Int) (z : Int) (o3 : Option Value), 0 ≤ y → y + n = (ps i).length →
    gRn K d 184 4 [some (.ref a), some (.int (I z)), some (.int (I y)), o3] [] (hH K N G B) = some (.inl (some (.int (I (((ps i).drop y.toNat).foldl (pcF (tw B0)) z)))), hH K N G B) := by
  have h8 : sh.length ≤ 8 := by
    have := mw_shapes hw
    have h2 : (B0.1 198 7) = (sh.length : Int) := hR.nn.1
    omega
  have hl := ps_len hR hi h8
  obtain ⟨p, mc, e, ca, h1, c1, c2, c3, c4⟩ := hR.part hi
  have g0 := gf_of h1 0
  simp only [List.getElem?_cons_zero] at g0
  have cc := cl_of c1
  have sz := w_110 (K := K) (d := d) (by omega) c1
  rw [c3] at sz
  intro n
  induction n with
  | zero =>
    intro y z o3 hy hn
    rw [List.drop_eq_nil_of_le (by omega)]
    refine e_184_4 _ ?_
    unfold t_184_4
    simp (disch := omega) only [rI_d, rJ_d, rR_d, rN_d, wF_d, xI_d, xJ_d, xD_d, xQ_d, yI_d, yJ_d, yD_d, yQ_d, dI_s, dJ_s, dR_s, dN_s, dN_n, dH_s, dX_s, dL_s, dD_s, dQ_s, bC_r, bC_t, kI_s, kJ_s, kF_s, kD_s, kR_s, kV_s, I_lit, I_neg, I_add, I_sub, I_mul, I_ltT, I_ltF, I_leT, I_leF, I_eqT, I_eqF, c_int, c_long, c_obj, c_arr, c_bool, c_boolN, c_boolF, vn_bool, c_charN, vn_char, b2_f, b2_t, Int.toNat_natCast, ↓reduceIte, eq_self, and_self, and_true, true_and, not_false_eq_true, not_true_eq_false, L_0_0, L_0_1, L_0_2, L_0_3, L_0_4, L_0_5, L_0_6, L_0_7, L_0_8, L_0_9, L_0_10, L_0_11, L_0_12, L_0_13, L_0_14, L_0_15, C_0, L_1_0, L_1_1, L_1_2, C_1, L_2_0, L_2_1, L_2_2, C_2, L_3_0, L_3_1, L_3_2, C_3, L_65_0, L_65_1, L_65_2, L_65_3, L_65_4, C_65, L_66_0, L_66_1, L_66_2, L_66_3, C_66, L_129_0, L_129_1, L_129_2, L_129_3, C_129, L_198_0, L_198_1, L_198_2, L_198_3, L_198_4, L_198_5, L_198_6, L_198_7, L_198_8, L_198_9, L_198_10, L_198_11, L_198_12, L_198_13, L_198_14, L_198_15, L_198_16, L_198_17, L_198_18, L_198_19, L_198_20, L_198_21, L_198_22, L_198_23, L_198_24, L_198_25, L_198_26, L_198_27, L_198_28, L_198_29, L_198_30, L_198_31, L_198_32, L_198_33, L_198_34, L_198_35, L_198_36, L_198_37, L_198_38, L_198_39, L_198_40, L_198_41, L_198_42, L_198_43, L_198_44, L_198_45, L_198_46, L_198_47, L_198_48, C_198, A_199, A_200, A_201, A_202, A_203, A_204, A_205, A_206, A_207, A_208, A_209, A_210, A_211, A_212, A_213, A_214, A_215, A_216, A_217, A_218, A_219, A_220, A_221, A_222, A_223, A_224, A_225, A_226, A_227, A_228, A_128, A_191, A_rf, A_rs, A_rt, Q_4, Q_67, Q_130, t_184_4_1, t_184_4_2, t_184_4_3, t_184_4_4, t_184_4_5, g0, cc, sz]
    rfl
  | succ n ih =>
    intro y z o3 hy hn
    have hyl : y.toNat < (ps i).length := by omega
    have hk : (ps i)[y.toNat]? = some (ps i)[y.toNat] := List.getElem?_eq_getElem hyl
    rw [List.drop_eq_getElem_cons hyl, List.foldl_cons]
    generalize (ps i)[y.toNat] = q at hk ⊢
    obtain ⟨c, b, k1, k2, k3⟩ := c4 _ _ hk
    have wg := w_178 (K := K) (d := d) (by omega) c1 c2 hy k1 (by omega)
    have w1 := w_219 (d := d) (by omega) hw hR k2 k3
    have k4 := cl_of k3
    have ih := ih (y + 1) (z + q.2 * (if B0.2.1 201 q.1 = 0 then 1 else 2)) (some (.ref c)) (by omega) (by omega)
    rw [show (y + 1).toNat = y.toNat + 1 by omega] at ih
    refine e_184_4 _ ?_
    unfold t_184_4
    rw [show pcF (tw B0) z q = z + q.2 * (if B0.2.1 201 q.1 = 0 then 1 else 2) from rfl]
    generalize q.2 * (if B0.2.1 201 q.1 = 0 then 1 else 2) = Z at *
    simp (disch := omega) only [rI_d, rJ_d, rR_d, rN_d, wF_d, xI_d, xJ_d, xD_d, xQ_d, yI_d, yJ_d, yD_d, yQ_d, dI_s, dJ_s, dR_s, dN_s, dN_n, dH_s, dX_s, dL_s, dD_s, dQ_s, bC_r, bC_t, kI_s, kJ_s, kF_s, kD_s, kR_s, kV_s, I_lit, I_neg, I_add, I_sub, I_mul, I_ltT, I_ltF, I_leT, I_leF, I_eqT, I_eqF, c_int, c_long, c_obj, c_arr, c_bool, c_boolN, c_boolF, vn_bool, c_charN, vn_char, b2_f, b2_t, Int.toNat_natCast, ↓reduceIte, eq_self, and_self, and_true, true_and, not_false_eq_true, not_true_eq_false, L_0_0, L_0_1, L_0_2, L_0_3, L_0_4, L_0_5, L_0_6, L_0_7, L_0_8, L_0_9, L_0_10, L_0_11, L_0_12, L_0_13, L_0_14, L_0_15, C_0, L_1_0, L_1_1, L_1_2, C_1, L_2_0, L_2_1, L_2_2, C_2, L_3_0, L_3_1, L_3_2, C_3, L_65_0, L_65_1, L_65_2, L_65_3, L_65_4, C_65, L_66_0, L_66_1, L_66_2, L_66_3, C_66, L_129_0, L_129_1, L_129_2, L_129_3, C_129, L_198_0, L_198_1, L_198_2, L_198_3, L_198_4, L_198_5, L_198_6, L_198_7, L_198_8, L_198_9, L_198_10, L_198_11, L_198_12, L_198_13, L_198_14, L_198_15, L_198_16, L_198_17, L_198_18, L_198_19, L_198_20, L_198_21, L_198_22, L_198_23, L_198_24, L_198_25, L_198_26, L_198_27, L_198_28, L_198_29, L_198_30, L_198_31, L_198_32, L_198_33, L_198_34, L_198_35, L_198_36, L_198_37, L_198_38, L_198_39, L_198_40, L_198_41, L_198_42, L_198_43, L_198_44, L_198_45, L_198_46, L_198_47, L_198_48, C_198, A_199, A_200, A_201, A_202, A_203, A_204, A_205, A_206, A_207, A_208, A_209, A_210, A_211, A_212, A_213, A_214, A_215, A_216, A_217, A_218, A_219, A_220, A_221, A_222, A_223, A_224, A_225, A_226, A_227, A_228, A_128, A_191, A_rf, A_rs, A_rt, Q_4, Q_67, Q_130, t_184_4_1, t_184_4_2, t_184_4_3, t_184_4_4, t_184_4_5, g0, cc, sz, wg, k4, w1, ih]
theorem h8_of (hw : MW B0) (hR : CR K N G B ro (tw B0) sh st pc cs ps) : sh.length ≤ 8 ∧ st.length ≤ 4 := by
  have h1 := mw_shapes hw
  have h2 : (B0.1 198 7) = (sh.length : Int) := hR.nn.1
  have h3 := mw_styles hw
  have h4 : (B0.1 198 28) = (st.length : Int) := hR.nn.2.1
  omega
theorem w_184 (hd : 4 ≤ d) (hw : MW B0) (hR : CR K N G B ro (tw B0) sh st pc cs ps) (hi : st[i]? = some a) : gCa K d 184 [.ref a] (hH K N G B) = some (.inl (some (.int (I (tk (tw B0) i)))), hH K N G B) := by
  obtain ⟨d, rfl, hd'⟩ := d_succ (show 3 + 1 ≤ d by omega)
  have h8 := (h8_of hw hR).1
  have := l_184 (d := d) (by omega) hw hR hi (ps i).length 0 0 none (by omega) (by omega)
  rw [show (0 : Int).toNat = 0 from rfl, List.drop_zero, tk_fold (hR.sy hi).2 h8] at this
  have e : tk (tw B0) i = tkP (tw B0) (i : Int) sh.length := by
    have h2 : (B0.1 198 7) = (sh.length : Int) := hR.nn.1
    show tkP (tw B0) (i : Int) ((B0.1 198 7)).toNat = _
    rw [show ((B0.1 198 7)).toNat = sh.length by omega]
  rw [e]
  refine c_184 _ ?_
  unfold t_184_0
  simp only [I_lit, I_neg, I_add, I_sub, I_mul, I_ltT, I_ltF, I_leT, I_leF, I_eqT, I_eqF, c_int, c_long, c_obj, c_arr, c_bool, c_boolN, c_boolF, vn_bool, c_charN, vn_char, b2_f, b2_t]
  exact this
theorem w_125 (hd : 6 ≤ d) (hw : MW B) (hR : CR K N G B ro (tw B) sh st pc cs ps) {s : Int} (h1 : R32 s) : gCa K d 125 [.ref N, .int (I s)] (hH K N G B) =
    some (cif (k_style (tw B) s = 0) (.inl (some (.int (I (tk (tw B) s)))), hH K N G B) (.inr 3, hH K N (gjunk G 6) B)) := by
  obtain ⟨d, rfl, hd'⟩ := d_succ (show 5 + 1 ≤ d by omega)
  have e3 : (B.1 198 28) = (st.length : Int) := hR.nn.2.1
  have h8 := h8_of hw hR
  refine c_125 _ ?_
  unfold t_125_0
  by_cases e : 0 ≤ s ∧ s ≤ (B.1 198 28) - 1
  · have hk : k_style (tw B) s = 0 := by
      unfold k_style
      rw [cifT e]
    obtain ⟨a, ha⟩ := at_lt (show s.toNat < st.length by omega)
    have w := w_181 (d := d) (by omega) hR (by omega) e.1 ha
    have w1 := w_184 (d := d) (by omega) hw hR ha
    rw [show ((s.toNat : Nat) : Int) = s by omega] at w1
    obtain ⟨p, mc, e', ca, h1, -⟩ := hR.part ha
    have v1 := cl_of h1
    rw [hk]
    simp (disch := omega) only [rI_d, rJ_d, rR_d, rN_d, wF_d, xI_d, xJ_d, xD_d, xQ_d, yI_d, yJ_d, yD_d, yQ_d, dI_s, dJ_s, dR_s, dN_s, dN_n, dH_s, dX_s, dL_s, dD_s, dQ_s, bC_r, bC_t, kI_s, kJ_s, kF_s, kD_s, kR_s, kV_s, I_lit, I_neg, I_add, I_sub, I_mul, I_ltT, I_ltF, I_leT, I_leF, I_eqT, I_eqF, c_int, c_long, c_obj, c_arr, c_bool, c_boolN, c_boolF, vn_bool, c_charN, vn_char, b2_f, b2_t, Int.toNat_natCast, ↓reduceIte, eq_self, and_self, and_true, true_and, not_false_eq_true, not_true_eq_false, L_0_0, L_0_1, L_0_2, L_0_3, L_0_4, L_0_5, L_0_6, L_0_7, L_0_8, L_0_9, L_0_10, L_0_11, L_0_12, L_0_13, L_0_14, L_0_15, C_0, L_1_0, L_1_1, L_1_2, C_1, L_2_0, L_2_1, L_2_2, C_2, L_3_0, L_3_1, L_3_2, C_3, L_65_0, L_65_1, L_65_2, L_65_3, L_65_4, C_65, L_66_0, L_66_1, L_66_2, L_66_3, C_66, L_129_0, L_129_1, L_129_2, L_129_3, C_129, L_198_0, L_198_1, L_198_2, L_198_3, L_198_4, L_198_5, L_198_6, L_198_7, L_198_8, L_198_9, L_198_10, L_198_11, L_198_12, L_198_13, L_198_14, L_198_15, L_198_16, L_198_17, L_198_18, L_198_19, L_198_20, L_198_21, L_198_22, L_198_23, L_198_24, L_198_25, L_198_26, L_198_27, L_198_28, L_198_29, L_198_30, L_198_31, L_198_32, L_198_33, L_198_34, L_198_35, L_198_36, L_198_37, L_198_38, L_198_39, L_198_40, L_198_41, L_198_42, L_198_43, L_198_44, L_198_45, L_198_46, L_198_47, L_198_48, C_198, A_199, A_200, A_201, A_202, A_203, A_204, A_205, A_206, A_207, A_208, A_209, A_210, A_211, A_212, A_213, A_214, A_215, A_216, A_217, A_218, A_219, A_220, A_221, A_222, A_223, A_224, A_225, A_226, A_227, A_228, A_128, A_191, A_rf, A_rs, A_rt, Q_4, Q_67, Q_130, t_125_0_1, t_125_0_2, iltT, iltF, ileT, ileF, ieqT, ieqF, cif_T, cif_F, not_true_eq_false, not_false_eq_true, or_true, or_false, true_or, false_or, false_and, and_false, ne_eq, w, v1, w1]
  · have hk : k_style (tw B) s = 1 := by
      unfold k_style
      rw [cifF e]
    have w := w_181F (d := d) (by omega) hR (by omega) h1 (by omega)
    rw [hk]
    simp (disch := omega) only [rI_d, rJ_d, rR_d, rN_d, wF_d, xI_d, xJ_d, xD_d, xQ_d, yI_d, yJ_d, yD_d, yQ_d, dI_s, dJ_s, dR_s, dN_s, dN_n, dH_s, dX_s, dL_s, dD_s, dQ_s, bC_r, bC_t, kI_s, kJ_s, kF_s, kD_s, kR_s, kV_s, I_lit, I_neg, I_add, I_sub, I_mul, I_ltT, I_ltF, I_leT, I_leF, I_eqT, I_eqF, c_int, c_long, c_obj, c_arr, c_bool, c_boolN, c_boolF, vn_bool, c_charN, vn_char, b2_f, b2_t, Int.toNat_natCast, ↓reduceIte, eq_self, and_self, and_true, true_and, not_false_eq_true, not_true_eq_false, L_0_0, L_0_1, L_0_2, L_0_3, L_0_4, L_0_5, L_0_6, L_0_7, L_0_8, L_0_9, L_0_10, L_0_11, L_0_12, L_0_13, L_0_14, L_0_15, C_0, L_1_0, L_1_1, L_1_2, C_1, L_2_0, L_2_1, L_2_2, C_2, L_3_0, L_3_1, L_3_2, C_3, L_65_0, L_65_1, L_65_2, L_65_3, L_65_4, C_65, L_66_0, L_66_1, L_66_2, L_66_3, C_66, L_129_0, L_129_1, L_129_2, L_129_3, C_129, L_198_0, L_198_1, L_198_2, L_198_3, L_198_4, L_198_5, L_198_6, L_198_7, L_198_8, L_198_9, L_198_10, L_198_11, L_198_12, L_198_13, L_198_14, L_198_15, L_198_16, L_198_17, L_198_18, L_198_19, L_198_20, L_198_21, L_198_22, L_198_23, L_198_24, L_198_25, L_198_26, L_198_27, L_198_28, L_198_29, L_198_30, L_198_31, L_198_32, L_198_33, L_198_34, L_198_35, L_198_36, L_198_37, L_198_38, L_198_39, L_198_40, L_198_41, L_198_42, L_198_43, L_198_44, L_198_45, L_198_46, L_198_47, L_198_48, C_198, A_199, A_200, A_201, A_202, A_203, A_204, A_205, A_206, A_207, A_208, A_209, A_210, A_211, A_212, A_213, A_214, A_215, A_216, A_217, A_218, A_219, A_220, A_221, A_222, A_223, A_224, A_225, A_226, A_227, A_228, A_128, A_191, A_rf, A_rs, A_rt, Q_4, Q_67, Q_130, t_125_0_1, t_125_0_2, iltT, iltF, ileT, ileF, ieqT, ieqF, cif_T, cif_F, not_true_eq_false, not_false_eq_true, or_true, or_false, true_or, false_or, false_and, and_false, ne_eq, w]
theorem l_182 (hd : 3 ≤ d) (hw : MW B0) (hR : CR K N G B ro (tw B0) sh st pc cs ps) (hi : st[i]? = some a) {s b0 : Nat} (hs : sh[s]? = some b0) : ∀ (n : Nat) (y : Int) (o3 : Option Value), 0 ≤ y → y + n = (ps i).length →
    gRn K d 182 2 [some (.ref a), some (.ref b0), some (.int (I y)), o3] [] (hH K N G B) = some (.inl (some (.int (I (b2 (∃ q ∈ (ps i).drop y.toNat, q.1 = s))))), hH K N G B) := by
  have h8 := (h8_of hw hR).1
  have hl := ps_len hR hi h8
  obtain ⟨p, mc, e, ca, h1, c1, c2, c3, c4⟩ := hR.part hi
  have g0 := gf_of h1 0
  simp only [List.getElem?_cons_zero] at g0
  have cc := cl_of c1
  have sz := w_110 (K := K) (d := d) (by omega) c1
  rw [c3] at sz
  intro n
  induction n with
  | zero =>
    intro y o3 hy hn
    rw [List.drop_eq_nil_of_le (by omega), b2F (by rintro ⟨k, hk, -⟩; cases hk)]
    refine e_182_2 _ ?_
    unfold t_182_2
    simp (disch := omega) only [rI_d, rJ_d, rR_d, rN_d, wF_d, xI_d, xJ_d, xD_d, xQ_d, yI_d, yJ_d, yD_d, yQ_d, dI_s, dJ_s, dR_s, dN_s, dN_n, dH_s, dX_s, dL_s, dD_s, dQ_s, bC_r, bC_t, kI_s, kJ_s, kF_s, kD_s, kR_s, kV_s, I_lit, I_neg, I_add, I_sub, I_mul, I_ltT, I_ltF, I_leT, I_leF, I_eqT, I_eqF, c_int, c_long, c_obj, c_arr, c_bool, c_boolN, c_boolF, vn_bool, c_charN, vn_char, b2_f, b2_t, Int.toNat_natCast, ↓reduceIte, eq_self, and_self, and_true, true_and, not_false_eq_true, not_true_eq_false, L_0_0, L_0_1, L_0_2, L_0_3, L_0_4, L_0_5, L_0_6, L_0_7, L_0_8, L_0_9, L_0_10, L_0_11, L_0_12, L_0_13, L_0_14, L_0_15, C_0, L_1_0, L_1_1, L_1_2, C_1, L_2_0, L_2_1, L_2_2, C_2, L_3_0, L_3_1, L_3_2, C_3, L_65_0, L_65_1, L_65_2, L_65_3, L_65_4, C_65, L_66_0, L_66_1, L_66_2, L_66_3, C_66, L_129_0, L_129_1, L_129_2, L_129_3, C_129, L_198_0, L_198_1, L_198_2, L_198_3, L_198_4, L_198_5, L_198_6, L_198_7, L_198_8, L_198_9, L_198_10, L_198_11, L_198_12, L_198_13, L_198_14, L_198_15, L_198_16, L_198_17, L_198_18, L_198_19, L_198_20, L_198_21, L_198_22, L_198_23, L_198_24, L_198_25, L_198_26, L_198_27, L_198_28, L_198_29, L_198_30, L_198_31, L_198_32, L_198_33, L_198_34, L_198_35, L_198_36, L_198_37, L_198_38, L_198_39, L_198_40, L_198_41, L_198_42, L_198_43, L_198_44, L_198_45, L_198_46, L_198_47, L_198_48, C_198, A_199, A_200, A_201, A_202, A_203, A_204, A_205, A_206, A_207, A_208, A_209, A_210, A_211, A_212, A_213, A_214, A_215, A_216, A_217, A_218, A_219, A_220, A_221, A_222, A_223, A_224, A_225, A_226, A_227, A_228, A_128, A_191, A_rf, A_rs, A_rt, Q_4, Q_67, Q_130, t_182_2_1, t_182_2_2, t_182_2_3, t_182_2_4, t_182_2_5, g0, cc, sz]
  | succ n ih =>
    intro y o3 hy hn
    have hyl : y.toNat < (ps i).length := by omega
    have hk : (ps i)[y.toNat]? = some (ps i)[y.toNat] := List.getElem?_eq_getElem hyl
    rw [List.drop_eq_getElem_cons hyl]
    generalize (ps i)[y.toNat] = q at hk ⊢
    obtain ⟨c, b, k1, k2, k3⟩ := c4 _ _ hk
    have wg := w_178 (K := K) (d := d) (by omega) c1 c2 hy k1 (by omega)
    have k4 := cl_of k3
    have k5 := gf_of k3 0
    simp only [List.getElem?_cons_zero] at k5
    have ih := ih (y + 1) (some (.ref c)) (by omega) (by omega)
    rw [show (y + 1).toNat = y.toNat + 1 by omega] at ih
    refine e_182_2 _ ?_
    unfold t_182_2
    by_cases e : q.1 = s
    · have : b = b0 := by
        rw [e] at k2
        exact Option.some.inj (k2.symm.trans hs)
      subst this
      rw [b2T ⟨q, List.mem_cons_self, e⟩]
      simp (disch := omega) only [rI_d, rJ_d, rR_d, rN_d, wF_d, xI_d, xJ_d, xD_d, xQ_d, yI_d, yJ_d, yD_d, yQ_d, dI_s, dJ_s, dR_s, dN_s, dN_n, dH_s, dX_s, dL_s, dD_s, dQ_s, bC_r, bC_t, kI_s, kJ_s, kF_s, kD_s, kR_s, kV_s, I_lit, I_neg, I_add, I_sub, I_mul, I_ltT, I_ltF, I_leT, I_leF, I_eqT, I_eqF, c_int, c_long, c_obj, c_arr, c_bool, c_boolN, c_boolF, vn_bool, c_charN, vn_char, b2_f, b2_t, Int.toNat_natCast, ↓reduceIte, eq_self, and_self, and_true, true_and, not_false_eq_true, not_true_eq_false, L_0_0, L_0_1, L_0_2, L_0_3, L_0_4, L_0_5, L_0_6, L_0_7, L_0_8, L_0_9, L_0_10, L_0_11, L_0_12, L_0_13, L_0_14, L_0_15, C_0, L_1_0, L_1_1, L_1_2, C_1, L_2_0, L_2_1, L_2_2, C_2, L_3_0, L_3_1, L_3_2, C_3, L_65_0, L_65_1, L_65_2, L_65_3, L_65_4, C_65, L_66_0, L_66_1, L_66_2, L_66_3, C_66, L_129_0, L_129_1, L_129_2, L_129_3, C_129, L_198_0, L_198_1, L_198_2, L_198_3, L_198_4, L_198_5, L_198_6, L_198_7, L_198_8, L_198_9, L_198_10, L_198_11, L_198_12, L_198_13, L_198_14, L_198_15, L_198_16, L_198_17, L_198_18, L_198_19, L_198_20, L_198_21, L_198_22, L_198_23, L_198_24, L_198_25, L_198_26, L_198_27, L_198_28, L_198_29, L_198_30, L_198_31, L_198_32, L_198_33, L_198_34, L_198_35, L_198_36, L_198_37, L_198_38, L_198_39, L_198_40, L_198_41, L_198_42, L_198_43, L_198_44, L_198_45, L_198_46, L_198_47, L_198_48, C_198, A_199, A_200, A_201, A_202, A_203, A_204, A_205, A_206, A_207, A_208, A_209, A_210, A_211, A_212, A_213, A_214, A_215, A_216, A_217, A_218, A_219, A_220, A_221, A_222, A_223, A_224, A_225, A_226, A_227, A_228, A_128, A_191, A_rf, A_rs, A_rt, Q_4, Q_67, Q_130, t_182_2_1, t_182_2_2, t_182_2_3, t_182_2_4, t_182_2_5, g0, cc, sz, wg, k4, k5]
    · have hne : b ≠ b0 := by
        rintro rfl
        exact e (hR.inj k2 hs)
      rw [b2_of (q := ∃ q ∈ (ps i).drop (y.toNat + 1), q.1 = s) ⟨fun ⟨k', h1, h2⟩ => ⟨k', (List.mem_cons.mp h1).resolve_left (by rintro rfl; exact e h2), h2⟩, fun ⟨k', h1, h2⟩ => ⟨k', List.mem_cons_of_mem _ h1, h2⟩⟩]
      simp (disch := omega) only [rI_d, rJ_d, rR_d, rN_d, wF_d, xI_d, xJ_d, xD_d, xQ_d, yI_d, yJ_d, yD_d, yQ_d, dI_s, dJ_s, dR_s, dN_s, dN_n, dH_s, dX_s, dL_s, dD_s, dQ_s, bC_r, bC_t, kI_s, kJ_s, kF_s, kD_s, kR_s, kV_s, I_lit, I_neg, I_add, I_sub, I_mul, I_ltT, I_ltF, I_leT, I_leF, I_eqT, I_eqF, c_int, c_long, c_obj, c_arr, c_bool, c_boolN, c_boolF, vn_bool, c_charN, vn_char, b2_f, b2_t, Int.toNat_natCast, ↓reduceIte, eq_self, and_self, and_true, true_and, not_false_eq_true, not_true_eq_false, L_0_0, L_0_1, L_0_2, L_0_3, L_0_4, L_0_5, L_0_6, L_0_7, L_0_8, L_0_9, L_0_10, L_0_11, L_0_12, L_0_13, L_0_14, L_0_15, C_0, L_1_0, L_1_1, L_1_2, C_1, L_2_0, L_2_1, L_2_2, C_2, L_3_0, L_3_1, L_3_2, C_3, L_65_0, L_65_1, L_65_2, L_65_3, L_65_4, C_65, L_66_0, L_66_1, L_66_2, L_66_3, C_66, L_129_0, L_129_1, L_129_2, L_129_3, C_129, L_198_0, L_198_1, L_198_2, L_198_3, L_198_4, L_198_5, L_198_6, L_198_7, L_198_8, L_198_9, L_198_10, L_198_11, L_198_12, L_198_13, L_198_14, L_198_15, L_198_16, L_198_17, L_198_18, L_198_19, L_198_20, L_198_21, L_198_22, L_198_23, L_198_24, L_198_25, L_198_26, L_198_27, L_198_28, L_198_29, L_198_30, L_198_31, L_198_32, L_198_33, L_198_34, L_198_35, L_198_36, L_198_37, L_198_38, L_198_39, L_198_40, L_198_41, L_198_42, L_198_43, L_198_44, L_198_45, L_198_46, L_198_47, L_198_48, C_198, A_199, A_200, A_201, A_202, A_203, A_204, A_205, A_206, A_207, A_208, A_209, A_210, A_211, A_212, A_213, A_214, A_215, A_216, A_217, A_218, A_219, A_220, A_221, A_222, A_223, A_224, A_225, A_226, A_227, A_228, A_128, A_191, A_rf, A_rs, A_rt, Q_4, Q_67, Q_130, t_182_2_1, t_182_2_2, t_182_2_3, t_182_2_4, t_182_2_5, g0, cc, sz, wg, k4, k5, if_neg hne, ih]
theorem w_182 (hd : 4 ≤ d) (hw : MW B0) (hR : CR K N G B ro (tw B0) sh st pc cs ps) (hi : st[i]? = some a) {s b0 : Nat} (hs : sh[s]? = some b0) : gCa K d 182 [.ref a, .ref b0] (hH K N G B) = some (.inl (some (.int (I (b2 (0 < B0.2.1 218 (8 * i + s)))))), hH K N G B) := by
  obtain ⟨d, rfl, hd'⟩ := d_succ (show 3 + 1 ≤ d by omega)
  have h8 := (h8_of hw hR).1
  have := l_182 (d := d) (by omega) hw hR hi hs (ps i).length 0 none (by omega) (by omega)
  have hP := (hR.sy hi).2
  have hsl := (List.getElem?_eq_some_iff.mp hs).1
  rw [show (0 : Int).toNat = 0 from rfl, List.drop_zero, b2_of (q := 0 < B0.2.1 218 (8 * i + s)) ⟨fun ⟨q, h1, h2⟩ => by
    obtain ⟨h3, h4, h5⟩ := hP.2.1 q h1
    rw [h2] at h4
    show 0 < (tw B0).2 218 (8 * i + s)
    omega, fun h => ⟨_, hP.2.2 s (by omega) (show (tw B0).2 218 (8 * i + s) ≠ 0 by show B0.2.1 218 (8 * i + s) ≠ 0; omega), rfl⟩⟩] at this
  refine c_182 _ ?_
  unfold t_182_0
  simp only [I_lit, I_neg, I_add, I_sub, I_mul, I_ltT, I_ltF, I_leT, I_leF, I_eqT, I_eqF, c_int, c_long, c_obj, c_arr, c_bool, c_boolN, c_boolF, vn_bool, c_charN, vn_char, b2_f, b2_t]
  exact this
end
