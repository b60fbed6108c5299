/-! PURE 96: the sorts of a garment -/
set_option maxRecDepth 100000
section
variable {K : gK} {d N : Nat} {G G' G1 G0 : gH} {B B' B0 : gB} {M : gM} {ro : Nat → Nat} {sh st pc : List Nat} {cs : Nat → List Nat} {ps : Nat → List (Nat × Int)} {m sl e a i : Nat} {xs : List Nat}
theorem FR.keep (hC : CB K N G) (hf : FR noW m sl G G') {x : Nat} {en : gE} (h : (hH K N G B).1 x = some en) : (hH K N G' B).1 x = some en := by
  have : (hH K N G' B).1 x = (hH K N G B).1 x := by
    show (if N ≤ x ∧ x < N + 231 then _ else G'.1 x) = (if N ≤ x ∧ x < N + 231 then _ else G.1 x)
    by_cases e : N ≤ x ∧ x < N + 231
    · rw [if_pos e, if_pos e]
    · rw [if_neg e, if_neg e]
      exact hf.2.2.2.2.2 x (hC.hb.lt h) (fun q => q)
  exact this.trans h
theorem FR.karr (hC : CB K N G) (hf : FR noW m sl G G') (h : ARR K (hH K N G B) e xs) : ARR K (hH K N G' B) e xs := by
  rcases h with ⟨q1, q2, q3⟩ | ⟨q0, cap, f, q1, q2⟩
  · exact Or.inl ⟨q1, by rw [q1]; exact (hC.gr hf).e, q3⟩
  · exact Or.inr ⟨q0, cap, f, FR.keep hC hf q1, q2⟩
theorem cS_lt {s : Nat} (h : s < 8) : cS (s : Int) = s ∧ cS ((s : Int) + 8) = s ∧ cM (s : Int) = 0 ∧ cM ((s : Int) + 8) = 1 := by
  refine ⟨?_, ?_, ?_, ?_⟩
  · show ((s : Int) % 8).toNat = s
    omega
  · show (((s : Int) + 8) % 8).toNat = s
    omega
  · exact if_neg (by omega)
  · exact if_pos (by omega)
def sqL (M : gM) (i : Nat) (l : List (Nat × Int)) : List Int := l.flatMap (fun q => qK M (i : Int) (q.1 : Int))
theorem l_220 (hd : 11 ≤ d) (hw : MW B0) (hR0 : CR K N G0 B ro (tw B0) sh st pc cs ps) (hi : st[i]? = some a) {l : Nat} : ∀ (n y : Nat) (G : gH) (L : List Int) (m sl : Nat) (o4 o5 : Option Value), y + n = (ps i).length → FR noW m sl G0 G → SLI K G G0.2.1 sh l L → L.length ≤ 8 * y →
    ∃ G', gRn K d 220 10 [some (.ref N), some (.ref a), some (.ref l), some (.int (I (y : Int))), o4, o5] [] (hH K N G B) = some (.inl (some (.ref l)), hH K N G' B) ∧ FR noW (m + 16 * n) (sl + 1616 * n) G0 G' ∧ SLI K G' G0.2.1 sh l (L ++ sqL (tw B0) i ((ps i).drop y)) := by
  have h8 := (h8_of hw hR0).1
  have hl := ps_len hR0 hi h8
  have hC0 := hR0.1
  have hN := hC0.2.2.1
  obtain ⟨p', mc, e, ca, h1, c1, c2, c3, c4⟩ := hR0.part hi
  have hF : B.1 0 10 = (B0.1 198 3) := hR0.2.1.2.2.1
  have bf := mw_folded hw
  intro n
  induction n with
  | zero =>
    intro y G L m sl o4 o5 hn hf hS hL
    have g0 := gf_of (FR.keep hC0 hf h1) 0
    simp only [List.getElem?_cons_zero] at g0
    have c1' : ALo (hH K N G B) p' mc e ca.length := FR.keep hC0 hf c1
    have cc := cl_of c1'
    have sz := w_110 (K := K) (d := d) (by omega) c1'
    rw [c3] at sz
    rw [List.drop_eq_nil_of_le (by omega)]
    refine ⟨G, e_220_10 _ ?_, hf, by rw [show sqL (tw B0) i [] = [] from rfl, List.append_nil]; exact hS⟩
    unfold t_220_10
    simp (disch := omega) only [rI_d, rJ_d, rR_d, rN_d, wF_d, xI_d, xJ_d, xD_d, xQ_d, yI_d, yJ_d, yD_d, yQ_d, dI_s, dJ_s, dR_s, dN_s, dN_n, dH_s, dX_s, dL_s, dD_s, dQ_s, bC_r, bC_t, kI_s, kJ_s, kF_s, kD_s, kR_s, kV_s, I_lit, I_neg, I_add, I_sub, I_mul, I_ltT, I_ltF, I_leT, I_leF, I_eqT, I_eqF, c_int, c_long, c_obj, c_arr, c_bool, c_boolN, c_boolF, vn_bool, c_charN, vn_char, b2_f, b2_t, Int.toNat_natCast, ↓reduceIte, eq_self, and_self, and_true, true_and, not_false_eq_true, not_true_eq_false, L_0_0, L_0_1, L_0_2, L_0_3, L_0_4, L_0_5, L_0_6, L_0_7, L_0_8, L_0_9, L_0_10, L_0_11, L_0_12, L_0_13, L_0_14, L_0_15, C_0, L_1_0, L_1_1, L_1_2, C_1, L_2_0, L_2_1, L_2_2, C_2, L_3_0, L_3_1, L_3_2, C_3, L_65_0, L_65_1, L_65_2, L_65_3, L_65_4, C_65, L_66_0, L_66_1, L_66_2, L_66_3, C_66, L_129_0, L_129_1, L_129_2, L_129_3, C_129, L_198_0, L_198_1, L_198_2, L_198_3, L_198_4, L_198_5, L_198_6, L_198_7, L_198_8, L_198_9, L_198_10, L_198_11, L_198_12, L_198_13, L_198_14, L_198_15, L_198_16, L_198_17, L_198_18, L_198_19, L_198_20, L_198_21, L_198_22, L_198_23, L_198_24, L_198_25, L_198_26, L_198_27, L_198_28, L_198_29, L_198_30, L_198_31, L_198_32, L_198_33, L_198_34, L_198_35, L_198_36, L_198_37, L_198_38, L_198_39, L_198_40, L_198_41, L_198_42, L_198_43, L_198_44, L_198_45, L_198_46, L_198_47, L_198_48, C_198, A_199, A_200, A_201, A_202, A_203, A_204, A_205, A_206, A_207, A_208, A_209, A_210, A_211, A_212, A_213, A_214, A_215, A_216, A_217, A_218, A_219, A_220, A_221, A_222, A_223, A_224, A_225, A_226, A_227, A_228, A_128, A_191, A_rf, A_rs, A_rt, Q_4, Q_67, Q_130, t_220_0_1, t_220_10_1, t_220_10_2, t_220_10_3, t_220_10_4, t_220_10_5, t_220_10_6, t_220_10_7, t_220_10_8, t_220_10_9, t_220_10_10, t_220_10_11, t_220_10_12, t_220_10_13, t_220_10_14, t_220_10_15, t_220_10_16, t_220_10_17, t_220_10_18, t_220_10_19, t_220_10_20, t_220_10_21, t_220_10_22, t_220_10_23, t_220_10_24, t_220_10_25, t_220_10_26, t_220_10_27, t_220_10_28, t_220_10_29, t_220_10_30, t_220_10_31, t_220_10_32, t_220_10_33, t_220_10_34, t_220_10_35, t_220_10_36, t_220_10_37, t_220_10_38, t_220_10_39, t_220_10_40, t_220_10_41, t_220_10_42, t_220_10_43, t_220_10_44, t_220_10_45, t_220_10_46, t_220_10_47, t_220_10_48, t_220_10_49, t_220_10_50, t_220_10_51, t_220_10_52, t_220_10_53, t_220_10_54, t_220_10_55, t_220_10_56, t_220_10_57, t_220_10_58, t_220_10_59, t_220_10_60, t_220_10_61, t_220_10_62, t_220_10_63, t_220_10_64, t_220_10_65, t_220_10_66, t_220_10_67, t_220_10_68, t_220_10_69, t_220_10_70, g0, cc, sz]
  | succ n ih =>
    intro y G L m sl o4 o5 hn hf hS hL
    have g0 := gf_of (FR.keep hC0 hf h1) 0
    simp only [List.getElem?_cons_zero] at g0
    have c1' : ALo (hH K N G B) p' mc e ca.length := FR.keep hC0 hf c1
    have c2' := FR.karr hC0 hf c2
    have cc := cl_of c1'
    have sz := w_110 (K := K) (d := d) (by omega) c1'
    rw [c3] at sz
    have hyl : y < (ps i).length := by omega
    have hk : (ps i)[y]? = some (ps i)[y] := List.getElem?_eq_getElem hyl
    have hmem : (ps i)[y] ∈ ps i := List.getElem_mem hyl
    rw [List.drop_eq_getElem_cons hyl]
    generalize (ps i)[y] = q at hk hmem ⊢
    obtain ⟨c, b, k1, k2, k3⟩ := c4 _ _ hk
    obtain ⟨m1, m2, m3⟩ := (hR0.sy hi).2.2.1 q hmem
    have bc := mw_count hw (8 * i + q.1)
    have m2' : B0.2.1 218 (8 * i + q.1) = q.2 := m2
    rw [m2'] at bc
    have wg := w_178 (K := K) (d := d) (by omega) c1' c2' (z := (y : Int)) (by omega) (x := c) (by rw [Int.toNat_natCast]; exact k1) (by omega)
    obtain ⟨⟨p'', mk, vr, u0, -⟩, -⟩ := hR0.sp k2
    have bp := mw_paired hw q.1
    obtain ⟨z1, z2, z3, z4⟩ := cS_lt (s := q.1) (by omega)
    have hqn : qn (tw B0) (i : Int) (q.1 : Int) = if (B0.1 198 3) ≠ 0 ∧ B0.2.1 201 q.1 = 0 then (q.2 + 1) / 2 else q.2 := by
      unfold qn
      rw [Int.toNat_natCast, show (8 * (i : Int) + (q.1 : Int)).toNat = 8 * i + q.1 by omega]
      show (if (B0.1 198 3) ≠ 0 ∧ B0.2.1 201 q.1 = 0 then (B0.2.1 218 (8 * i + q.1) + 1) / 2 else B0.2.1 218 (8 * i + q.1)) = _
      rw [m2']
    have hqo : qo (tw B0) (i : Int) (q.1 : Int) = if B0.2.1 201 q.1 ≠ 0 ∧ (B0.1 198 3) = 0 then q.2 else 0 := by
      unfold qo
      rw [Int.toNat_natCast, show (8 * (i : Int) + (q.1 : Int)).toNat = 8 * i + q.1 by omega]
      show (if B0.2.1 201 q.1 ≠ 0 ∧ (B0.1 198 3) = 0 then B0.2.1 218 (8 * i + q.1) else 0) = _
      rw [m2']
    obtain ⟨bn, bo⟩ := q_b hw (st := (i : Int)) (z := (q.1 : Int))
    have hqK : qK (tw B0) (i : Int) (q.1 : Int) = List.replicate (qn (tw B0) (i : Int) (q.1 : Int)).toNat (q.1 : Int) ++ List.replicate (qo (tw B0) (i : Int) (q.1 : Int)).toNat ((q.1 : Int) + 8) := rfl
    generalize hvn : qn (tw B0) (i : Int) (q.1 : Int) = vn at *
    generalize hvo : qo (tw B0) (i : Int) (q.1 : Int) = vo at *
    obtain ⟨G1, a1, a2, a3, a4⟩ := w_240 (B := B) (d := d) (by omega) (x := (q.1 : Int)) (base := G0.2.1) hN (by rw [z1]; exact k2) (n := vn) (hC0.gr hf) hf.1 hS (by omega) (by omega)
    have f1 := FR.trn hf a3 (fun q h _ => h)
    obtain ⟨G2, b1, b2', b3, b4⟩ := w_240 (B := B) (d := d) (by omega) (x := (q.1 : Int) + 8) (base := G0.2.1) hN (by rw [z2]; exact k2) (n := vo) (hC0.gr f1) f1.1 a4 (by omega) (by rw [List.length_append, List.length_replicate]; omega)
    have f2 := FR.trn f1 b3 (fun q h _ => h)
    rw [z3] at a1
    rw [z4] at b1
    rw [List.append_assoc, ← hqK] at b4
    have hlq : (qK (tw B0) (i : Int) (q.1 : Int)).length ≤ 8 := by
      rw [hqK, List.length_append, List.length_replicate, List.length_replicate]; omega
    obtain ⟨G', i1, i2, i3⟩ := ih (y + 1) G2 _ _ _ (some (.ref c)) (some (.int (I (if (B0.1 198 3) ≠ 0 ∧ B0.2.1 201 q.1 = 0 then 1 else 0)))) (by omega) f2 b4 (by rw [List.length_append]; omega)
    have hsq : sqL (tw B0) i (q :: (ps i).drop (y + 1)) = qK (tw B0) (i : Int) (q.1 : Int) ++ sqL (tw B0) i ((ps i).drop (y + 1)) := List.flatMap_cons
    refine ⟨G', e_220_10 _ ?_, i2.le (by omega) (by omega), by rw [hsq, ← List.append_assoc]; exact i3⟩
    rw [show ((y + 1 : Nat) : Int) = (y : Int) + 1 by omega] at i1
    have k4 := cl_of (FR.keep (B := B) hC0 hf k3)
    have k5 := gf_of (FR.keep (B := B) hC0 hf k3) 0
    have k6 := gf_of (FR.keep (B := B) hC0 hf k3) 1
    have k5' := gf_of (FR.keep (B := B) hC0 f1 k3) 0
    have k6' := gf_of (FR.keep (B := B) hC0 f1 k3) 1
    simp only [List.getElem?_cons_zero, List.getElem?_cons_succ] at k5 k6 k5' k6'
    obtain ⟨-, -, u3, -⟩ := sh_rd (FR.keep (B := B) hC0 hf u0)
    obtain ⟨-, -, v3, -⟩ := sh_rd (FR.keep (B := B) hC0 f1 u0)
    have u3' : g_gf (hH K N G B) b 4 1 = some (.int (I (B0.2.1 201 q.1))) := u3
    have v3' : g_gf (hH K N G1 B) b 4 1 = some (.int (I (B0.2.1 201 q.1))) := v3
    unfold t_220_10
    by_cases x1 : (B0.1 198 3) = 0
    · rw [if_neg (fun h => h.1 x1)] at hqn i1
      by_cases x2 : B0.2.1 201 q.1 = 0
      · rw [if_neg (fun h => h.1 x2)] at hqo
        subst hqn hqo
        simp (disch := omega) only [rI_d, rJ_d, rR_d, rN_d, wF_d, xI_d, xJ_d, xD_d, xQ_d, yI_d, yJ_d, yD_d, yQ_d, dI_s, dJ_s, dR_s, dN_s, dN_n, dH_s, dX_s, dL_s, dD_s, dQ_s, bC_r, bC_t, kI_s, kJ_s, kF_s, kD_s, kR_s, kV_s, I_lit, I_neg, I_add, I_sub, I_mul, I_ltT, I_ltF, I_leT, I_leF, I_eqT, I_eqF, c_int, c_long, c_obj, c_arr, c_bool, c_boolN, c_boolF, vn_bool, c_charN, vn_char, b2_f, b2_t, Int.toNat_natCast, ↓reduceIte, eq_self, and_self, and_true, true_and, not_false_eq_true, not_true_eq_false, L_0_0, L_0_1, L_0_2, L_0_3, L_0_4, L_0_5, L_0_6, L_0_7, L_0_8, L_0_9, L_0_10, L_0_11, L_0_12, L_0_13, L_0_14, L_0_15, C_0, L_1_0, L_1_1, L_1_2, C_1, L_2_0, L_2_1, L_2_2, C_2, L_3_0, L_3_1, L_3_2, C_3, L_65_0, L_65_1, L_65_2, L_65_3, L_65_4, C_65, L_66_0, L_66_1, L_66_2, L_66_3, C_66, L_129_0, L_129_1, L_129_2, L_129_3, C_129, L_198_0, L_198_1, L_198_2, L_198_3, L_198_4, L_198_5, L_198_6, L_198_7, L_198_8, L_198_9, L_198_10, L_198_11, L_198_12, L_198_13, L_198_14, L_198_15, L_198_16, L_198_17, L_198_18, L_198_19, L_198_20, L_198_21, L_198_22, L_198_23, L_198_24, L_198_25, L_198_26, L_198_27, L_198_28, L_198_29, L_198_30, L_198_31, L_198_32, L_198_33, L_198_34, L_198_35, L_198_36, L_198_37, L_198_38, L_198_39, L_198_40, L_198_41, L_198_42, L_198_43, L_198_44, L_198_45, L_198_46, L_198_47, L_198_48, C_198, A_199, A_200, A_201, A_202, A_203, A_204, A_205, A_206, A_207, A_208, A_209, A_210, A_211, A_212, A_213, A_214, A_215, A_216, A_217, A_218, A_219, A_220, A_221, A_222, A_223, A_224, A_225, A_226, A_227, A_228, A_128, A_191, A_rf, A_rs, A_rt, Q_4, Q_67, Q_130, t_220_0_1, t_220_10_1, t_220_10_2, t_220_10_3, t_220_10_4, t_220_10_5, t_220_10_6, t_220_10_7, t_220_10_8, t_220_10_9, t_220_10_10, t_220_10_11, t_220_10_12, t_220_10_13, t_220_10_14, t_220_10_15, t_220_10_16, t_220_10_17, t_220_10_18, t_220_10_19, t_220_10_20, t_220_10_21, t_220_10_22, t_220_10_23, t_220_10_24, t_220_10_25, t_220_10_26, t_220_10_27, t_220_10_28, t_220_10_29, t_220_10_30, t_220_10_31, t_220_10_32, t_220_10_33, t_220_10_34, t_220_10_35, t_220_10_36, t_220_10_37, t_220_10_38, t_220_10_39, t_220_10_40, t_220_10_41, t_220_10_42, t_220_10_43, t_220_10_44, t_220_10_45, t_220_10_46, t_220_10_47, t_220_10_48, t_220_10_49, t_220_10_50, t_220_10_51, t_220_10_52, t_220_10_53, t_220_10_54, t_220_10_55, t_220_10_56, t_220_10_57, t_220_10_58, t_220_10_59, t_220_10_60, t_220_10_61, t_220_10_62, t_220_10_63, t_220_10_64, t_220_10_65, t_220_10_66, t_220_10_67, t_220_10_68, t_220_10_69, t_220_10_70, g0, cc, sz, wg, k4, k5, k6, k5', k6', hF, u3', v3', a1, b1, i1]
      · rw [if_pos ⟨x2, x1⟩] at hqo
        subst hqn hqo
        simp (disch := omega) only [rI_d, rJ_d, rR_d, rN_d, wF_d, xI_d, xJ_d, xD_d, xQ_d, yI_d, yJ_d, yD_d, yQ_d, dI_s, dJ_s, dR_s, dN_s, dN_n, dH_s, dX_s, dL_s, dD_s, dQ_s, bC_r, bC_t, kI_s, kJ_s, kF_s, kD_s, kR_s, kV_s, I_lit, I_neg, I_add, I_sub, I_mul, I_ltT, I_ltF, I_leT, I_leF, I_eqT, I_eqF, c_int, c_long, c_obj, c_arr, c_bool, c_boolN, c_boolF, vn_bool, c_charN, vn_char, b2_f, b2_t, Int.toNat_natCast, ↓reduceIte, eq_self, and_self, and_true, true_and, not_false_eq_true, not_true_eq_false, L_0_0, L_0_1, L_0_2, L_0_3, L_0_4, L_0_5, L_0_6, L_0_7, L_0_8, L_0_9, L_0_10, L_0_11, L_0_12, L_0_13, L_0_14, L_0_15, C_0, L_1_0, L_1_1, L_1_2, C_1, L_2_0, L_2_1, L_2_2, C_2, L_3_0, L_3_1, L_3_2, C_3, L_65_0, L_65_1, L_65_2, L_65_3, L_65_4, C_65, L_66_0, L_66_1, L_66_2, L_66_3, C_66, L_129_0, L_129_1, L_129_2, L_129_3, C_129, L_198_0, L_198_1, L_198_2, L_198_3, L_198_4, L_198_5, L_198_6, L_198_7, L_198_8, L_198_9, L_198_10, L_198_11, L_198_12, L_198_13, L_198_14, L_198_15, L_198_16, L_198_17, L_198_18, L_198_19, L_198_20, L_198_21, L_198_22, L_198_23, L_198_24, L_198_25, L_198_26, L_198_27, L_198_28, L_198_29, L_198_30, L_198_31, L_198_32, L_198_33, L_198_34, L_198_35, L_198_36, L_198_37, L_198_38, L_198_39, L_198_40, L_198_41, L_198_42, L_198_43, L_198_44, L_198_45, L_198_46, L_198_47, L_198_48, C_198, A_199, A_200, A_201, A_202, A_203, A_204, A_205, A_206, A_207, A_208, A_209, A_210, A_211, A_212, A_213, A_214, A_215, A_216, A_217, A_218, A_219, A_220, A_221, A_222, A_223, A_224, A_225, A_226, A_227, A_228, A_128, A_191, A_rf, A_rs, A_rt, Q_4, Q_67, Q_130, t_220_0_1, t_220_10_1, t_220_10_2, t_220_10_3, t_220_10_4, t_220_10_5, t_220_10_6, t_220_10_7, t_220_10_8, t_220_10_9, t_220_10_10, t_220_10_11, t_220_10_12, t_220_10_13, t_220_10_14, t_220_10_15, t_220_10_16, t_220_10_17, t_220_10_18, t_220_10_19, t_220_10_20, t_220_10_21, t_220_10_22, t_220_10_23, t_220_10_24, t_220_10_25, t_220_10_26, t_220_10_27, t_220_10_28, t_220_10_29, t_220_10_30, t_220_10_31, t_220_10_32, t_220_10_33, t_220_10_34, t_220_10_35, t_220_10_36, t_220_10_37, t_220_10_38, t_220_10_39, t_220_10_40, t_220_10_41, t_220_10_42, t_220_10_43, t_220_10_44, t_220_10_45, t_220_10_46, t_220_10_47, t_220_10_48, t_220_10_49, t_220_10_50, t_220_10_51, t_220_10_52, t_220_10_53, t_220_10_54, t_220_10_55, t_220_10_56, t_220_10_57, t_220_10_58, t_220_10_59, t_220_10_60, t_220_10_61, t_220_10_62, t_220_10_63, t_220_10_64, t_220_10_65, t_220_10_66, t_220_10_67, t_220_10_68, t_220_10_69, t_220_10_70, g0, cc, sz, wg, k4, k5, k6, k5', k6', hF, u3', v3', a1, b1, i1]
    · rw [if_neg (fun h => x1 h.2)] at hqo
      by_cases x2 : B0.2.1 201 q.1 = 0
      · rw [if_pos ⟨x1, x2⟩] at hqn i1
        subst hqn hqo
        simp (disch := omega) only [rI_d, rJ_d, rR_d, rN_d, wF_d, xI_d, xJ_d, xD_d, xQ_d, yI_d, yJ_d, yD_d, yQ_d, dI_s, dJ_s, dR_s, dN_s, dN_n, dH_s, dX_s, dL_s, dD_s, dQ_s, bC_r, bC_t, kI_s, kJ_s, kF_s, kD_s, kR_s, kV_s, I_lit, I_neg, I_add, I_sub, I_mul, I_ltT, I_ltF, I_leT, I_leF, I_eqT, I_eqF, c_int, c_long, c_obj, c_arr, c_bool, c_boolN, c_boolF, vn_bool, c_charN, vn_char, b2_f, b2_t, Int.toNat_natCast, ↓reduceIte, eq_self, and_self, and_true, true_and, not_false_eq_true, not_true_eq_false, L_0_0, L_0_1, L_0_2, L_0_3, L_0_4, L_0_5, L_0_6, L_0_7, L_0_8, L_0_9, L_0_10, L_0_11, L_0_12, L_0_13, L_0_14, L_0_15, C_0, L_1_0, L_1_1, L_1_2, C_1, L_2_0, L_2_1, L_2_2, C_2, L_3_0, L_3_1, L_3_2, C_3, L_65_0, L_65_1, L_65_2, L_65_3, L_65_4, C_65, L_66_0, L_66_1, L_66_2, L_66_3, C_66, L_129_0, L_129_1, L_129_2, L_129_3, C_129, L_198_0, L_198_1, L_198_2, L_198_3, L_198_4, L_198_5, L_198_6, L_198_7, L_198_8, L_198_9, L_198_10, L_198_11, L_198_12, L_198_13, L_198_14, L_198_15, L_198_16, L_198_17, L_198_18, L_198_19, L_198_20, L_198_21, L_198_22, L_198_23, L_198_24, L_198_25, L_198_26, L_198_27, L_198_28, L_198_29, L_198_30, L_198_31, L_198_32, L_198_33, L_198_34, L_198_35, L_198_36, L_198_37, L_198_38, L_198_39, L_198_40, L_198_41, L_198_42, L_198_43, L_198_44, L_198_45, L_198_46, L_198_47, L_198_48, C_198, A_199, A_200, A_201, A_202, A_203, A_204, A_205, A_206, A_207, A_208, A_209, A_210, A_211, A_212, A_213, A_214, A_215, A_216, A_217, A_218, A_219, A_220, A_221, A_222, A_223, A_224, A_225, A_226, A_227, A_228, A_128, A_191, A_rf, A_rs, A_rt, Q_4, Q_67, Q_130, t_220_0_1, t_220_10_1, t_220_10_2, t_220_10_3, t_220_10_4, t_220_10_5, t_220_10_6, t_220_10_7, t_220_10_8, t_220_10_9, t_220_10_10, t_220_10_11, t_220_10_12, t_220_10_13, t_220_10_14, t_220_10_15, t_220_10_16, t_220_10_17, t_220_10_18, t_220_10_19, t_220_10_20, t_220_10_21, t_220_10_22, t_220_10_23, t_220_10_24, t_220_10_25, t_220_10_26, t_220_10_27, t_220_10_28, t_220_10_29, t_220_10_30, t_220_10_31, t_220_10_32, t_220_10_33, t_220_10_34, t_220_10_35, t_220_10_36, t_220_10_37, t_220_10_38, t_220_10_39, t_220_10_40, t_220_10_41, t_220_10_42, t_220_10_43, t_220_10_44, t_220_10_45, t_220_10_46, t_220_10_47, t_220_10_48, t_220_10_49, t_220_10_50, t_220_10_51, t_220_10_52, t_220_10_53, t_220_10_54, t_220_10_55, t_220_10_56, t_220_10_57, t_220_10_58, t_220_10_59, t_220_10_60, t_220_10_61, t_220_10_62, t_220_10_63, t_220_10_64, t_220_10_65, t_220_10_66, t_220_10_67, t_220_10_68, t_220_10_69, t_220_10_70, g0, cc, sz, wg, k4, k5, k6, k5', k6', hF, u3', v3', I_div, a1, b1, i1]
      · rw [if_neg (fun h => x2 h.2)] at hqn i1
        subst hqn hqo
        simp (disch := omega) only [rI_d, rJ_d, rR_d, rN_d, wF_d, xI_d, xJ_d, xD_d, xQ_d, yI_d, yJ_d, yD_d, yQ_d, dI_s, dJ_s, dR_s, dN_s, dN_n, dH_s, dX_s, dL_s, dD_s, dQ_s, bC_r, bC_t, kI_s, kJ_s, kF_s, kD_s, kR_s, kV_s, I_lit, I_neg, I_add, I_sub, I_mul, I_ltT, I_ltF, I_leT, I_leF, I_eqT, I_eqF, c_int, c_long, c_obj, c_arr, c_bool, c_boolN, c_boolF, vn_bool, c_charN, vn_char, b2_f, b2_t, Int.toNat_natCast, ↓reduceIte, eq_self, and_self, and_true, true_and, not_false_eq_true, not_true_eq_false, L_0_0, L_0_1, L_0_2, L_0_3, L_0_4, L_0_5, L_0_6, L_0_7, L_0_8, L_0_9, L_0_10, L_0_11, L_0_12, L_0_13, L_0_14, L_0_15, C_0, L_1_0, L_1_1, L_1_2, C_1, L_2_0, L_2_1, L_2_2, C_2, L_3_0, L_3_1, L_3_2, C_3, L_65_0, L_65_1, L_65_2, L_65_3, L_65_4, C_65, L_66_0, L_66_1, L_66_2, L_66_3, C_66, L_129_0, L_129_1, L_129_2, L_129_3, C_129, L_198_0, L_198_1, L_198_2, L_198_3, L_198_4, L_198_5, L_198_6, L_198_7, L_198_8, L_198_9, L_198_10, L_198_11, L_198_12, L_198_13, L_198_14, L_198_15, L_198_16, L_198_17, L_198_18, L_198_19, L_198_20, L_198_21, L_198_22, L_198_23, L_198_24, L_198_25, L_198_26, L_198_27, L_198_28, L_198_29, L_198_30, L_198_31, L_198_32, L_198_33, L_198_34, L_198_35, L_198_36, L_198_37, L_198_38, L_198_39, L_198_40, L_198_41, L_198_42, L_198_43, L_198_44, L_198_45, L_198_46, L_198_47, L_198_48, C_198, A_199, A_200, A_201, A_202, A_203, A_204, A_205, A_206, A_207, A_208, A_209, A_210, A_211, A_212, A_213, A_214, A_215, A_216, A_217, A_218, A_219, A_220, A_221, A_222, A_223, A_224, A_225, A_226, A_227, A_228, A_128, A_191, A_rf, A_rs, A_rt, Q_4, Q_67, Q_130, t_220_0_1, t_220_10_1, t_220_10_2, t_220_10_3, t_220_10_4, t_220_10_5, t_220_10_6, t_220_10_7, t_220_10_8, t_220_10_9, t_220_10_10, t_220_10_11, t_220_10_12, t_220_10_13, t_220_10_14, t_220_10_15, t_220_10_16, t_220_10_17, t_220_10_18, t_220_10_19, t_220_10_20, t_220_10_21, t_220_10_22, t_220_10_23, t_220_10_24, t_220_10_25, t_220_10_26, t_220_10_27, t_220_10_28, t_220_10_29, t_220_10_30, t_220_10_31, t_220_10_32, t_220_10_33, t_220_10_34, t_220_10_35, t_220_10_36, t_220_10_37, t_220_10_38, t_220_10_39, t_220_10_40, t_220_10_41, t_220_10_42, t_220_10_43, t_220_10_44, t_220_10_45, t_220_10_46, t_220_10_47, t_220_10_48, t_220_10_49, t_220_10_50, t_220_10_51, t_220_10_52, t_220_10_53, t_220_10_54, t_220_10_55, t_220_10_56, t_220_10_57, t_220_10_58, t_220_10_59, t_220_10_60, t_220_10_61, t_220_10_62, t_220_10_63, t_220_10_64, t_220_10_65, t_220_10_66, t_220_10_67, t_220_10_68, t_220_10_69, t_220_10_70, g0, cc, sz, wg, k4, k5, k6, k5', k6', hF, u3', v3', a1, b1, i1]
end
