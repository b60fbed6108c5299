/-! PURE 89: enough for garments -/
set_option maxRecDepth 100000
section
/-- the stock and some plies have one part's pieces for g garments -/
def EN (M : gM) (g p : Int) (q : Nat × Int) : Prop := q.2 * g ≤ M.2 208 (2 * q.1) + p * gv M (q.1 : Int) 0 ∧ (M.2 201 q.1 = 0 ∨ q.2 * g ≤ M.2 208 (2 * q.1 + 1) + p * gv M (q.1 : Int) 1)
theorem le_mn {g a b : Int} : g ≤ mn a b ↔ g ≤ a ∧ g ≤ b := by
  unfold mn
  split <;> omega
theorem le_mk1 {M : gM} {st p g a : Int} {s : Nat} : g ≤ mk1 M st p s a ↔ g ≤ a ∧ (0 < M.2 218 (8 * st + s).toNat → EN M g p (s, M.2 218 (8 * st + s).toNat)) := by
  unfold mk1 EN
  dsimp only
  rw [Int.toNat_natCast, show (2 * (s : Int)).toNat = 2 * s by omega, show (2 * (s : Int) + 1).toNat = 2 * s + 1 by omega]
  by_cases h : M.2 218 (8 * st + s).toNat ≤ 0
  · rw [if_pos h]
    exact ⟨fun h1 => ⟨h1, fun h2 => by omega⟩, And.left⟩
  · rw [if_neg h]
    have hp : 0 < M.2 218 (8 * st + s).toNat := by omega
    by_cases k : M.2 201 s = 0
    · rw [if_pos k, le_mn, le_mn, Int.le_ediv_iff_mul_le hp, Int.mul_comm g]
      exact ⟨fun h => ⟨h.1.1, fun _ => ⟨h.2, Or.inl k⟩⟩, fun h => ⟨⟨h.1, (h.2 hp).1⟩, (h.2 hp).1⟩⟩
    · rw [if_neg k, le_mn, le_mn, Int.le_ediv_iff_mul_le hp, Int.le_ediv_iff_mul_le hp, Int.mul_comm g]
      exact ⟨fun h => ⟨h.1.1, fun _ => ⟨h.1.2, Or.inr h.2⟩⟩, fun h => ⟨⟨h.1, (h.2 hp).1⟩, (h.2 hp).2.resolve_left k⟩⟩
theorem le_mkP {M : gM} {st p g : Int} : ∀ n, g ≤ mkP M st p n ↔ g ≤ 2147483647 ∧ ∀ s : Nat, s < n → 0 < M.2 218 (8 * st + s).toNat → EN M g p (s, M.2 218 (8 * st + s).toNat)
  | 0 => ⟨fun h => ⟨h, fun s hs => absurd hs (Nat.not_lt_zero s)⟩, And.left⟩
  | n + 1 => by
    show g ≤ mk1 M st p n (mkP M st p n) ↔ _
    rw [le_mk1, le_mkP n]
    constructor
    · rintro ⟨⟨h1, h2⟩, h3⟩
      refine ⟨h1, fun s hs => ?_⟩
      by_cases e : s = n
      · rw [e]; exact h3
      · exact h2 s (by omega)
    · rintro ⟨h1, h2⟩
      exact ⟨⟨h1, fun s hs => h2 s (by omega)⟩, h2 n (by omega)⟩
theorem PSW.en {M : gM} {ps : List (Nat × Int)} {i n : Nat} (h : PSW ps M i n) (hn : n ≤ 8) {g p : Int} (hg : g ≤ 2147483647) : (∀ q ∈ ps, EN M g p q) ↔ g ≤ mkP M (i : Int) p n := by
  rw [le_mkP]
  constructor
  · refine fun h1 => ⟨hg, fun s hs hc => ?_⟩
    rw [show (8 * (i : Int) + (s : Int)).toNat = 8 * i + s by omega] at hc ⊢
    exact h1 _ (h.2.2 s (by omega) (by omega))
  · rintro ⟨-, h1⟩ q hq
    obtain ⟨k1, k2, k3⟩ := h.2.1 q hq
    have := h1 q.1 k1
    rw [show (8 * (i : Int) + (q.1 : Int)).toNat = 8 * i + q.1 by omega, k2] at this
    exact this k3
variable {K : gK} {d N : Nat} {G G' : gH} {B B' B0 : gB} {M M' : gM} {ro : Nat → Nat} {sh st pc : List Nat} {cs : Nat → List Nat} {ps : Nat → List (Nat × Int)} {a i : Nat}
theorem mk_sh (hR : CR K N G B ro (tw B0) sh st pc cs ps) {st' p : Int} : mk (tw B0) st' p = mkP (tw B0) st' p sh.length := by
  have h2 : (B0.1 198 7) = (sh.length : Int) := hR.nn.1
  show mkP (tw B0) st' p ((B0.1 198 7)).toNat = _
  rw [show ((B0.1 198 7)).toNat = sh.length by omega]
theorem l_191 (hd : 4 ≤ d) (hw : MW B0) (hR : CR K N G B ro (tw B0) sh st pc cs ps) (hi : st[i]? = some a) {g p : Int} (hg : 0 ≤ g ∧ g ≤ 100000) (hp : 0 ≤ p ∧ p ≤ 1000) : ∀ (n : Nat) (y : Int) (o5 o6 o7 : Option Value), 0 ≤ y → y + n = (ps i).length →
    gRn K d 191 3 [some (.ref N), some (.ref a), some (.int (I g)), some (.int (I p)), some (.int (I y)), o5, o6, o7] [] (hH K N G B) = some (.inl (some (.int (I (b2 (∀ q ∈ (ps i).drop y.toNat, EN (tw B0) g p q))))), hH K N G B) := by
  have h8 := (h8_of hw hR).1
  have hl := ps_len hR hi h8
  obtain ⟨p', mc, e, ca, h1, c1, c2, c3, c4⟩ := hR.part hi
  have g0 := gf_of h1 0
  simp only [List.getElem?_cons_zero] at g0
  have cc := cl_of c1
  have sz := w_110 (K := K) (d := d) (by omega) c1
  rw [c3] at sz
  intro n
  induction n with
  | zero =>
    intro y o5 o6 o7 hy hn
    rw [List.drop_eq_nil_of_le (by omega), b2T (fun q hq => by cases hq)]
    refine e_191_3 _ ?_
    unfold t_191_3
    simp (disch := omega) only [rI_d, rJ_d, rR_d, rN_d, wF_d, xI_d, xJ_d, xD_d, xQ_d, yI_d, yJ_d, yD_d, yQ_d, dI_s, dJ_s, dR_s, dN_s, dN_n, dH_s, dX_s, dL_s, dD_s, dQ_s, bC_r, bC_t, kI_s, kJ_s, kF_s, kD_s, kR_s, kV_s, I_lit, I_neg, I_add, I_sub, I_mul, I_ltT, I_ltF, I_leT, I_leF, I_eqT, I_eqF, c_int, c_long, c_obj, c_arr, c_bool, c_boolN, c_boolF, vn_bool, c_charN, vn_char, b2_f, b2_t, Int.toNat_natCast, ↓reduceIte, eq_self, and_self, and_true, true_and, not_false_eq_true, not_true_eq_false, L_0_0, L_0_1, L_0_2, L_0_3, L_0_4, L_0_5, L_0_6, L_0_7, L_0_8, L_0_9, L_0_10, L_0_11, L_0_12, L_0_13, L_0_14, L_0_15, C_0, L_1_0, L_1_1, L_1_2, C_1, L_2_0, L_2_1, L_2_2, C_2, L_3_0, L_3_1, L_3_2, C_3, L_65_0, L_65_1, L_65_2, L_65_3, L_65_4, C_65, L_66_0, L_66_1, L_66_2, L_66_3, C_66, L_129_0, L_129_1, L_129_2, L_129_3, C_129, L_198_0, L_198_1, L_198_2, L_198_3, L_198_4, L_198_5, L_198_6, L_198_7, L_198_8, L_198_9, L_198_10, L_198_11, L_198_12, L_198_13, L_198_14, L_198_15, L_198_16, L_198_17, L_198_18, L_198_19, L_198_20, L_198_21, L_198_22, L_198_23, L_198_24, L_198_25, L_198_26, L_198_27, L_198_28, L_198_29, L_198_30, L_198_31, L_198_32, L_198_33, L_198_34, L_198_35, L_198_36, L_198_37, L_198_38, L_198_39, L_198_40, L_198_41, L_198_42, L_198_43, L_198_44, L_198_45, L_198_46, L_198_47, L_198_48, C_198, A_199, A_200, A_201, A_202, A_203, A_204, A_205, A_206, A_207, A_208, A_209, A_210, A_211, A_212, A_213, A_214, A_215, A_216, A_217, A_218, A_219, A_220, A_221, A_222, A_223, A_224, A_225, A_226, A_227, A_228, A_128, A_191, A_rf, A_rs, A_rt, Q_4, Q_67, Q_130, t_191_3_1, t_191_3_2, t_191_3_3, t_191_3_4, t_191_3_5, t_191_3_6, t_191_3_7, t_191_3_8, t_191_3_9, t_191_3_10, t_191_3_11, g0, cc, sz]
  | succ n ih =>
    intro y o5 o6 o7 hy hn
    have hyl : y.toNat < (ps i).length := by omega
    have hk : (ps i)[y.toNat]? = some (ps i)[y.toNat] := List.getElem?_eq_getElem hyl
    have hmem : (ps i)[y.toNat] ∈ ps i := List.getElem_mem hyl
    rw [List.drop_eq_getElem_cons hyl]
    generalize (ps i)[y.toNat] = q at hk hmem ⊢
    obtain ⟨c, b, k1, k2, k3⟩ := c4 _ _ hk
    obtain ⟨m1, m2, m3⟩ := (hR.sy hi).2.2.1 q hmem
    have bc := mw_count hw (8 * i + q.1)
    have m2' : B0.2.1 218 (8 * i + q.1) = q.2 := m2
    rw [m2'] at bc
    have bq : 0 ≤ q.2 * g ∧ q.2 * g ≤ 400000 := ⟨Int.mul_nonneg (by omega) hg.1, by
      have := Int.mul_le_mul (show q.2 ≤ 4 by omega) hg.2 hg.1 (by omega)
      omega⟩
    have wg := w_178 (K := K) (d := d) (by omega) c1 c2 hy k1 (by omega)
    have k4 := cl_of k3
    have k5 := gf_of k3 0
    have k6 := gf_of k3 1
    simp only [List.getElem?_cons_zero, List.getElem?_cons_succ] at k5 k6
    obtain ⟨⟨p'', mk, vr, u0, -⟩, -⟩ := hR.sp k2
    obtain ⟨u1, -, u3, -, -, -, u7, u8, -⟩ := sh_rd u0
    have u3' : g_gf (hH K N G B) b 4 1 = some (.int (I (B0.2.1 201 q.1))) := u3
    have u7' : g_gf (hH K N G B) b 4 5 = some (.int (I (B0.2.1 208 (2 * q.1)))) := u7
    have u8' : g_gf (hH K N G B) b 4 6 = some (.int (I (B0.2.1 208 (2 * q.1 + 1)))) := u8
    have w0 := w_188 (d := d) (by omega) hw hR k2 (m := 0) (by omega)
    have w1 := w_188 (d := d) (by omega) hw hR k2 (m := 1) (by omega)
    have p0 := pgv_b hw (s := (q.1 : Int)) (m := 0) hp
    have p1 := pgv_b hw (s := (q.1 : Int)) (m := 1) hp
    have t0 := mw_stock hw (2 * q.1)
    have t1 := mw_stock hw (2 * q.1 + 1)
    have bp := mw_paired hw q.1
    have ih := ih (y + 1) (some (.ref c)) (some (.int (I (q.2 * g)))) (some (.ref b)) (by omega) (by omega)
    rw [show (y + 1).toNat = y.toNat + 1 by omega] at ih
    refine e_191_3 _ ?_
    unfold t_191_3
    have hall : EN (tw B0) g p q → b2 (∀ q' ∈ q :: (ps i).drop (y.toNat + 1), EN (tw B0) g p q') = b2 (∀ q' ∈ (ps i).drop (y.toNat + 1), EN (tw B0) g p q') := fun h => b2_of ⟨fun k q' hq' => k q' (List.mem_cons_of_mem _ hq'), fun k q' hq' => by
      rcases List.mem_cons.mp hq' with rfl | hq'
      · exact h
      · exact k q' hq'⟩
    by_cases x0 : q.2 * g ≤ B0.2.1 208 (2 * q.1) + p * gv (tw B0) (q.1 : Int) 0
    · by_cases x1 : B0.2.1 201 q.1 = 0
      · rw [hall ⟨x0, Or.inl x1⟩]
        simp (disch := omega) only [rI_d, rJ_d, rR_d, rN_d, wF_d, xI_d, xJ_d, xD_d, xQ_d, yI_d, yJ_d, yD_d, yQ_d, dI_s, dJ_s, dR_s, dN_s, dN_n, dH_s, dX_s, dL_s, dD_s, dQ_s, bC_r, bC_t, kI_s, kJ_s, kF_s, kD_s, kR_s, kV_s, I_lit, I_neg, I_add, I_sub, I_mul, I_ltT, I_ltF, I_leT, I_leF, I_eqT, I_eqF, c_int, c_long, c_obj, c_arr, c_bool, c_boolN, c_boolF, vn_bool, c_charN, vn_char, b2_f, b2_t, Int.toNat_natCast, ↓reduceIte, eq_self, and_self, and_true, true_and, not_false_eq_true, not_true_eq_false, L_0_0, L_0_1, L_0_2, L_0_3, L_0_4, L_0_5, L_0_6, L_0_7, L_0_8, L_0_9, L_0_10, L_0_11, L_0_12, L_0_13, L_0_14, L_0_15, C_0, L_1_0, L_1_1, L_1_2, C_1, L_2_0, L_2_1, L_2_2, C_2, L_3_0, L_3_1, L_3_2, C_3, L_65_0, L_65_1, L_65_2, L_65_3, L_65_4, C_65, L_66_0, L_66_1, L_66_2, L_66_3, C_66, L_129_0, L_129_1, L_129_2, L_129_3, C_129, L_198_0, L_198_1, L_198_2, L_198_3, L_198_4, L_198_5, L_198_6, L_198_7, L_198_8, L_198_9, L_198_10, L_198_11, L_198_12, L_198_13, L_198_14, L_198_15, L_198_16, L_198_17, L_198_18, L_198_19, L_198_20, L_198_21, L_198_22, L_198_23, L_198_24, L_198_25, L_198_26, L_198_27, L_198_28, L_198_29, L_198_30, L_198_31, L_198_32, L_198_33, L_198_34, L_198_35, L_198_36, L_198_37, L_198_38, L_198_39, L_198_40, L_198_41, L_198_42, L_198_43, L_198_44, L_198_45, L_198_46, L_198_47, L_198_48, C_198, A_199, A_200, A_201, A_202, A_203, A_204, A_205, A_206, A_207, A_208, A_209, A_210, A_211, A_212, A_213, A_214, A_215, A_216, A_217, A_218, A_219, A_220, A_221, A_222, A_223, A_224, A_225, A_226, A_227, A_228, A_128, A_191, A_rf, A_rs, A_rt, Q_4, Q_67, Q_130, t_191_3_1, t_191_3_2, t_191_3_3, t_191_3_4, t_191_3_5, t_191_3_6, t_191_3_7, t_191_3_8, t_191_3_9, t_191_3_10, t_191_3_11, g0, cc, sz, wg, k4, k5, k6, u1, u3', u7', w0, ih]
      · by_cases x2 : q.2 * g ≤ B0.2.1 208 (2 * q.1 + 1) + p * gv (tw B0) (q.1 : Int) 1
        · rw [hall ⟨x0, Or.inr x2⟩]
          simp (disch := omega) only [rI_d, rJ_d, rR_d, rN_d, wF_d, xI_d, xJ_d, xD_d, xQ_d, yI_d, yJ_d, yD_d, yQ_d, dI_s, dJ_s, dR_s, dN_s, dN_n, dH_s, dX_s, dL_s, dD_s, dQ_s, bC_r, bC_t, kI_s, kJ_s, kF_s, kD_s, kR_s, kV_s, I_lit, I_neg, I_add, I_sub, I_mul, I_ltT, I_ltF, I_leT, I_leF, I_eqT, I_eqF, c_int, c_long, c_obj, c_arr, c_bool, c_boolN, c_boolF, vn_bool, c_charN, vn_char, b2_f, b2_t, Int.toNat_natCast, ↓reduceIte, eq_self, and_self, and_true, true_and, not_false_eq_true, not_true_eq_false, L_0_0, L_0_1, L_0_2, L_0_3, L_0_4, L_0_5, L_0_6, L_0_7, L_0_8, L_0_9, L_0_10, L_0_11, L_0_12, L_0_13, L_0_14, L_0_15, C_0, L_1_0, L_1_1, L_1_2, C_1, L_2_0, L_2_1, L_2_2, C_2, L_3_0, L_3_1, L_3_2, C_3, L_65_0, L_65_1, L_65_2, L_65_3, L_65_4, C_65, L_66_0, L_66_1, L_66_2, L_66_3, C_66, L_129_0, L_129_1, L_129_2, L_129_3, C_129, L_198_0, L_198_1, L_198_2, L_198_3, L_198_4, L_198_5, L_198_6, L_198_7, L_198_8, L_198_9, L_198_10, L_198_11, L_198_12, L_198_13, L_198_14, L_198_15, L_198_16, L_198_17, L_198_18, L_198_19, L_198_20, L_198_21, L_198_22, L_198_23, L_198_24, L_198_25, L_198_26, L_198_27, L_198_28, L_198_29, L_198_30, L_198_31, L_198_32, L_198_33, L_198_34, L_198_35, L_198_36, L_198_37, L_198_38, L_198_39, L_198_40, L_198_41, L_198_42, L_198_43, L_198_44, L_198_45, L_198_46, L_198_47, L_198_48, C_198, A_199, A_200, A_201, A_202, A_203, A_204, A_205, A_206, A_207, A_208, A_209, A_210, A_211, A_212, A_213, A_214, A_215, A_216, A_217, A_218, A_219, A_220, A_221, A_222, A_223, A_224, A_225, A_226, A_227, A_228, A_128, A_191, A_rf, A_rs, A_rt, Q_4, Q_67, Q_130, t_191_3_1, t_191_3_2, t_191_3_3, t_191_3_4, t_191_3_5, t_191_3_6, t_191_3_7, t_191_3_8, t_191_3_9, t_191_3_10, t_191_3_11, g0, cc, sz, wg, k4, k5, k6, u1, u3', u7', u8', w0, w1, ih]
        · rw [b2F (fun h => (h q List.mem_cons_self).2.elim x1 x2)]
          simp (disch := omega) only [rI_d, rJ_d, rR_d, rN_d, wF_d, xI_d, xJ_d, xD_d, xQ_d, yI_d, yJ_d, yD_d, yQ_d, dI_s, dJ_s, dR_s, dN_s, dN_n, dH_s, dX_s, dL_s, dD_s, dQ_s, bC_r, bC_t, kI_s, kJ_s, kF_s, kD_s, kR_s, kV_s, I_lit, I_neg, I_add, I_sub, I_mul, I_ltT, I_ltF, I_leT, I_leF, I_eqT, I_eqF, c_int, c_long, c_obj, c_arr, c_bool, c_boolN, c_boolF, vn_bool, c_charN, vn_char, b2_f, b2_t, Int.toNat_natCast, ↓reduceIte, eq_self, and_self, and_true, true_and, not_false_eq_true, not_true_eq_false, L_0_0, L_0_1, L_0_2, L_0_3, L_0_4, L_0_5, L_0_6, L_0_7, L_0_8, L_0_9, L_0_10, L_0_11, L_0_12, L_0_13, L_0_14, L_0_15, C_0, L_1_0, L_1_1, L_1_2, C_1, L_2_0, L_2_1, L_2_2, C_2, L_3_0, L_3_1, L_3_2, C_3, L_65_0, L_65_1, L_65_2, L_65_3, L_65_4, C_65, L_66_0, L_66_1, L_66_2, L_66_3, C_66, L_129_0, L_129_1, L_129_2, L_129_3, C_129, L_198_0, L_198_1, L_198_2, L_198_3, L_198_4, L_198_5, L_198_6, L_198_7, L_198_8, L_198_9, L_198_10, L_198_11, L_198_12, L_198_13, L_198_14, L_198_15, L_198_16, L_198_17, L_198_18, L_198_19, L_198_20, L_198_21, L_198_22, L_198_23, L_198_24, L_198_25, L_198_26, L_198_27, L_198_28, L_198_29, L_198_30, L_198_31, L_198_32, L_198_33, L_198_34, L_198_35, L_198_36, L_198_37, L_198_38, L_198_39, L_198_40, L_198_41, L_198_42, L_198_43, L_198_44, L_198_45, L_198_46, L_198_47, L_198_48, C_198, A_199, A_200, A_201, A_202, A_203, A_204, A_205, A_206, A_207, A_208, A_209, A_210, A_211, A_212, A_213, A_214, A_215, A_216, A_217, A_218, A_219, A_220, A_221, A_222, A_223, A_224, A_225, A_226, A_227, A_228, A_128, A_191, A_rf, A_rs, A_rt, Q_4, Q_67, Q_130, t_191_3_1, t_191_3_2, t_191_3_3, t_191_3_4, t_191_3_5, t_191_3_6, t_191_3_7, t_191_3_8, t_191_3_9, t_191_3_10, t_191_3_11, g0, cc, sz, wg, k4, k5, k6, u1, u3', u7', u8', w0, w1]
    · rw [b2F (fun h => x0 (h q List.mem_cons_self).1)]
      simp (disch := omega) only [rI_d, rJ_d, rR_d, rN_d, wF_d, xI_d, xJ_d, xD_d, xQ_d, yI_d, yJ_d, yD_d, yQ_d, dI_s, dJ_s, dR_s, dN_s, dN_n, dH_s, dX_s, dL_s, dD_s, dQ_s, bC_r, bC_t, kI_s, kJ_s, kF_s, kD_s, kR_s, kV_s, I_lit, I_neg, I_add, I_sub, I_mul, I_ltT, I_ltF, I_leT, I_leF, I_eqT, I_eqF, c_int, c_long, c_obj, c_arr, c_bool, c_boolN, c_boolF, vn_bool, c_charN, vn_char, b2_f, b2_t, Int.toNat_natCast, ↓reduceIte, eq_self, and_self, and_true, true_and, not_false_eq_true, not_true_eq_false, L_0_0, L_0_1, L_0_2, L_0_3, L_0_4, L_0_5, L_0_6, L_0_7, L_0_8, L_0_9, L_0_10, L_0_11, L_0_12, L_0_13, L_0_14, L_0_15, C_0, L_1_0, L_1_1, L_1_2, C_1, L_2_0, L_2_1, L_2_2, C_2, L_3_0, L_3_1, L_3_2, C_3, L_65_0, L_65_1, L_65_2, L_65_3, L_65_4, C_65, L_66_0, L_66_1, L_66_2, L_66_3, C_66, L_129_0, L_129_1, L_129_2, L_129_3, C_129, L_198_0, L_198_1, L_198_2, L_198_3, L_198_4, L_198_5, L_198_6, L_198_7, L_198_8, L_198_9, L_198_10, L_198_11, L_198_12, L_198_13, L_198_14, L_198_15, L_198_16, L_198_17, L_198_18, L_198_19, L_198_20, L_198_21, L_198_22, L_198_23, L_198_24, L_198_25, L_198_26, L_198_27, L_198_28, L_198_29, L_198_30, L_198_31, L_198_32, L_198_33, L_198_34, L_198_35, L_198_36, L_198_37, L_198_38, L_198_39, L_198_40, L_198_41, L_198_42, L_198_43, L_198_44, L_198_45, L_198_46, L_198_47, L_198_48, C_198, A_199, A_200, A_201, A_202, A_203, A_204, A_205, A_206, A_207, A_208, A_209, A_210, A_211, A_212, A_213, A_214, A_215, A_216, A_217, A_218, A_219, A_220, A_221, A_222, A_223, A_224, A_225, A_226, A_227, A_228, A_128, A_191, A_rf, A_rs, A_rt, Q_4, Q_67, Q_130, t_191_3_1, t_191_3_2, t_191_3_3, t_191_3_4, t_191_3_5, t_191_3_6, t_191_3_7, t_191_3_8, t_191_3_9, t_191_3_10, t_191_3_11, g0, cc, sz, wg, k4, k5, k6, u1, u3', u7', w0]
theorem w_191 (hd : 5 ≤ d) (hw : MW B0) (hR : CR K N G B ro (tw B0) sh st pc cs ps) (hi : st[i]? = some a) {g p : Int} (hg : 0 ≤ g ∧ g ≤ 100000) (hp : 0 ≤ p ∧ p ≤ 1000) : gCa K d 191 [.ref N, .ref a, .int (I g), .int (I p)] (hH K N G B) = some (.inl (some (.int (I (b2 (g ≤ mk (tw B0) i p))))), hH K N G B) := by
  obtain ⟨d, rfl, hd'⟩ := d_succ (show 4 + 1 ≤ d by omega)
  have h8 := (h8_of hw hR).1
  have := l_191 (d := d) (by omega) hw hR hi hg hp (ps i).length 0 none none none (by omega) (by omega)
  rw [show (0 : Int).toNat = 0 from rfl, List.drop_zero, b2_of ((hR.sy hi).2.en h8 (show g ≤ 2147483647 by omega)), ← mk_sh hR] at this
  refine c_191 _ ?_
  unfold t_191_0
  simp only [I_lit, I_neg, I_add, I_sub, I_mul, I_ltT, I_ltF, I_leT, I_leF, I_eqT, I_eqF, c_int, c_long, c_obj, c_arr, c_bool, c_boolN, c_boolF, vn_bool, c_charN, vn_char, b2_f, b2_t]
  exact this
end
