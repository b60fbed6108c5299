/-! PURE 102: a sheet is made -/
set_option maxRecDepth 100000
section
theorem rows_f {t k : Nat} {G : gH} (hb : HB G) : ∀ m, HB (g_rows t k m G) ∧ (g_rows t k m G).2.1 = G.2.1 + m ∧ (g_rows t k m G).2.2 = G.2.2 + m * k ∧ (∀ a, a < G.2.1 → (g_rows t k m G).1 a = G.1 a) ∧ ∀ j, j < m → (g_rows t k m G).1 (G.2.1 + j) = some (.inl (t, k, .inl (fun _ => I 0)))
  | 0 => ⟨hb, rfl, by rw [Nat.zero_mul]; rfl, fun _ _ => rfl, fun j hj => absurd hj (Nat.not_lt_zero j)⟩
  | m + 1 => by
    obtain ⟨h1, h2, h3, h4, h5⟩ := rows_f (t := t) (k := k) hb m
    have e : g_rows t k (m + 1) G = gnew (g_rows t k m G) (.inl (t, k, .inl (fun _ => I 0))) k := by
      show gnew (g_rows t k m G) (.inl (t, k, .inl (fun _ => (0 : Int32)))) k = _
      rw [show (fun _ : Nat => (0 : Int32)) = fun _ => I 0 from funext fun _ => I_lit 0]
    rw [e]
    refine ⟨h1.new, ?_, ?_, fun a ha => ?_, fun j hj => ?_⟩
    · show (g_rows t k m G).2.1 + 1 = _
      rw [h2]; rfl
    · show (g_rows t k m G).2.2 + k = _
      rw [h3, Nat.add_mul, Nat.one_mul]; omega
    · exact (gn_lt (by omega)).trans (h4 a ha)
    · by_cases z : j = m
      · rw [z, ← h2]; exact gn_eq
      · exact (gn_lt (by omega)).trans (h5 j (by omega))
/-- a sheet at s, anywhere -/
def SHR (H : gH) (N s : Nat) (v : Int) (f : Nat → Nat → Int) (g : Nat → Int) : Prop := H.1 s = some (.inr (2, [.ref (s + 1), .ref (s + 62), .int (I v), .ref N])) ∧ H.1 (s + 1) = some (.inl (8, 60, gQ (fun j => if j < 60 then some (s + 2 + j) else none))) ∧ (∀ r, r < 60 → H.1 (s + 2 + r) = some (.inl (0, 12, .inl (fun j => I (f r j))))) ∧ H.1 (s + 62) = some (.inl (0, 4, .inl (fun j => I (g j))))
def RQ (s : Nat) (H H' : gH) : Prop := H'.2 = H.2 ∧ HB H' ∧ ∀ a, (a < s ∨ s + 62 < a) → H'.1 a = H.1 a
theorem RQ.rf {s : Nat} {H : gH} (hb : HB H) : RQ s H H := ⟨rfl, hb, fun _ _ => rfl⟩
theorem RQ.tr {s : Nat} {H H' H'' : gH} (h : RQ s H H') (h' : RQ s H' H'') : RQ s H H'' := ⟨h'.1.trans h.1, h'.2.1, fun a ha => (h'.2.2 a ha).trans (h.2.2 a ha)⟩
theorem RQ.set {s x : Nat} {H : gH} (hb : HB H) {e e' : gE} (hx : H.1 x = some e') (h1 : s ≤ x ∧ x ≤ s + 62) : RQ s H (gset H x e) := ⟨rfl, hb.set hx, fun a ha => gs_ne (by omega)⟩
variable {K : gK} {d N s : Nat} {H : gH} {v : Int} {f : Nat → Nat → Int} {g : Nat → Int}
theorem l_112r_10 {r : Nat} (hr : r < 60) : ∀ (n c : Nat) (H : gH) (f : Nat → Nat → Int), c + n = 12 → HB H → SHR H N s v f g → ∃ H', (∀ x, gRn K d 112 2 [some (.ref s), some (.int (I ((r : Int) + 1))), some (.int (I 12))] [] H' = some x → gRn K d 112 10 [some (.ref s), some (.int (I (r : Int))), some (.int (I (c : Int)))] [] H = some x) ∧ RQ s H H' ∧ SHR H' N s v (fun r' j => if r' = r ∧ c ≤ j ∧ j < 12 then -1 else f r' j) g := by
  intro n
  induction n with
  | zero =>
    intro c H f hc hb hS
    obtain rfl : c = 12 := by omega
    refine ⟨H, fun x hx => ?_, RQ.rf hb, ?_⟩
    · rw [show ((12 : Nat) : Int) = 12 from rfl]
      refine e_112_10 _ ?_
      unfold t_112_10
      simp (disch := omega) only [rI_d, rJ_d, rR_d, rN_d, wF_d, xI_d, xJ_d, xD_d, xQ_d, yI_d, yJ_d, yD_d, yQ_d, dI_s, dJ_s, dR_s, dN_s, dN_n, dH_s, dX_s, dL_s, dD_s, dQ_s, bC_r, bC_t, kI_s, kJ_s, kF_s, kD_s, kR_s, kV_s, I_lit, I_neg, I_add, I_sub, I_mul, I_ltT, I_ltF, I_leT, I_leF, I_eqT, I_eqF, c_int, c_long, c_obj, c_arr, c_bool, c_boolN, c_boolF, vn_bool, c_charN, vn_char, b2_f, b2_t, Int.toNat_natCast, ↓reduceIte, eq_self, and_self, and_true, true_and, not_false_eq_true, not_true_eq_false, L_0_0, L_0_1, L_0_2, L_0_3, L_0_4, L_0_5, L_0_6, L_0_7, L_0_8, L_0_9, L_0_10, L_0_11, L_0_12, L_0_13, L_0_14, L_0_15, C_0, L_1_0, L_1_1, L_1_2, C_1, L_2_0, L_2_1, L_2_2, C_2, L_3_0, L_3_1, L_3_2, C_3, L_65_0, L_65_1, L_65_2, L_65_3, L_65_4, C_65, L_66_0, L_66_1, L_66_2, L_66_3, C_66, L_129_0, L_129_1, L_129_2, L_129_3, C_129, L_198_0, L_198_1, L_198_2, L_198_3, L_198_4, L_198_5, L_198_6, L_198_7, L_198_8, L_198_9, L_198_10, L_198_11, L_198_12, L_198_13, L_198_14, L_198_15, L_198_16, L_198_17, L_198_18, L_198_19, L_198_20, L_198_21, L_198_22, L_198_23, L_198_24, L_198_25, L_198_26, L_198_27, L_198_28, L_198_29, L_198_30, L_198_31, L_198_32, L_198_33, L_198_34, L_198_35, L_198_36, L_198_37, L_198_38, L_198_39, L_198_40, L_198_41, L_198_42, L_198_43, L_198_44, L_198_45, L_198_46, L_198_47, L_198_48, C_198, A_199, A_200, A_201, A_202, A_203, A_204, A_205, A_206, A_207, A_208, A_209, A_210, A_211, A_212, A_213, A_214, A_215, A_216, A_217, A_218, A_219, A_220, A_221, A_222, A_223, A_224, A_225, A_226, A_227, A_228, A_128, A_191, A_rf, A_rs, A_rt, Q_4, Q_67, Q_130, t_112_39_1, t_112_39_2, t_112_39_3, t_112_10_1, t_112_10_2, t_112_10_3, hx]
    · have : (fun r' j => if r' = r ∧ 12 ≤ j ∧ j < 12 then -1 else f r' j) = f := funext fun r' => funext fun j => if_neg (by omega)
      rw [this]; exact hS
  | succ n ih =>
    intro c H f hc hb hS
    obtain ⟨h1, h2, h3, h4⟩ := hS
    have g0 := gf_of h1 0
    simp only [List.getElem?_cons_zero] at g0
    have q0 := qa_of h2 (z := (r : Int)) (by omega) (by omega)
    rw [Int.toNat_natCast, if_pos hr] at q0
    have i0 := is_of (h3 r hr) (z := (c : Int)) (v := -1) (by omega) (by omega)
    rw [Int.toNat_natCast] at i0
    have hS2 : SHR (gset H (s + 2 + r) (.inl (0, 12, .inl (upd (fun j => I (f r j)) c (I (-1)))))) N s v (fun r' j => if r' = r ∧ j = c then -1 else f r' j) g := by
      refine ⟨(gs_ne (by omega)).trans h1, (gs_ne (by omega)).trans h2, fun r' hr' => ?_, (gs_ne (by omega)).trans h4⟩
      by_cases e : r' = r
      · subst e
        rw [gs_eq]
        refine congrArg (fun f => some (Sum.inl (0, 12, Sum.inl f))) (funext fun j => ?_)
        unfold upd
        try dsimp only
        by_cases z : j = c
        · rw [if_pos z, if_pos ⟨rfl, z⟩]
        · rw [if_neg z, if_neg (fun q => z q.2)]
      · rw [gs_ne (by omega), h3 r' hr']
        refine congrArg (fun f => some (Sum.inl (0, 12, Sum.inl f))) (funext fun j => ?_)
        try dsimp only
        rw [if_neg (fun q => e q.1)]
    have rq := RQ.set (s := s) hb (h3 r hr) (e := .inl (0, 12, .inl (upd (fun j => I (f r j)) c (I (-1))))) (by omega)
    obtain ⟨H', i1, i2, i3⟩ := ih (c + 1) _ _ (by omega) rq.2.1 hS2
    refine ⟨H', fun x hx => ?_, rq.tr i2, ?_⟩
    · have i1 := i1 x hx
      rw [show ((c + 1 : Nat) : Int) = (c : Int) + 1 by omega] at i1
      refine e_112_10 _ ?_
      unfold t_112_10
      simp (disch := omega) only [rI_d, rJ_d, rR_d, rN_d, wF_d, xI_d, xJ_d, xD_d, xQ_d, yI_d, yJ_d, yD_d, yQ_d, dI_s, dJ_s, dR_s, dN_s, dN_n, dH_s, dX_s, dL_s, dD_s, dQ_s, bC_r, bC_t, kI_s, kJ_s, kF_s, kD_s, kR_s, kV_s, I_lit, I_neg, I_add, I_sub, I_mul, I_ltT, I_ltF, I_leT, I_leF, I_eqT, I_eqF, c_int, c_long, c_obj, c_arr, c_bool, c_boolN, c_boolF, vn_bool, c_charN, vn_char, b2_f, b2_t, Int.toNat_natCast, ↓reduceIte, eq_self, and_self, and_true, true_and, not_false_eq_true, not_true_eq_false, L_0_0, L_0_1, L_0_2, L_0_3, L_0_4, L_0_5, L_0_6, L_0_7, L_0_8, L_0_9, L_0_10, L_0_11, L_0_12, L_0_13, L_0_14, L_0_15, C_0, L_1_0, L_1_1, L_1_2, C_1, L_2_0, L_2_1, L_2_2, C_2, L_3_0, L_3_1, L_3_2, C_3, L_65_0, L_65_1, L_65_2, L_65_3, L_65_4, C_65, L_66_0, L_66_1, L_66_2, L_66_3, C_66, L_129_0, L_129_1, L_129_2, L_129_3, C_129, L_198_0, L_198_1, L_198_2, L_198_3, L_198_4, L_198_5, L_198_6, L_198_7, L_198_8, L_198_9, L_198_10, L_198_11, L_198_12, L_198_13, L_198_14, L_198_15, L_198_16, L_198_17, L_198_18, L_198_19, L_198_20, L_198_21, L_198_22, L_198_23, L_198_24, L_198_25, L_198_26, L_198_27, L_198_28, L_198_29, L_198_30, L_198_31, L_198_32, L_198_33, L_198_34, L_198_35, L_198_36, L_198_37, L_198_38, L_198_39, L_198_40, L_198_41, L_198_42, L_198_43, L_198_44, L_198_45, L_198_46, L_198_47, L_198_48, C_198, A_199, A_200, A_201, A_202, A_203, A_204, A_205, A_206, A_207, A_208, A_209, A_210, A_211, A_212, A_213, A_214, A_215, A_216, A_217, A_218, A_219, A_220, A_221, A_222, A_223, A_224, A_225, A_226, A_227, A_228, A_128, A_191, A_rf, A_rs, A_rt, Q_4, Q_67, Q_130, t_112_39_1, t_112_39_2, t_112_39_3, t_112_10_1, t_112_10_2, t_112_10_3, g0, q0, i0, i1]
    · have : (fun r' j => if r' = r ∧ c + 1 ≤ j ∧ j < 12 then -1 else if r' = r ∧ j = c then -1 else f r' j) = fun r' j => if r' = r ∧ c ≤ j ∧ j < 12 then -1 else f r' j := funext fun r' => funext fun j => by
        by_cases z : r' = r ∧ c + 1 ≤ j ∧ j < 12
        · rw [if_pos z, if_pos (by omega)]
        · rw [if_neg z]
          by_cases z2 : r' = r ∧ j = c
          · rw [if_pos z2, if_pos (by omega)]
          · rw [if_neg z2, if_neg (by omega)]
      rw [this] at i3; exact i3
theorem l_112r_39 : ∀ (n c : Nat) (H : gH) (g : Nat → Int) (o2 : Option Value), c + n = 4 → HB H → SHR H N s v f g → ∃ H', gRn K d 112 39 [some (.ref s), some (.int (I (c : Int))), o2] [] H = some (.inl none, H') ∧ RQ s H H' ∧ SHR H' N s 0 f (fun j => if c ≤ j ∧ j < 4 then -1 else g j) := by
  intro n
  induction n with
  | zero =>
    intro c H g o2 hc hb hS
    obtain rfl : c = 4 := by omega
    obtain ⟨h1, h2, h3, h4⟩ := hS
    have pf := pf_of (k := 2) (v := .int (I 0)) h1 (Nat.le_of_ble_eq_true rfl)
    simp only [List.set_cons_succ, List.set_cons_zero] at pf
    refine ⟨_, e_112_39 _ ?_, RQ.set hb h1 (by omega), ⟨gs_eq, (gs_ne (by omega)).trans h2, fun r hr => (gs_ne (by omega)).trans (h3 r hr), ?_⟩⟩
    · rw [show ((4 : Nat) : Int) = 4 from rfl]
      unfold t_112_39
      simp (disch := omega) only [rI_d, rJ_d, rR_d, rN_d, wF_d, xI_d, xJ_d, xD_d, xQ_d, yI_d, yJ_d, yD_d, yQ_d, dI_s, dJ_s, dR_s, dN_s, dN_n, dH_s, dX_s, dL_s, dD_s, dQ_s, bC_r, bC_t, kI_s, kJ_s, kF_s, kD_s, kR_s, kV_s, I_lit, I_neg, I_add, I_sub, I_mul, I_ltT, I_ltF, I_leT, I_leF, I_eqT, I_eqF, c_int, c_long, c_obj, c_arr, c_bool, c_boolN, c_boolF, vn_bool, c_charN, vn_char, b2_f, b2_t, Int.toNat_natCast, ↓reduceIte, eq_self, and_self, and_true, true_and, not_false_eq_true, not_true_eq_false, L_0_0, L_0_1, L_0_2, L_0_3, L_0_4, L_0_5, L_0_6, L_0_7, L_0_8, L_0_9, L_0_10, L_0_11, L_0_12, L_0_13, L_0_14, L_0_15, C_0, L_1_0, L_1_1, L_1_2, C_1, L_2_0, L_2_1, L_2_2, C_2, L_3_0, L_3_1, L_3_2, C_3, L_65_0, L_65_1, L_65_2, L_65_3, L_65_4, C_65, L_66_0, L_66_1, L_66_2, L_66_3, C_66, L_129_0, L_129_1, L_129_2, L_129_3, C_129, L_198_0, L_198_1, L_198_2, L_198_3, L_198_4, L_198_5, L_198_6, L_198_7, L_198_8, L_198_9, L_198_10, L_198_11, L_198_12, L_198_13, L_198_14, L_198_15, L_198_16, L_198_17, L_198_18, L_198_19, L_198_20, L_198_21, L_198_22, L_198_23, L_198_24, L_198_25, L_198_26, L_198_27, L_198_28, L_198_29, L_198_30, L_198_31, L_198_32, L_198_33, L_198_34, L_198_35, L_198_36, L_198_37, L_198_38, L_198_39, L_198_40, L_198_41, L_198_42, L_198_43, L_198_44, L_198_45, L_198_46, L_198_47, L_198_48, C_198, A_199, A_200, A_201, A_202, A_203, A_204, A_205, A_206, A_207, A_208, A_209, A_210, A_211, A_212, A_213, A_214, A_215, A_216, A_217, A_218, A_219, A_220, A_221, A_222, A_223, A_224, A_225, A_226, A_227, A_228, A_128, A_191, A_rf, A_rs, A_rt, Q_4, Q_67, Q_130, t_112_39_1, t_112_39_2, t_112_39_3, t_112_10_1, t_112_10_2, t_112_10_3, pf]
    · rw [gs_ne (by omega), h4]
      refine congrArg (fun f => some (Sum.inl (0, 4, Sum.inl f))) (funext fun j => ?_)
      try dsimp only
      rw [if_neg (by omega)]
  | succ n ih =>
    intro c H g o2 hc hb hS
    obtain ⟨h1, h2, h3, h4⟩ := hS
    have g0 := gf_of h1 1
    simp only [List.getElem?_cons_succ, List.getElem?_cons_zero] at g0
    have i0 := is_of h4 (z := (c : Int)) (v := -1) (by omega) (by omega)
    rw [Int.toNat_natCast] at i0
    have hS2 : SHR (gset H (s + 62) (.inl (0, 4, .inl (upd (fun j => I (g j)) c (I (-1)))))) N s v f (fun j => if j = c then -1 else g j) := by
      refine ⟨(gs_ne (by omega)).trans h1, (gs_ne (by omega)).trans h2, fun r hr => (gs_ne (by omega)).trans (h3 r hr), ?_⟩
      rw [gs_eq]
      refine congrArg (fun f => some (Sum.inl (0, 4, Sum.inl f))) (funext fun j => ?_)
      unfold upd
      try dsimp only
      by_cases z : j = c
      · rw [if_pos z, if_pos z]
      · rw [if_neg z, if_neg z]
    have rq := RQ.set (s := s) hb h4 (e := .inl (0, 4, .inl (upd (fun j => I (g j)) c (I (-1))))) (by omega)
    obtain ⟨H', i1, i2, i3⟩ := ih (c + 1) _ _ o2 (by omega) rq.2.1 hS2
    refine ⟨H', e_112_39 _ ?_, rq.tr i2, ?_⟩
    · rw [show ((c + 1 : Nat) : Int) = (c : Int) + 1 by omega] at i1
      unfold t_112_39
      simp (disch := omega) only [rI_d, rJ_d, rR_d, rN_d, wF_d, xI_d, xJ_d, xD_d, xQ_d, yI_d, yJ_d, yD_d, yQ_d, dI_s, dJ_s, dR_s, dN_s, dN_n, dH_s, dX_s, dL_s, dD_s, dQ_s, bC_r, bC_t, kI_s, kJ_s, kF_s, kD_s, kR_s, kV_s, I_lit, I_neg, I_add, I_sub, I_mul, I_ltT, I_ltF, I_leT, I_leF, I_eqT, I_eqF, c_int, c_long, c_obj, c_arr, c_bool, c_boolN, c_boolF, vn_bool, c_charN, vn_char, b2_f, b2_t, Int.toNat_natCast, ↓reduceIte, eq_self, and_self, and_true, true_and, not_false_eq_true, not_true_eq_false, L_0_0, L_0_1, L_0_2, L_0_3, L_0_4, L_0_5, L_0_6, L_0_7, L_0_8, L_0_9, L_0_10, L_0_11, L_0_12, L_0_13, L_0_14, L_0_15, C_0, L_1_0, L_1_1, L_1_2, C_1, L_2_0, L_2_1, L_2_2, C_2, L_3_0, L_3_1, L_3_2, C_3, L_65_0, L_65_1, L_65_2, L_65_3, L_65_4, C_65, L_66_0, L_66_1, L_66_2, L_66_3, C_66, L_129_0, L_129_1, L_129_2, L_129_3, C_129, L_198_0, L_198_1, L_198_2, L_198_3, L_198_4, L_198_5, L_198_6, L_198_7, L_198_8, L_198_9, L_198_10, L_198_11, L_198_12, L_198_13, L_198_14, L_198_15, L_198_16, L_198_17, L_198_18, L_198_19, L_198_20, L_198_21, L_198_22, L_198_23, L_198_24, L_198_25, L_198_26, L_198_27, L_198_28, L_198_29, L_198_30, L_198_31, L_198_32, L_198_33, L_198_34, L_198_35, L_198_36, L_198_37, L_198_38, L_198_39, L_198_40, L_198_41, L_198_42, L_198_43, L_198_44, L_198_45, L_198_46, L_198_47, L_198_48, C_198, A_199, A_200, A_201, A_202, A_203, A_204, A_205, A_206, A_207, A_208, A_209, A_210, A_211, A_212, A_213, A_214, A_215, A_216, A_217, A_218, A_219, A_220, A_221, A_222, A_223, A_224, A_225, A_226, A_227, A_228, A_128, A_191, A_rf, A_rs, A_rt, Q_4, Q_67, Q_130, t_112_39_1, t_112_39_2, t_112_39_3, t_112_10_1, t_112_10_2, t_112_10_3, g0, i0, i1]
    · have : (fun j => if c + 1 ≤ j ∧ j < 4 then -1 else if j = c then -1 else g j) = fun j => if c ≤ j ∧ j < 4 then -1 else g j := funext fun j => by
        by_cases z : c + 1 ≤ j ∧ j < 4
        · rw [if_pos z, if_pos (by omega)]
        · rw [if_neg z]
          by_cases z2 : j = c
          · rw [if_pos z2, if_pos (by omega)]
          · rw [if_neg z2, if_neg (by omega)]
      rw [this] at i3; exact i3
theorem l_112r_2 : ∀ (n r : Nat) (H : gH) (f : Nat → Nat → Int) (o2 : Option Value), r + n = 60 → HB H → SHR H N s v f g → ∃ H', gRn K d 112 2 [some (.ref s), some (.int (I (r : Int))), o2] [] H = some (.inl none, H') ∧ RQ s H H' ∧ SHR H' N s 0 (fun r' j => if r ≤ r' ∧ j < 12 then -1 else f r' j) (fun j => if j < 4 then -1 else g j) := by
  intro n
  induction n with
  | zero =>
    intro r H f o2 hr hb hS
    obtain rfl : r = 60 := by omega
    obtain ⟨H', i1, i2, i3⟩ := l_112r_39 (K := K) (d := d) 4 0 H g o2 rfl hb hS
    refine ⟨H', e_112_2 _ ?_, i2, i3.1, i3.2.1, fun r' hr' => ?_, ?_⟩
    · rw [show ((60 : Nat) : Int) = 60 from rfl]
      rw [show ((0 : Nat) : Int) = 0 from rfl] at i1
      unfold t_112_2
      simp (disch := omega) only [rI_d, rJ_d, rR_d, rN_d, wF_d, xI_d, xJ_d, xD_d, xQ_d, yI_d, yJ_d, yD_d, yQ_d, dI_s, dJ_s, dR_s, dN_s, dN_n, dH_s, dX_s, dL_s, dD_s, dQ_s, bC_r, bC_t, kI_s, kJ_s, kF_s, kD_s, kR_s, kV_s, I_lit, I_neg, I_add, I_sub, I_mul, I_ltT, I_ltF, I_leT, I_leF, I_eqT, I_eqF, c_int, c_long, c_obj, c_arr, c_bool, c_boolN, c_boolF, vn_bool, c_charN, vn_char, b2_f, b2_t, Int.toNat_natCast, ↓reduceIte, eq_self, and_self, and_true, true_and, not_false_eq_true, not_true_eq_false, L_0_0, L_0_1, L_0_2, L_0_3, L_0_4, L_0_5, L_0_6, L_0_7, L_0_8, L_0_9, L_0_10, L_0_11, L_0_12, L_0_13, L_0_14, L_0_15, C_0, L_1_0, L_1_1, L_1_2, C_1, L_2_0, L_2_1, L_2_2, C_2, L_3_0, L_3_1, L_3_2, C_3, L_65_0, L_65_1, L_65_2, L_65_3, L_65_4, C_65, L_66_0, L_66_1, L_66_2, L_66_3, C_66, L_129_0, L_129_1, L_129_2, L_129_3, C_129, L_198_0, L_198_1, L_198_2, L_198_3, L_198_4, L_198_5, L_198_6, L_198_7, L_198_8, L_198_9, L_198_10, L_198_11, L_198_12, L_198_13, L_198_14, L_198_15, L_198_16, L_198_17, L_198_18, L_198_19, L_198_20, L_198_21, L_198_22, L_198_23, L_198_24, L_198_25, L_198_26, L_198_27, L_198_28, L_198_29, L_198_30, L_198_31, L_198_32, L_198_33, L_198_34, L_198_35, L_198_36, L_198_37, L_198_38, L_198_39, L_198_40, L_198_41, L_198_42, L_198_43, L_198_44, L_198_45, L_198_46, L_198_47, L_198_48, C_198, A_199, A_200, A_201, A_202, A_203, A_204, A_205, A_206, A_207, A_208, A_209, A_210, A_211, A_212, A_213, A_214, A_215, A_216, A_217, A_218, A_219, A_220, A_221, A_222, A_223, A_224, A_225, A_226, A_227, A_228, A_128, A_191, A_rf, A_rs, A_rt, Q_4, Q_67, Q_130, t_112_39_1, t_112_39_2, t_112_39_3, t_112_10_1, t_112_10_2, t_112_10_3, i1]
    · rw [i3.2.2.1 r' hr']
      refine congrArg (fun f => some (Sum.inl (0, 12, Sum.inl f))) (funext fun j => ?_)
      try dsimp only
      rw [if_neg (by omega)]
    · rw [i3.2.2.2]
      refine congrArg (fun f => some (Sum.inl (0, 4, Sum.inl f))) (funext fun j => ?_)
      try dsimp only
      by_cases z : j < 4
      · rw [if_pos ⟨Nat.zero_le _, z⟩, if_pos z]
      · rw [if_neg (fun q => z q.2), if_neg z]
  | succ n ih =>
    intro r H f o2 hr hb hS
    obtain ⟨H1, i1, i2, i3⟩ := l_112r_10 (K := K) (d := d) (r := r) (by omega) 12 0 H f rfl hb hS
    obtain ⟨H2, j1, j2, j3⟩ := ih (r + 1) H1 _ (some (.int (I 12))) (by omega) i2.2.1 i3
    rw [show ((r + 1 : Nat) : Int) = (r : Int) + 1 by omega] at j1
    have i1 := i1 _ j1
    rw [show ((0 : Nat) : Int) = 0 from rfl] at i1
    refine ⟨H2, e_112_2 _ ?_, i2.tr j2, ?_⟩
    · unfold t_112_2
      simp (disch := omega) only [rI_d, rJ_d, rR_d, rN_d, wF_d, xI_d, xJ_d, xD_d, xQ_d, yI_d, yJ_d, yD_d, yQ_d, dI_s, dJ_s, dR_s, dN_s, dN_n, dH_s, dX_s, dL_s, dD_s, dQ_s, bC_r, bC_t, kI_s, kJ_s, kF_s, kD_s, kR_s, kV_s, I_lit, I_neg, I_add, I_sub, I_mul, I_ltT, I_ltF, I_leT, I_leF, I_eqT, I_eqF, c_int, c_long, c_obj, c_arr, c_bool, c_boolN, c_boolF, vn_bool, c_charN, vn_char, b2_f, b2_t, Int.toNat_natCast, ↓reduceIte, eq_self, and_self, and_true, true_and, not_false_eq_true, not_true_eq_false, L_0_0, L_0_1, L_0_2, L_0_3, L_0_4, L_0_5, L_0_6, L_0_7, L_0_8, L_0_9, L_0_10, L_0_11, L_0_12, L_0_13, L_0_14, L_0_15, C_0, L_1_0, L_1_1, L_1_2, C_1, L_2_0, L_2_1, L_2_2, C_2, L_3_0, L_3_1, L_3_2, C_3, L_65_0, L_65_1, L_65_2, L_65_3, L_65_4, C_65, L_66_0, L_66_1, L_66_2, L_66_3, C_66, L_129_0, L_129_1, L_129_2, L_129_3, C_129, L_198_0, L_198_1, L_198_2, L_198_3, L_198_4, L_198_5, L_198_6, L_198_7, L_198_8, L_198_9, L_198_10, L_198_11, L_198_12, L_198_13, L_198_14, L_198_15, L_198_16, L_198_17, L_198_18, L_198_19, L_198_20, L_198_21, L_198_22, L_198_23, L_198_24, L_198_25, L_198_26, L_198_27, L_198_28, L_198_29, L_198_30, L_198_31, L_198_32, L_198_33, L_198_34, L_198_35, L_198_36, L_198_37, L_198_38, L_198_39, L_198_40, L_198_41, L_198_42, L_198_43, L_198_44, L_198_45, L_198_46, L_198_47, L_198_48, C_198, A_199, A_200, A_201, A_202, A_203, A_204, A_205, A_206, A_207, A_208, A_209, A_210, A_211, A_212, A_213, A_214, A_215, A_216, A_217, A_218, A_219, A_220, A_221, A_222, A_223, A_224, A_225, A_226, A_227, A_228, A_128, A_191, A_rf, A_rs, A_rt, Q_4, Q_67, Q_130, t_112_39_1, t_112_39_2, t_112_39_3, t_112_10_1, t_112_10_2, t_112_10_3, i1]
    · have : (fun r' j => if r + 1 ≤ r' ∧ j < 12 then -1 else if r' = r ∧ 0 ≤ j ∧ j < 12 then -1 else f r' j) = fun r' j => if r ≤ r' ∧ j < 12 then -1 else f r' j := funext fun r' => funext fun j => by
        by_cases z : r + 1 ≤ r' ∧ j < 12
        · rw [if_pos z, if_pos (by omega)]
        · rw [if_neg z]
          by_cases z2 : r' = r ∧ 0 ≤ j ∧ j < 12
          · rw [if_pos z2, if_pos (by omega)]
          · rw [if_neg z2, if_neg (by omega)]
      rw [this] at j3; exact j3
theorem w_112r (hd : 1 ≤ d) (hb : HB H) (hS : SHR H N s v f g) : ∃ H', gCa K d 112 [.ref s] H = some (.inl none, H') ∧ RQ s H H' ∧ SHR H' N s 0 (fun r' j => if j < 12 then -1 else f r' j) (fun j => if j < 4 then -1 else g j) := by
  obtain ⟨d, rfl, hd'⟩ := d_succ (show 0 + 1 ≤ d by omega)
  obtain ⟨H', i1, i2, i3⟩ := l_112r_2 (K := K) (d := d) 60 0 H f none rfl hb hS
  rw [show ((0 : Nat) : Int) = 0 from rfl] at i1
  refine ⟨H', c_112 _ ?_, i2, ?_⟩
  · unfold t_112_0
    simp only [I_lit, I_neg, I_add, I_sub, I_mul, I_ltT, I_ltF, I_leT, I_leF, I_eqT, I_eqF, c_int, c_long, c_obj, c_arr, c_bool, c_boolN, c_boolF, vn_bool, c_charN, vn_char, b2_f, b2_t]
    exact i1
  · have : (fun r' j => if 0 ≤ r' ∧ j < 12 then -1 else f r' j) = fun r' j => if j < 12 then -1 else f r' j := funext fun r' => funext fun j => by
      by_cases z : j < 12
      · rw [if_pos ⟨Nat.zero_le _, z⟩, if_pos z]
      · rw [if_neg (fun q => z q.2), if_neg z]
    rw [this] at i3; exact i3
theorem nc4 : (I 4).toNatClampNeg = 4 := by decide
/-- a sheet made behind H -/
theorem w_86 (hd : 2 ≤ d) (hb : HB H) : ∃ H', gCa K d 86 [.ref H.2.1, .ref N] (gnew H (.inr (2, [.null, .null, .int (I 0), .null])) 4) = some (.inl none, H') ∧ HB H' ∧ H'.2.1 = H.2.1 + 63 ∧ H'.2.2 ≤ H.2.2 + 788 ∧ (∀ a, a < H.2.1 → H'.1 a = H.1 a) ∧ SHR H' N H.2.1 0 (fun _ j => if j < 12 then -1 else 0) (fun j => if j < 4 then -1 else 0) := by
  obtain ⟨d, rfl, hd'⟩ := d_succ (show 1 + 1 ≤ d by omega)
  have hb1 : HB (gnew H (.inr (2, [.null, .null, .int (I 0), .null])) 4) := hb.new
  have x1 : (gnew H (.inr (2, [.null, .null, .int (I 0), .null])) 4).1 H.2.1 = some (.inr (2, [.null, .null, .int (I 0), .null])) := gn_eq
  have pf1 := pf_of (k := 3) (v := .ref N) x1 (Nat.le_of_ble_eq_true rfl)
  simp only [List.set_cons_succ, List.set_cons_zero] at pf1
  rw [gs_gn] at pf1
  have hb2 : HB (gnew H (.inr (2, [.null, .null, .int (I 0), .ref N])) 4) := hb.new
  have x2 : (gnew H (.inr (2, [.null, .null, .int (I 0), .ref N])) 4).1 H.2.1 = some (.inr (2, [.null, .null, .int (I 0), .ref N])) := gn_eq
  have k2 : (gnew H (.inr (2, [.null, .null, .int (I 0), .ref N])) 4).2.1 = H.2.1 + 1 := rfl
  have l2 : (gnew H (.inr (2, [.null, .null, .int (I 0), .ref N])) 4).2.2 = H.2.2 + 4 := rfl
  have u2 : ∀ a, a < H.2.1 → (gnew H (.inr (2, [.null, .null, .int (I 0), .ref N])) 4).1 a = H.1 a := fun a ha => gn_lt ha
  generalize gnew H (.inr (2, [.null, .null, .int (I 0), .ref N])) 4 = H2 at *
  have hb3 : HB (gnew H2 (.inl (8, 60, gQ (fun j => if j < 60 then some (H2.2.1 + 1 + j) else none))) 60) := hb2.new
  have x3 : (gnew H2 (.inl (8, 60, gQ (fun j => if j < 60 then some (H2.2.1 + 1 + j) else none))) 60).1 (H.2.1 + 1) = some (.inl (8, 60, gQ (fun j => if j < 60 then some (H.2.1 + 2 + j) else none))) := by
    rw [← k2, gn_eq, k2]
  have k3 : (gnew H2 (.inl (8, 60, gQ (fun j => if j < 60 then some (H2.2.1 + 1 + j) else none))) 60).2.1 = H.2.1 + 2 := by rw [gn_n, k2]
  have l3 : (gnew H2 (.inl (8, 60, gQ (fun j => if j < 60 then some (H2.2.1 + 1 + j) else none))) 60).2.2 = H.2.2 + 64 := by rw [gn_s, l2]
  have u3 : ∀ a, a < H.2.1 + 1 → (gnew H2 (.inl (8, 60, gQ (fun j => if j < 60 then some (H2.2.1 + 1 + j) else none))) 60).1 a = H2.1 a := fun a ha => gn_lt (by omega)
  generalize hH3 : gnew H2 (.inl (8, 60, gQ (fun j => if j < 60 then some (H2.2.1 + 1 + j) else none))) 60 = H3 at *
  obtain ⟨hb4, k4, l4, u4, r4⟩ := rows_f (t := 0) (k := 12) hb3 60
  generalize hH4 : g_rows 0 12 60 H3 = H4 at *
  have x4 : H4.1 H.2.1 = some (.inr (2, [.null, .null, .int (I 0), .ref N])) := (u4 _ (by omega)).trans ((u3 _ (by omega)).trans x2)
  have pf4 := pf_of (k := 0) (v := .ref H2.2.1) x4 (Nat.le_of_ble_eq_true rfl)
  simp only [List.set_cons_succ, List.set_cons_zero] at pf4
  have hb5 : HB (gset H4 H.2.1 (.inr (2, [.ref H2.2.1, .null, .int (I 0), .ref N]))) := hb4.set x4
  have x5 : (gset H4 H.2.1 (.inr (2, [.ref H2.2.1, .null, .int (I 0), .ref N]))).1 H.2.1 = some (.inr (2, [.ref H2.2.1, .null, .int (I 0), .ref N])) := gs_eq
  have k5 : (gset H4 H.2.1 (.inr (2, [.ref H2.2.1, .null, .int (I 0), .ref N]))).2 = H4.2 := rfl
  have u5 : ∀ a, a ≠ H.2.1 → (gset H4 H.2.1 (.inr (2, [.ref H2.2.1, .null, .int (I 0), .ref N]))).1 a = H4.1 a := fun a ha => gs_ne ha
  generalize gset H4 H.2.1 (.inr (2, [.ref H2.2.1, .null, .int (I 0), .ref N])) = H5 at *
  have k5' : H5.2.1 = H.2.1 + 62 := by rw [k5, k4, k3]
  have hb6 : HB (gnew H5 (.inl (0, 4, .inl (fun _ => I 0))) 4) := hb5.new
  have x6 : (gnew H5 (.inl (0, 4, .inl (fun _ => I 0))) 4).1 H.2.1 = some (.inr (2, [.ref H2.2.1, .null, .int (I 0), .ref N])) := (gn_lt (by omega)).trans x5
  have y6 : (gnew H5 (.inl (0, 4, .inl (fun _ => I 0))) 4).1 (H.2.1 + 62) = some (.inl (0, 4, .inl (fun _ => I 0))) := by rw [← k5']; exact gn_eq
  have u6 : ∀ a, a < H.2.1 + 62 → (gnew H5 (.inl (0, 4, .inl (fun _ => I 0))) 4).1 a = H5.1 a := fun a ha => gn_lt (by omega)
  have k6 : (gnew H5 (.inl (0, 4, .inl (fun _ => I 0))) 4).2.1 = H.2.1 + 63 := by rw [gn_n, k5']
  have l6 : (gnew H5 (.inl (0, 4, .inl (fun _ => I 0))) 4).2.2 = H.2.2 + 788 := by rw [gn_s, k5, l4, l3]
  have pf6 := pf_of (k := 1) (v := .ref H5.2.1) x6 (Nat.le_of_ble_eq_true rfl)
  simp only [List.set_cons_succ, List.set_cons_zero] at pf6
  have hS : SHR (gset (gnew H5 (.inl (0, 4, .inl (fun _ => I 0))) 4) H.2.1 (.inr (2, [.ref H2.2.1, .ref H5.2.1, .int (I 0), .ref N]))) N H.2.1 0 (fun _ _ => 0) (fun _ => 0) := by
    refine ⟨by rw [gs_eq, k2, k5'], (gs_ne (by omega)).trans ?_, fun r hr => (gs_ne (by omega)).trans ?_, (gs_ne (by omega)).trans y6⟩
    · rw [u6 _ (by omega), u5 _ (by omega), u4 _ (by omega)]; exact x3
    · rw [u6 _ (by omega), u5 _ (by omega)]
      have := r4 r hr
      rw [k3] at this
      exact this
  have c2 : g_cls (gset (gnew H5 (.inl (0, 4, .inl (fun _ => I 0))) 4) H.2.1 (.inr (2, [.ref H2.2.1, .ref H5.2.1, .int (I 0), .ref N]))) H.2.1 = some 2 := cl_of gs_eq
  obtain ⟨H', i1, i2, i3⟩ := w_112r (K := K) (d := d) (by omega) (hb6.set x6 (e := .inr (2, [.ref H2.2.1, .ref H5.2.1, .int (I 0), .ref N]))) hS
  refine ⟨H', c_86 _ ?_, i2.2.1, ?_, ?_, fun a ha => ?_, i3⟩
  · unfold t_86_0
    simp (disch := omega) only [rI_d, rJ_d, rR_d, rN_d, wF_d, xI_d, xJ_d, xD_d, xQ_d, yI_d, yJ_d, yD_d, yQ_d, dI_s, dJ_s, dR_s, dN_s, dN_n, dH_s, dX_s, dL_s, dD_s, dQ_s, bC_r, bC_t, kI_s, kJ_s, kF_s, kD_s, kR_s, kV_s, I_lit, I_neg, I_add, I_sub, I_mul, I_ltT, I_ltF, I_leT, I_leF, I_eqT, I_eqF, c_int, c_long, c_obj, c_arr, c_bool, c_boolN, c_boolF, vn_bool, c_charN, vn_char, b2_f, b2_t, Int.toNat_natCast, ↓reduceIte, eq_self, and_self, and_true, true_and, not_false_eq_true, not_true_eq_false, L_0_0, L_0_1, L_0_2, L_0_3, L_0_4, L_0_5, L_0_6, L_0_7, L_0_8, L_0_9, L_0_10, L_0_11, L_0_12, L_0_13, L_0_14, L_0_15, C_0, L_1_0, L_1_1, L_1_2, C_1, L_2_0, L_2_1, L_2_2, C_2, L_3_0, L_3_1, L_3_2, C_3, L_65_0, L_65_1, L_65_2, L_65_3, L_65_4, C_65, L_66_0, L_66_1, L_66_2, L_66_3, C_66, L_129_0, L_129_1, L_129_2, L_129_3, C_129, L_198_0, L_198_1, L_198_2, L_198_3, L_198_4, L_198_5, L_198_6, L_198_7, L_198_8, L_198_9, L_198_10, L_198_11, L_198_12, L_198_13, L_198_14, L_198_15, L_198_16, L_198_17, L_198_18, L_198_19, L_198_20, L_198_21, L_198_22, L_198_23, L_198_24, L_198_25, L_198_26, L_198_27, L_198_28, L_198_29, L_198_30, L_198_31, L_198_32, L_198_33, L_198_34, L_198_35, L_198_36, L_198_37, L_198_38, L_198_39, L_198_40, L_198_41, L_198_42, L_198_43, L_198_44, L_198_45, L_198_46, L_198_47, L_198_48, C_198, A_199, A_200, A_201, A_202, A_203, A_204, A_205, A_206, A_207, A_208, A_209, A_210, A_211, A_212, A_213, A_214, A_215, A_216, A_217, A_218, A_219, A_220, A_221, A_222, A_223, A_224, A_225, A_226, A_227, A_228, A_128, A_191, A_rf, A_rs, A_rt, Q_4, Q_67, Q_130, t_86_0_1, t_86_0_2, t_86_0_3, t_86_0_4, iltT, iltF, ileT, ileF, ieqT, ieqF, cif_T, cif_F, not_true_eq_false, not_false_eq_true, or_true, or_false, true_or, false_or, false_and, and_false, ne_eq, pf1, hH3, hH4, pf4, nc4, Nat.reduceLT, pf6, c2, i1]
  · rw [i2.1]; exact k6
  · rw [i2.1]; exact Nat.le_of_eq l6
  · rw [i2.2.2 a (Or.inl ha), gs_ne (by omega), u6 a (by omega), u5 a (by omega), u4 a (by omega), u3 a (by omega), u2 a ha]
end
