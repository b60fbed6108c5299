/-! PURE 90: garments out of the stock -/
set_option maxRecDepth 100000
section
def exE (k : Int) : Nat := if k = 1 then 3 else 2
def EF (M : gM) (q : Nat × Int) : Int := (if M.2 201 q.1 = 0 then M.2 208 (2 * q.1) else min (M.2 208 (2 * q.1)) (M.2 208 (2 * q.1 + 1))) / q.2
theorem le_EF {M : gM} {q : Nat × Int} {g : Int} (h : 0 < q.2) : g ≤ EF M q ↔ EN M g 0 q := by
  unfold EF EN
  rw [Int.le_ediv_iff_mul_le h, Int.mul_comm g, Int.zero_mul, Int.zero_mul, Int.add_zero, Int.add_zero]
  by_cases k : M.2 201 q.1 = 0
  · rw [if_pos k]
    exact ⟨fun h => ⟨h, Or.inl k⟩, And.left⟩
  · rw [if_neg k]
    constructor
    · intro h
      exact ⟨by omega, Or.inr (by omega)⟩
    · rintro ⟨h1, h2⟩
      have := h2.resolve_left k
      omega
theorem le_fold {M : gM} {g : Int} : ∀ (l : List (Nat × Int)) (z : Int), g ≤ l.foldl (fun z q => min z (EF M q)) z ↔ g ≤ z ∧ ∀ q ∈ l, g ≤ EF M q
  | [], z => ⟨fun h => ⟨h, fun q hq => by cases hq⟩, And.left⟩
  | q :: l, z => by
    rw [List.foldl_cons, le_fold l]
    constructor
    · rintro ⟨h1, h2⟩
      exact ⟨by omega, fun q' hq' => by
        rcases List.mem_cons.mp hq' with rfl | hq'
        · omega
        · exact h2 q' hq'⟩
    · rintro ⟨h1, h2⟩
      have := h2 q List.mem_cons_self
      exact ⟨by omega, fun q' hq' => h2 q' (List.mem_cons_of_mem _ hq')⟩
variable {K : gK} {d N : Nat} {G G' : gH} {B B' B0 : gB} {M M' : gM} {ro : Nat → Nat} {sh st pc : List Nat} {cs : Nat → List Nat} {ps : Nat → List (Nat × Int)} {a i : Nat}
theorem tkP_0 (hw : MW B) : ∀ n : Nat, tkP (tw B) (i : Int) n = 0 ↔ ∀ s, s < n → B.2.1 218 (8 * i + s) = 0
  | 0 => ⟨fun _ s hs => absurd hs (Nat.not_lt_zero s), fun _ => rfl⟩
  | n + 1 => by
    have b1 := tkP_b hw (st := (i : Int)) n
    have b2' := mw_count hw (8 * i + n)
    have e : tkP (tw B) (i : Int) (n + 1) = tkP (tw B) (i : Int) n + B.2.1 218 (8 * i + n) * (if B.2.1 201 n = 0 then 1 else 2) := by
      show tkP (tw B) (i : Int) n + B.2.1 218 (8 * (i : Int) + (n : Int)).toNat * _ = _
      rw [show (8 * (i : Int) + (n : Int)).toNat = 8 * i + n by omega]
    have b3 : tkP (tw B) (i : Int) (n + 1) = 0 ↔ tkP (tw B) (i : Int) n = 0 ∧ B.2.1 218 (8 * i + n) = 0 := by
      rw [e]
      split <;> omega
    rw [b3, tkP_0 hw n]
    constructor
    · rintro ⟨h1, h2⟩ s hs
      by_cases k : s = n
      · rw [k]; exact h2
      · exact h1 s (by omega)
    · exact fun h => ⟨fun s hs => h s (by omega), h n (by omega)⟩
theorem ps_nil (hw : MW B0) (hR : CR K N G B ro (tw B0) sh st pc cs ps) (hi : st[i]? = some a) : ps i = [] ↔ tk (tw B0) i = 0 := by
  have h8 := (h8_of hw hR).1
  have h2 : (B0.1 198 7) = (sh.length : Int) := hR.nn.1
  rw [(hR.sy hi).2.nil h8]
  show _ ↔ tkP (tw B0) (i : Int) ((B0.1 198 7)).toNat = 0
  rw [tkP_0 hw, show ((B0.1 198 7)).toNat = sh.length by omega]
theorem w_189 (hd : 6 ≤ d) (hw : MW B) (hR : CR K N G B ro (tw B) sh st pc cs ps) {s : Int} (h1 : R32 s) : (k_canMake (tw B) s = 0 → ∃ a, st[s.toNat]? = some a ∧ ps s.toNat ≠ [] ∧ gCa K d 189 [.ref N, .int (I s)] (hH K N G B) = some (.inl (some (.ref a)), hH K N G B)) ∧ (k_canMake (tw B) s ≠ 0 → gCa K d 189 [.ref N, .int (I s)] (hH K N G B) = some (.inr (exE (k_canMake (tw B) s)), hH K N (gjunk G 6) B)) := by
  obtain ⟨d, rfl, hd'⟩ := d_succ (show 5 + 1 ≤ d by omega)
  have e3 : (B.1 198 28) = (st.length : Int) := hR.nn.2.1
  have h8 := h8_of hw hR
  have T2 := w_153T (K := K) (d := d) (H := hH K N G B) (by omega)
  have F2 := w_153F (K := K) (d := d) (H := hH K N G B) (by omega)
  by_cases e : 0 ≤ s ∧ s ≤ (B.1 198 28) - 1
  · obtain ⟨a, ha⟩ := at_lt (show s.toNat < st.length by omega)
    have w := w_181 (d := d) (by omega) hR (by omega) e.1 ha
    have hn := ps_nil hw hR ha
    rw [show ((s.toNat : Nat) : Int) = s by omega] at hn
    have hl := ps_len hR ha h8.1
    obtain ⟨p, mc, e', ca, h2, c1, c2, c3, -⟩ := hR.part ha
    have v1 := cl_of h2
    have g0 := gf_of h2 0
    simp only [List.getElem?_cons_zero] at g0
    have cc := cl_of c1
    have em := w_150 (K := K) (d := d) (by omega) c1 (by omega)
    by_cases e2 : tk (tw B) s = 0
    · have hk : k_canMake (tw B) s = 2 := by
        unfold k_canMake
        rw [cifF (fun h => h e), cifT e2]
      have h0 := hn.mpr e2
      rw [h0] at c3
      rw [b2T (show ca.length = 0 from c3)] at em
      refine ⟨fun h => absurd h (by rw [hk]; decide), fun _ => ?_⟩
      rw [hk]
      refine c_189 _ ?_
      unfold t_189_0
      simp (disch := omega) only [rI_d, rJ_d, rR_d, rN_d, wF_d, xI_d, xJ_d, xD_d, xQ_d, yI_d, yJ_d, yD_d, yQ_d, dI_s, dJ_s, dR_s, dN_s, dN_n, dH_s, dX_s, dL_s, dD_s, dQ_s, bC_r, bC_t, kI_s, kJ_s, kF_s, kD_s, kR_s, kV_s, I_lit, I_neg, I_add, I_sub, I_mul, I_ltT, I_ltF, I_leT, I_leF, I_eqT, I_eqF, c_int, c_long, c_obj, c_arr, c_bool, c_boolN, c_boolF, vn_bool, c_charN, vn_char, b2_f, b2_t, Int.toNat_natCast, ↓reduceIte, eq_self, and_self, and_true, true_and, not_false_eq_true, not_true_eq_false, L_0_0, L_0_1, L_0_2, L_0_3, L_0_4, L_0_5, L_0_6, L_0_7, L_0_8, L_0_9, L_0_10, L_0_11, L_0_12, L_0_13, L_0_14, L_0_15, C_0, L_1_0, L_1_1, L_1_2, C_1, L_2_0, L_2_1, L_2_2, C_2, L_3_0, L_3_1, L_3_2, C_3, L_65_0, L_65_1, L_65_2, L_65_3, L_65_4, C_65, L_66_0, L_66_1, L_66_2, L_66_3, C_66, L_129_0, L_129_1, L_129_2, L_129_3, C_129, L_198_0, L_198_1, L_198_2, L_198_3, L_198_4, L_198_5, L_198_6, L_198_7, L_198_8, L_198_9, L_198_10, L_198_11, L_198_12, L_198_13, L_198_14, L_198_15, L_198_16, L_198_17, L_198_18, L_198_19, L_198_20, L_198_21, L_198_22, L_198_23, L_198_24, L_198_25, L_198_26, L_198_27, L_198_28, L_198_29, L_198_30, L_198_31, L_198_32, L_198_33, L_198_34, L_198_35, L_198_36, L_198_37, L_198_38, L_198_39, L_198_40, L_198_41, L_198_42, L_198_43, L_198_44, L_198_45, L_198_46, L_198_47, L_198_48, C_198, A_199, A_200, A_201, A_202, A_203, A_204, A_205, A_206, A_207, A_208, A_209, A_210, A_211, A_212, A_213, A_214, A_215, A_216, A_217, A_218, A_219, A_220, A_221, A_222, A_223, A_224, A_225, A_226, A_227, A_228, A_128, A_191, A_rf, A_rs, A_rt, Q_4, Q_67, Q_130, t_189_0_1, t_189_0_2, t_189_0_3, t_189_0_4, t_189_0_5, w, v1, g0, cc, em, F2, gjunk_hH]
      rfl
    · have hk : k_canMake (tw B) s = 0 := by
        unfold k_canMake
        rw [cifF (fun h => h e), cifF e2]
      have h0 : ps s.toNat ≠ [] := fun h => e2 (hn.mp h)
      have h0' := List.length_pos_iff.mpr h0
      rw [b2F (show ¬ ca.length = 0 by omega)] at em
      refine ⟨fun _ => ⟨a, ha, h0, ?_⟩, fun h => absurd hk h⟩
      refine c_189 _ ?_
      unfold t_189_0
      simp (disch := omega) only [rI_d, rJ_d, rR_d, rN_d, wF_d, xI_d, xJ_d, xD_d, xQ_d, yI_d, yJ_d, yD_d, yQ_d, dI_s, dJ_s, dR_s, dN_s, dN_n, dH_s, dX_s, dL_s, dD_s, dQ_s, bC_r, bC_t, kI_s, kJ_s, kF_s, kD_s, kR_s, kV_s, I_lit, I_neg, I_add, I_sub, I_mul, I_ltT, I_ltF, I_leT, I_leF, I_eqT, I_eqF, c_int, c_long, c_obj, c_arr, c_bool, c_boolN, c_boolF, vn_bool, c_charN, vn_char, b2_f, b2_t, Int.toNat_natCast, ↓reduceIte, eq_self, and_self, and_true, true_and, not_false_eq_true, not_true_eq_false, L_0_0, L_0_1, L_0_2, L_0_3, L_0_4, L_0_5, L_0_6, L_0_7, L_0_8, L_0_9, L_0_10, L_0_11, L_0_12, L_0_13, L_0_14, L_0_15, C_0, L_1_0, L_1_1, L_1_2, C_1, L_2_0, L_2_1, L_2_2, C_2, L_3_0, L_3_1, L_3_2, C_3, L_65_0, L_65_1, L_65_2, L_65_3, L_65_4, C_65, L_66_0, L_66_1, L_66_2, L_66_3, C_66, L_129_0, L_129_1, L_129_2, L_129_3, C_129, L_198_0, L_198_1, L_198_2, L_198_3, L_198_4, L_198_5, L_198_6, L_198_7, L_198_8, L_198_9, L_198_10, L_198_11, L_198_12, L_198_13, L_198_14, L_198_15, L_198_16, L_198_17, L_198_18, L_198_19, L_198_20, L_198_21, L_198_22, L_198_23, L_198_24, L_198_25, L_198_26, L_198_27, L_198_28, L_198_29, L_198_30, L_198_31, L_198_32, L_198_33, L_198_34, L_198_35, L_198_36, L_198_37, L_198_38, L_198_39, L_198_40, L_198_41, L_198_42, L_198_43, L_198_44, L_198_45, L_198_46, L_198_47, L_198_48, C_198, A_199, A_200, A_201, A_202, A_203, A_204, A_205, A_206, A_207, A_208, A_209, A_210, A_211, A_212, A_213, A_214, A_215, A_216, A_217, A_218, A_219, A_220, A_221, A_222, A_223, A_224, A_225, A_226, A_227, A_228, A_128, A_191, A_rf, A_rs, A_rt, Q_4, Q_67, Q_130, t_189_0_1, t_189_0_2, t_189_0_3, t_189_0_4, t_189_0_5, w, v1, g0, cc, em, T2]
  · have hk : k_canMake (tw B) s = 1 := by
      unfold k_canMake
      rw [cifT e]
    have w := w_181F (d := d) (by omega) hR (by omega) h1 (by omega)
    refine ⟨fun h => absurd h (by rw [hk]; decide), fun _ => ?_⟩
    rw [hk]
    refine c_189 _ ?_
    unfold t_189_0
    simp (disch := omega) only [rI_d, rJ_d, rR_d, rN_d, wF_d, xI_d, xJ_d, xD_d, xQ_d, yI_d, yJ_d, yD_d, yQ_d, dI_s, dJ_s, dR_s, dN_s, dN_n, dH_s, dX_s, dL_s, dD_s, dQ_s, bC_r, bC_t, kI_s, kJ_s, kF_s, kD_s, kR_s, kV_s, I_lit, I_neg, I_add, I_sub, I_mul, I_ltT, I_ltF, I_leT, I_leF, I_eqT, I_eqF, c_int, c_long, c_obj, c_arr, c_bool, c_boolN, c_boolF, vn_bool, c_charN, vn_char, b2_f, b2_t, Int.toNat_natCast, ↓reduceIte, eq_self, and_self, and_true, true_and, not_false_eq_true, not_true_eq_false, L_0_0, L_0_1, L_0_2, L_0_3, L_0_4, L_0_5, L_0_6, L_0_7, L_0_8, L_0_9, L_0_10, L_0_11, L_0_12, L_0_13, L_0_14, L_0_15, C_0, L_1_0, L_1_1, L_1_2, C_1, L_2_0, L_2_1, L_2_2, C_2, L_3_0, L_3_1, L_3_2, C_3, L_65_0, L_65_1, L_65_2, L_65_3, L_65_4, C_65, L_66_0, L_66_1, L_66_2, L_66_3, C_66, L_129_0, L_129_1, L_129_2, L_129_3, C_129, L_198_0, L_198_1, L_198_2, L_198_3, L_198_4, L_198_5, L_198_6, L_198_7, L_198_8, L_198_9, L_198_10, L_198_11, L_198_12, L_198_13, L_198_14, L_198_15, L_198_16, L_198_17, L_198_18, L_198_19, L_198_20, L_198_21, L_198_22, L_198_23, L_198_24, L_198_25, L_198_26, L_198_27, L_198_28, L_198_29, L_198_30, L_198_31, L_198_32, L_198_33, L_198_34, L_198_35, L_198_36, L_198_37, L_198_38, L_198_39, L_198_40, L_198_41, L_198_42, L_198_43, L_198_44, L_198_45, L_198_46, L_198_47, L_198_48, C_198, A_199, A_200, A_201, A_202, A_203, A_204, A_205, A_206, A_207, A_208, A_209, A_210, A_211, A_212, A_213, A_214, A_215, A_216, A_217, A_218, A_219, A_220, A_221, A_222, A_223, A_224, A_225, A_226, A_227, A_228, A_128, A_191, A_rf, A_rs, A_rt, Q_4, Q_67, Q_130, t_189_0_1, t_189_0_2, t_189_0_3, t_189_0_4, t_189_0_5, w]
    rfl
theorem EF_b (hw : MW B) {q : Nat × Int} (hq : 0 < q.2) : 0 ≤ EF (tw B) q ∧ EF (tw B) q ≤ 9999 := by
  have t0 := mw_stock hw (2 * q.1)
  have t1 := mw_stock hw (2 * q.1 + 1)
  have k : ∀ x : Int, 0 ≤ x → x ≤ 9999 → 0 ≤ x / q.2 ∧ x / q.2 ≤ 9999 := fun x h1 h2 => ⟨Int.ediv_nonneg h1 (by omega), by have := Int.ediv_le_self (a := x) q.2 h1; omega⟩
  unfold EF
  dsimp only [tw]
  split
  · exact k _ t0.1 t0.2
  · exact k _ (by omega) (by omega)
theorem fold_b (hw : MW B) : ∀ (l : List (Nat × Int)) (z : Int), (∀ q ∈ l, 0 < q.2) → 0 ≤ z ∧ z ≤ 9999 → 0 ≤ l.foldl (fun z q => min z (EF (tw B) q)) z ∧ l.foldl (fun z q => min z (EF (tw B) q)) z ≤ 9999
  | [], z, _, h => h
  | q :: l, z, hq, h => by
    have := EF_b hw (hq q List.mem_cons_self)
    rw [List.foldl_cons]
    exact fold_b hw l _ (fun q' h' => hq q' (List.mem_cons_of_mem _ h')) (by omega)
theorem w_ef (hd : 2 ≤ d) (hw : MW B0) (hR : CR K N G B ro (tw B0) sh st pc cs ps) {q : Nat × Int} {b : Nat} (hb : sh[q.1]? = some b) (hq : 1 ≤ q.2 ∧ q.2 ≤ 4) : gCa K d 223 [.ref b, .int (I q.2)] (hH K N G B) = some (.inl (some (.int (I (EF (tw B0) q)))), hH K N G B) :=
  w_223 hd (hR.sp hb).1 (mw_paired hw q.1) (mw_stock hw (2 * q.1)) (mw_stock hw (2 * q.1 + 1)) hq
theorem l_190 (hd : 3 ≤ d) (hw : MW B0) (hR : CR K N G B ro (tw B0) sh st pc cs ps) (hi : st[i]? = some a) : ∀ (n : Nat) (y z : Int) (o3 : Option Value), 0 ≤ z ∧ z ≤ 9999 → 0 ≤ y → y + n = (ps i).length →
    gRn K d 190 38 [some (.ref a), some (.int (I z)), some (.int (I y)), o3] [] (hH K N G B) = some (.inl (some (.int (I (((ps i).drop y.toNat).foldl (fun z q => min z (EF (tw B0) q)) z)))), hH K N G B) := by
  have h8 := (h8_of hw hR).1
  have hl := ps_len hR hi h8
  obtain ⟨p', mc, e, ca, h1, c1, c2, c3, c4⟩ := hR.part hi
  have g0 := gf_of h1 0
  simp only [List.getElem?_cons_zero] at g0
  have cc := cl_of c1
  have sz := w_110 (K := K) (d := d) (by omega) c1
  rw [c3] at sz
  intro n
  induction n with
  | zero =>
    intro y z o3 hz hy hn
    rw [List.drop_eq_nil_of_le (by omega)]
    refine e_190_38 _ ?_
    unfold t_190_38
    simp (disch := omega) only [rI_d, rJ_d, rR_d, rN_d, wF_d, xI_d, xJ_d, xD_d, xQ_d, yI_d, yJ_d, yD_d, yQ_d, dI_s, dJ_s, dR_s, dN_s, dN_n, dH_s, dX_s, dL_s, dD_s, dQ_s, bC_r, bC_t, kI_s, kJ_s, kF_s, kD_s, kR_s, kV_s, I_lit, I_neg, I_add, I_sub, I_mul, I_ltT, I_ltF, I_leT, I_leF, I_eqT, I_eqF, c_int, c_long, c_obj, c_arr, c_bool, c_boolN, c_boolF, vn_bool, c_charN, vn_char, b2_f, b2_t, Int.toNat_natCast, ↓reduceIte, eq_self, and_self, and_true, true_and, not_false_eq_true, not_true_eq_false, L_0_0, L_0_1, L_0_2, L_0_3, L_0_4, L_0_5, L_0_6, L_0_7, L_0_8, L_0_9, L_0_10, L_0_11, L_0_12, L_0_13, L_0_14, L_0_15, C_0, L_1_0, L_1_1, L_1_2, C_1, L_2_0, L_2_1, L_2_2, C_2, L_3_0, L_3_1, L_3_2, C_3, L_65_0, L_65_1, L_65_2, L_65_3, L_65_4, C_65, L_66_0, L_66_1, L_66_2, L_66_3, C_66, L_129_0, L_129_1, L_129_2, L_129_3, C_129, L_198_0, L_198_1, L_198_2, L_198_3, L_198_4, L_198_5, L_198_6, L_198_7, L_198_8, L_198_9, L_198_10, L_198_11, L_198_12, L_198_13, L_198_14, L_198_15, L_198_16, L_198_17, L_198_18, L_198_19, L_198_20, L_198_21, L_198_22, L_198_23, L_198_24, L_198_25, L_198_26, L_198_27, L_198_28, L_198_29, L_198_30, L_198_31, L_198_32, L_198_33, L_198_34, L_198_35, L_198_36, L_198_37, L_198_38, L_198_39, L_198_40, L_198_41, L_198_42, L_198_43, L_198_44, L_198_45, L_198_46, L_198_47, L_198_48, C_198, A_199, A_200, A_201, A_202, A_203, A_204, A_205, A_206, A_207, A_208, A_209, A_210, A_211, A_212, A_213, A_214, A_215, A_216, A_217, A_218, A_219, A_220, A_221, A_222, A_223, A_224, A_225, A_226, A_227, A_228, A_128, A_191, A_rf, A_rs, A_rt, Q_4, Q_67, Q_130, t_190_0_1, t_190_0_2, t_190_0_3, t_190_0_4, t_190_0_5, t_190_0_6, t_190_0_7, t_190_38_1, t_190_38_2, t_190_38_3, t_190_38_4, t_190_38_5, t_190_38_6, t_190_38_7, t_190_38_8, g0, cc, sz]
    rfl
  | succ n ih =>
    intro y z o3 hz hy hn
    have hyl : y.toNat < (ps i).length := by omega
    have hk : (ps i)[y.toNat]? = some (ps i)[y.toNat] := List.getElem?_eq_getElem hyl
    have hmem : (ps i)[y.toNat] ∈ ps i := List.getElem_mem hyl
    rw [List.drop_eq_getElem_cons hyl, List.foldl_cons]
    generalize (ps i)[y.toNat] = q at hk hmem ⊢
    obtain ⟨c, b, k1, k2, k3⟩ := c4 _ _ hk
    obtain ⟨m1, m2, m3⟩ := (hR.sy hi).2.2.1 q hmem
    have bc := mw_count hw (8 * i + q.1)
    have m2' : B0.2.1 218 (8 * i + q.1) = q.2 := m2
    rw [m2'] at bc
    have wg := w_178 (K := K) (d := d) (by omega) c1 c2 hy k1 (by omega)
    have k4 := cl_of k3
    have k5 := gf_of k3 0
    have k6 := gf_of k3 1
    simp only [List.getElem?_cons_zero, List.getElem?_cons_succ] at k5 k6
    obtain ⟨⟨p'', mk, vr, u0, -⟩, -⟩ := hR.sp k2
    have u1 := cl_of u0
    have we := w_ef (d := d) (by omega) hw hR (q := q) k2 (by omega)
    have be := EF_b hw m3
    have wm := w_224 (K := K) (d := d) (H := hH K N G B) (by omega) (a := z) (b := EF (tw B0) q) (by omega) (by omega)
    have ih := ih (y + 1) (min z (EF (tw B0) q)) (some (.ref c)) (by omega) (by omega) (by omega)
    rw [show (y + 1).toNat = y.toNat + 1 by omega] at ih
    refine e_190_38 _ ?_
    unfold t_190_38
    simp (disch := omega) only [rI_d, rJ_d, rR_d, rN_d, wF_d, xI_d, xJ_d, xD_d, xQ_d, yI_d, yJ_d, yD_d, yQ_d, dI_s, dJ_s, dR_s, dN_s, dN_n, dH_s, dX_s, dL_s, dD_s, dQ_s, bC_r, bC_t, kI_s, kJ_s, kF_s, kD_s, kR_s, kV_s, I_lit, I_neg, I_add, I_sub, I_mul, I_ltT, I_ltF, I_leT, I_leF, I_eqT, I_eqF, c_int, c_long, c_obj, c_arr, c_bool, c_boolN, c_boolF, vn_bool, c_charN, vn_char, b2_f, b2_t, Int.toNat_natCast, ↓reduceIte, eq_self, and_self, and_true, true_and, not_false_eq_true, not_true_eq_false, L_0_0, L_0_1, L_0_2, L_0_3, L_0_4, L_0_5, L_0_6, L_0_7, L_0_8, L_0_9, L_0_10, L_0_11, L_0_12, L_0_13, L_0_14, L_0_15, C_0, L_1_0, L_1_1, L_1_2, C_1, L_2_0, L_2_1, L_2_2, C_2, L_3_0, L_3_1, L_3_2, C_3, L_65_0, L_65_1, L_65_2, L_65_3, L_65_4, C_65, L_66_0, L_66_1, L_66_2, L_66_3, C_66, L_129_0, L_129_1, L_129_2, L_129_3, C_129, L_198_0, L_198_1, L_198_2, L_198_3, L_198_4, L_198_5, L_198_6, L_198_7, L_198_8, L_198_9, L_198_10, L_198_11, L_198_12, L_198_13, L_198_14, L_198_15, L_198_16, L_198_17, L_198_18, L_198_19, L_198_20, L_198_21, L_198_22, L_198_23, L_198_24, L_198_25, L_198_26, L_198_27, L_198_28, L_198_29, L_198_30, L_198_31, L_198_32, L_198_33, L_198_34, L_198_35, L_198_36, L_198_37, L_198_38, L_198_39, L_198_40, L_198_41, L_198_42, L_198_43, L_198_44, L_198_45, L_198_46, L_198_47, L_198_48, C_198, A_199, A_200, A_201, A_202, A_203, A_204, A_205, A_206, A_207, A_208, A_209, A_210, A_211, A_212, A_213, A_214, A_215, A_216, A_217, A_218, A_219, A_220, A_221, A_222, A_223, A_224, A_225, A_226, A_227, A_228, A_128, A_191, A_rf, A_rs, A_rt, Q_4, Q_67, Q_130, t_190_0_1, t_190_0_2, t_190_0_3, t_190_0_4, t_190_0_5, t_190_0_6, t_190_0_7, t_190_38_1, t_190_38_2, t_190_38_3, t_190_38_4, t_190_38_5, t_190_38_6, t_190_38_7, t_190_38_8, g0, cc, sz, wg, k4, k5, k6, u1, we, wm, ih]
theorem mk_fold (hw : MW B0) (hR : CR K N G B ro (tw B0) sh st pc cs ps) (hi : st[i]? = some a) {q : Nat × Int} (hq : q ∈ ps i) : (ps i).foldl (fun z q => min z (EF (tw B0) q)) (EF (tw B0) q) = mk (tw B0) i 0 := by
  have h8 := (h8_of hw hR).1
  have hP := (hR.sy hi).2
  have hpos : ∀ q ∈ ps i, 0 < q.2 := fun q hq => (hP.2.1 q hq).2.2
  have b1 := fold_b hw (ps i) (EF (tw B0) q) hpos (EF_b hw (hpos q hq))
  have b2' := mk_b hw (s := (i : Int)) (p := 0) (by omega)
  have key : ∀ g, g ≤ 2147483647 → (g ≤ (ps i).foldl (fun z q => min z (EF (tw B0) q)) (EF (tw B0) q) ↔ g ≤ mk (tw B0) i 0) := fun g hg => by
    rw [le_fold, mk_sh hR, ← hP.en h8 hg]
    constructor
    · exact fun h q' hq' => (le_EF (hpos q' hq')).mp (h.2 q' hq')
    · exact fun h => ⟨(le_EF (hpos q hq)).mpr (h q hq), fun q' hq' => (le_EF (hpos q' hq')).mpr (h q' hq')⟩
  exact Int.le_antisymm ((key _ (by omega)).mp (Int.le_refl _)) ((key _ b2'.2).mpr (Int.le_refl _))
theorem mk_99 (hw : MW B0) (hR : CR K N G B ro (tw B0) sh st pc cs ps) (hi : st[i]? = some a) (h0 : ps i ≠ []) : 0 ≤ mk (tw B0) i 0 ∧ mk (tw B0) i 0 ≤ 9999 := by
  obtain ⟨q, hq⟩ := List.exists_mem_of_ne_nil _ h0
  have hpos : ∀ q ∈ ps i, 0 < q.2 := fun q hq => ((hR.sy hi).2.2.1 q hq).2.2
  rw [← mk_fold hw hR hi hq]
  exact fold_b hw (ps i) (EF (tw B0) q) hpos (EF_b hw (hpos q hq))
theorem w_190 (hd : 4 ≤ d) (hw : MW B0) (hR : CR K N G B ro (tw B0) sh st pc cs ps) (hi : st[i]? = some a) (h0 : ps i ≠ []) : gCa K d 190 [.ref a] (hH K N G B) = some (.inl (some (.int (I (mk (tw B0) i 0)))), hH K N G B) := by
  obtain ⟨d, rfl, hd'⟩ := d_succ (show 3 + 1 ≤ d by omega)
  have h8 := (h8_of hw hR).1
  have hl := ps_len hR hi h8
  obtain ⟨p', mc, e, ca, h1, c1, c2, c3, c4⟩ := hR.part hi
  have g0 := gf_of h1 0
  simp only [List.getElem?_cons_zero] at g0
  have cc := cl_of c1
  have hpl := List.length_pos_iff.mpr h0
  have hk : (ps i)[0]? = some (ps i)[0] := List.getElem?_eq_getElem hpl
  have hmem : (ps i)[0] ∈ ps i := List.getElem_mem hpl
  generalize (ps i)[0] = q at hk hmem
  obtain ⟨c, b, k1, k2, k3⟩ := c4 _ _ hk
  obtain ⟨m1, m2, m3⟩ := (hR.sy hi).2.2.1 q hmem
  have bc := mw_count hw (8 * i + q.1)
  have m2' : B0.2.1 218 (8 * i + q.1) = q.2 := m2
  rw [m2'] at bc
  have wg := w_178 (K := K) (d := d) (by omega) c1 c2 (z := 0) (by omega) (x := c) (by rw [show (0 : Int).toNat = 0 from rfl]; exact k1) (by omega)
  have k4 := cl_of k3
  have k5 := gf_of k3 0
  have k6 := gf_of k3 1
  simp only [List.getElem?_cons_zero, List.getElem?_cons_succ] at k5 k6
  obtain ⟨⟨p'', mk, vr, u0, -⟩, -⟩ := hR.sp k2
  have u1 := cl_of u0
  have we := w_ef (d := d) (by omega) hw hR (q := q) k2 (by omega)
  have be := EF_b hw m3
  have := l_190 (d := d) (by omega) hw hR hi (ps i).length 0 (EF (tw B0) q) none be (by omega) (by omega)
  rw [show (0 : Int).toNat = 0 from rfl, List.drop_zero, mk_fold hw hR hi hmem] at this
  refine c_190 _ ?_
  unfold t_190_0
  simp (disch := omega) only [rI_d, rJ_d, rR_d, rN_d, wF_d, xI_d, xJ_d, xD_d, xQ_d, yI_d, yJ_d, yD_d, yQ_d, dI_s, dJ_s, dR_s, dN_s, dN_n, dH_s, dX_s, dL_s, dD_s, dQ_s, bC_r, bC_t, kI_s, kJ_s, kF_s, kD_s, kR_s, kV_s, I_lit, I_neg, I_add, I_sub, I_mul, I_ltT, I_ltF, I_leT, I_leF, I_eqT, I_eqF, c_int, c_long, c_obj, c_arr, c_bool, c_boolN, c_boolF, vn_bool, c_charN, vn_char, b2_f, b2_t, Int.toNat_natCast, ↓reduceIte, eq_self, and_self, and_true, true_and, not_false_eq_true, not_true_eq_false, L_0_0, L_0_1, L_0_2, L_0_3, L_0_4, L_0_5, L_0_6, L_0_7, L_0_8, L_0_9, L_0_10, L_0_11, L_0_12, L_0_13, L_0_14, L_0_15, C_0, L_1_0, L_1_1, L_1_2, C_1, L_2_0, L_2_1, L_2_2, C_2, L_3_0, L_3_1, L_3_2, C_3, L_65_0, L_65_1, L_65_2, L_65_3, L_65_4, C_65, L_66_0, L_66_1, L_66_2, L_66_3, C_66, L_129_0, L_129_1, L_129_2, L_129_3, C_129, L_198_0, L_198_1, L_198_2, L_198_3, L_198_4, L_198_5, L_198_6, L_198_7, L_198_8, L_198_9, L_198_10, L_198_11, L_198_12, L_198_13, L_198_14, L_198_15, L_198_16, L_198_17, L_198_18, L_198_19, L_198_20, L_198_21, L_198_22, L_198_23, L_198_24, L_198_25, L_198_26, L_198_27, L_198_28, L_198_29, L_198_30, L_198_31, L_198_32, L_198_33, L_198_34, L_198_35, L_198_36, L_198_37, L_198_38, L_198_39, L_198_40, L_198_41, L_198_42, L_198_43, L_198_44, L_198_45, L_198_46, L_198_47, L_198_48, C_198, A_199, A_200, A_201, A_202, A_203, A_204, A_205, A_206, A_207, A_208, A_209, A_210, A_211, A_212, A_213, A_214, A_215, A_216, A_217, A_218, A_219, A_220, A_221, A_222, A_223, A_224, A_225, A_226, A_227, A_228, A_128, A_191, A_rf, A_rs, A_rt, Q_4, Q_67, Q_130, t_190_0_1, t_190_0_2, t_190_0_3, t_190_0_4, t_190_0_5, t_190_0_6, t_190_0_7, t_190_38_1, t_190_38_2, t_190_38_3, t_190_38_4, t_190_38_5, t_190_38_6, t_190_38_7, t_190_38_8, g0, cc, wg, k4, k5, k6, u1, we]
  exact this
theorem w_136 (hd : 7 ≤ d) (hw : MW B) (hR : CR K N G B ro (tw B) sh st pc cs ps) {s : Int} (h1 : R32 s) : gCa K d 136 [.ref N, .int (I s)] (hH K N G B) =
    some (cif (k_canMake (tw B) s = 0) (.inl (some (.int (I (mk (tw B) s 0)))), hH K N G B) (.inr (exE (k_canMake (tw B) s)), hH K N (gjunk G 6) B)) := by
  obtain ⟨d, rfl, hd'⟩ := d_succ (show 6 + 1 ≤ d by omega)
  obtain ⟨q1, q2⟩ := w_189 (d := d) (by omega) hw hR h1
  refine c_136 _ ?_
  unfold t_136_0
  by_cases hk : k_canMake (tw B) s = 0
  · obtain ⟨a, ha, h0, w⟩ := q1 hk
    have w2 := w_190 (d := d) (by omega) hw hR ha h0
    have hs : ((s.toNat : Nat) : Int) = s := by
      have h : 0 ≤ s := Classical.byContradiction fun h => by
        have : k_canMake (tw B) s = 1 := by
          unfold k_canMake
          rw [cifT (fun h' => h h'.1)]
        omega
      omega
    rw [hs] at w2
    obtain ⟨p, mc, e', ca, h2, -⟩ := hR.part ha
    have v1 := cl_of h2
    rw [cifT hk]
    simp (disch := omega) only [rI_d, rJ_d, rR_d, rN_d, wF_d, xI_d, xJ_d, xD_d, xQ_d, yI_d, yJ_d, yD_d, yQ_d, dI_s, dJ_s, dR_s, dN_s, dN_n, dH_s, dX_s, dL_s, dD_s, dQ_s, bC_r, bC_t, kI_s, kJ_s, kF_s, kD_s, kR_s, kV_s, I_lit, I_neg, I_add, I_sub, I_mul, I_ltT, I_ltF, I_leT, I_leF, I_eqT, I_eqF, c_int, c_long, c_obj, c_arr, c_bool, c_boolN, c_boolF, vn_bool, c_charN, vn_char, b2_f, b2_t, Int.toNat_natCast, ↓reduceIte, eq_self, and_self, and_true, true_and, not_false_eq_true, not_true_eq_false, L_0_0, L_0_1, L_0_2, L_0_3, L_0_4, L_0_5, L_0_6, L_0_7, L_0_8, L_0_9, L_0_10, L_0_11, L_0_12, L_0_13, L_0_14, L_0_15, C_0, L_1_0, L_1_1, L_1_2, C_1, L_2_0, L_2_1, L_2_2, C_2, L_3_0, L_3_1, L_3_2, C_3, L_65_0, L_65_1, L_65_2, L_65_3, L_65_4, C_65, L_66_0, L_66_1, L_66_2, L_66_3, C_66, L_129_0, L_129_1, L_129_2, L_129_3, C_129, L_198_0, L_198_1, L_198_2, L_198_3, L_198_4, L_198_5, L_198_6, L_198_7, L_198_8, L_198_9, L_198_10, L_198_11, L_198_12, L_198_13, L_198_14, L_198_15, L_198_16, L_198_17, L_198_18, L_198_19, L_198_20, L_198_21, L_198_22, L_198_23, L_198_24, L_198_25, L_198_26, L_198_27, L_198_28, L_198_29, L_198_30, L_198_31, L_198_32, L_198_33, L_198_34, L_198_35, L_198_36, L_198_37, L_198_38, L_198_39, L_198_40, L_198_41, L_198_42, L_198_43, L_198_44, L_198_45, L_198_46, L_198_47, L_198_48, C_198, A_199, A_200, A_201, A_202, A_203, A_204, A_205, A_206, A_207, A_208, A_209, A_210, A_211, A_212, A_213, A_214, A_215, A_216, A_217, A_218, A_219, A_220, A_221, A_222, A_223, A_224, A_225, A_226, A_227, A_228, A_128, A_191, A_rf, A_rs, A_rt, Q_4, Q_67, Q_130, t_136_0_1, t_136_0_2, w, v1, w2]
  · have w := q2 hk
    rw [cifF hk]
    simp (disch := omega) only [rI_d, rJ_d, rR_d, rN_d, wF_d, xI_d, xJ_d, xD_d, xQ_d, yI_d, yJ_d, yD_d, yQ_d, dI_s, dJ_s, dR_s, dN_s, dN_n, dH_s, dX_s, dL_s, dD_s, dQ_s, bC_r, bC_t, kI_s, kJ_s, kF_s, kD_s, kR_s, kV_s, I_lit, I_neg, I_add, I_sub, I_mul, I_ltT, I_ltF, I_leT, I_leF, I_eqT, I_eqF, c_int, c_long, c_obj, c_arr, c_bool, c_boolN, c_boolF, vn_bool, c_charN, vn_char, b2_f, b2_t, Int.toNat_natCast, ↓reduceIte, eq_self, and_self, and_true, true_and, not_false_eq_true, not_true_eq_false, L_0_0, L_0_1, L_0_2, L_0_3, L_0_4, L_0_5, L_0_6, L_0_7, L_0_8, L_0_9, L_0_10, L_0_11, L_0_12, L_0_13, L_0_14, L_0_15, C_0, L_1_0, L_1_1, L_1_2, C_1, L_2_0, L_2_1, L_2_2, C_2, L_3_0, L_3_1, L_3_2, C_3, L_65_0, L_65_1, L_65_2, L_65_3, L_65_4, C_65, L_66_0, L_66_1, L_66_2, L_66_3, C_66, L_129_0, L_129_1, L_129_2, L_129_3, C_129, L_198_0, L_198_1, L_198_2, L_198_3, L_198_4, L_198_5, L_198_6, L_198_7, L_198_8, L_198_9, L_198_10, L_198_11, L_198_12, L_198_13, L_198_14, L_198_15, L_198_16, L_198_17, L_198_18, L_198_19, L_198_20, L_198_21, L_198_22, L_198_23, L_198_24, L_198_25, L_198_26, L_198_27, L_198_28, L_198_29, L_198_30, L_198_31, L_198_32, L_198_33, L_198_34, L_198_35, L_198_36, L_198_37, L_198_38, L_198_39, L_198_40, L_198_41, L_198_42, L_198_43, L_198_44, L_198_45, L_198_46, L_198_47, L_198_48, C_198, A_199, A_200, A_201, A_202, A_203, A_204, A_205, A_206, A_207, A_208, A_209, A_210, A_211, A_212, A_213, A_214, A_215, A_216, A_217, A_218, A_219, A_220, A_221, A_222, A_223, A_224, A_225, A_226, A_227, A_228, A_128, A_191, A_rf, A_rs, A_rt, Q_4, Q_67, Q_130, t_136_0_1, t_136_0_2, w]
theorem l_138 (hd : 5 ≤ d) (hw : MW B) (hR : CR K N G B ro (tw B) sh st pc cs ps) (hi : st[i]? = some a) (h0 : ps i ≠ []) {s : Int} : ∀ (n : Nat) (z : Int), 0 ≤ z → z + n = mk (tw B) i 0 → gRn K d 138 8 [some (.ref N), some (.int (I s)), some (.ref a), some (.int (I z))] [] (hH K N G B) = some (.inl (some (.int (I (mk (tw B) i 0)))), hH K N G B) := by
  have b := mk_99 hw hR hi h0
  intro n
  induction n with
  | zero =>
    intro z hz hn
    have w := w_191 (d := d) (by omega) hw hR hi (g := z + 1) (p := 0) (by omega) (by omega)
    rw [b2F (by omega)] at w
    rw [show mk (tw B) i 0 = z by omega]
    refine e_138_8 _ ?_
    unfold t_138_8
    simp (disch := omega) only [rI_d, rJ_d, rR_d, rN_d, wF_d, xI_d, xJ_d, xD_d, xQ_d, yI_d, yJ_d, yD_d, yQ_d, dI_s, dJ_s, dR_s, dN_s, dN_n, dH_s, dX_s, dL_s, dD_s, dQ_s, bC_r, bC_t, kI_s, kJ_s, kF_s, kD_s, kR_s, kV_s, I_lit, I_neg, I_add, I_sub, I_mul, I_ltT, I_ltF, I_leT, I_leF, I_eqT, I_eqF, c_int, c_long, c_obj, c_arr, c_bool, c_boolN, c_boolF, vn_bool, c_charN, vn_char, b2_f, b2_t, Int.toNat_natCast, ↓reduceIte, eq_self, and_self, and_true, true_and, not_false_eq_true, not_true_eq_false, L_0_0, L_0_1, L_0_2, L_0_3, L_0_4, L_0_5, L_0_6, L_0_7, L_0_8, L_0_9, L_0_10, L_0_11, L_0_12, L_0_13, L_0_14, L_0_15, C_0, L_1_0, L_1_1, L_1_2, C_1, L_2_0, L_2_1, L_2_2, C_2, L_3_0, L_3_1, L_3_2, C_3, L_65_0, L_65_1, L_65_2, L_65_3, L_65_4, C_65, L_66_0, L_66_1, L_66_2, L_66_3, C_66, L_129_0, L_129_1, L_129_2, L_129_3, C_129, L_198_0, L_198_1, L_198_2, L_198_3, L_198_4, L_198_5, L_198_6, L_198_7, L_198_8, L_198_9, L_198_10, L_198_11, L_198_12, L_198_13, L_198_14, L_198_15, L_198_16, L_198_17, L_198_18, L_198_19, L_198_20, L_198_21, L_198_22, L_198_23, L_198_24, L_198_25, L_198_26, L_198_27, L_198_28, L_198_29, L_198_30, L_198_31, L_198_32, L_198_33, L_198_34, L_198_35, L_198_36, L_198_37, L_198_38, L_198_39, L_198_40, L_198_41, L_198_42, L_198_43, L_198_44, L_198_45, L_198_46, L_198_47, L_198_48, C_198, A_199, A_200, A_201, A_202, A_203, A_204, A_205, A_206, A_207, A_208, A_209, A_210, A_211, A_212, A_213, A_214, A_215, A_216, A_217, A_218, A_219, A_220, A_221, A_222, A_223, A_224, A_225, A_226, A_227, A_228, A_128, A_191, A_rf, A_rs, A_rt, Q_4, Q_67, Q_130, t_138_0_1, t_138_8_1, w]
  | succ n ih =>
    intro z hz hn
    have w := w_191 (d := d) (by omega) hw hR hi (g := z + 1) (p := 0) (by omega) (by omega)
    rw [b2T (by omega)] at w
    have ih := ih (z + 1) (by omega) (by omega)
    refine e_138_8 _ ?_
    unfold t_138_8
    simp (disch := omega) only [rI_d, rJ_d, rR_d, rN_d, wF_d, xI_d, xJ_d, xD_d, xQ_d, yI_d, yJ_d, yD_d, yQ_d, dI_s, dJ_s, dR_s, dN_s, dN_n, dH_s, dX_s, dL_s, dD_s, dQ_s, bC_r, bC_t, kI_s, kJ_s, kF_s, kD_s, kR_s, kV_s, I_lit, I_neg, I_add, I_sub, I_mul, I_ltT, I_ltF, I_leT, I_leF, I_eqT, I_eqF, c_int, c_long, c_obj, c_arr, c_bool, c_boolN, c_boolF, vn_bool, c_charN, vn_char, b2_f, b2_t, Int.toNat_natCast, ↓reduceIte, eq_self, and_self, and_true, true_and, not_false_eq_true, not_true_eq_false, L_0_0, L_0_1, L_0_2, L_0_3, L_0_4, L_0_5, L_0_6, L_0_7, L_0_8, L_0_9, L_0_10, L_0_11, L_0_12, L_0_13, L_0_14, L_0_15, C_0, L_1_0, L_1_1, L_1_2, C_1, L_2_0, L_2_1, L_2_2, C_2, L_3_0, L_3_1, L_3_2, C_3, L_65_0, L_65_1, L_65_2, L_65_3, L_65_4, C_65, L_66_0, L_66_1, L_66_2, L_66_3, C_66, L_129_0, L_129_1, L_129_2, L_129_3, C_129, L_198_0, L_198_1, L_198_2, L_198_3, L_198_4, L_198_5, L_198_6, L_198_7, L_198_8, L_198_9, L_198_10, L_198_11, L_198_12, L_198_13, L_198_14, L_198_15, L_198_16, L_198_17, L_198_18, L_198_19, L_198_20, L_198_21, L_198_22, L_198_23, L_198_24, L_198_25, L_198_26, L_198_27, L_198_28, L_198_29, L_198_30, L_198_31, L_198_32, L_198_33, L_198_34, L_198_35, L_198_36, L_198_37, L_198_38, L_198_39, L_198_40, L_198_41, L_198_42, L_198_43, L_198_44, L_198_45, L_198_46, L_198_47, L_198_48, C_198, A_199, A_200, A_201, A_202, A_203, A_204, A_205, A_206, A_207, A_208, A_209, A_210, A_211, A_212, A_213, A_214, A_215, A_216, A_217, A_218, A_219, A_220, A_221, A_222, A_223, A_224, A_225, A_226, A_227, A_228, A_128, A_191, A_rf, A_rs, A_rt, Q_4, Q_67, Q_130, t_138_0_1, t_138_8_1, w, ih]
theorem w_138 (hd : 7 ≤ d) (hw : MW B) (hR : CR K N G B ro (tw B) sh st pc cs ps) {s : Int} (h1 : R32 s) : gCa K d 138 [.ref N, .int (I s)] (hH K N G B) =
    some (cif (k_canMake (tw B) s = 0) (.inl (some (.int (I (mk (tw B) s 0)))), hH K N G B) (.inr (exE (k_canMake (tw B) s)), hH K N (gjunk G 6) B)) := by
  obtain ⟨d, rfl, hd'⟩ := d_succ (show 6 + 1 ≤ d by omega)
  obtain ⟨q1, q2⟩ := w_189 (d := d) (by omega) hw hR h1
  refine c_138 _ ?_
  unfold t_138_0
  by_cases hk : k_canMake (tw B) s = 0
  · obtain ⟨a, ha, h0, w⟩ := q1 hk
    have hs : ((s.toNat : Nat) : Int) = s := by
      have h : 0 ≤ s := Classical.byContradiction fun h => by
        have : k_canMake (tw B) s = 1 := by
          unfold k_canMake
          rw [cifT (fun h' => h h'.1)]
        omega
      omega
    have b := mk_99 hw hR ha h0
    have w2 := l_138 (d := d) (by omega) hw hR ha h0 (s := s) (mk (tw B) (s.toNat : Int) 0).toNat 0 (by omega) (by omega)
    rw [hs] at w2
    rw [cifT hk]
    simp (disch := omega) only [rI_d, rJ_d, rR_d, rN_d, wF_d, xI_d, xJ_d, xD_d, xQ_d, yI_d, yJ_d, yD_d, yQ_d, dI_s, dJ_s, dR_s, dN_s, dN_n, dH_s, dX_s, dL_s, dD_s, dQ_s, bC_r, bC_t, kI_s, kJ_s, kF_s, kD_s, kR_s, kV_s, I_lit, I_neg, I_add, I_sub, I_mul, I_ltT, I_ltF, I_leT, I_leF, I_eqT, I_eqF, c_int, c_long, c_obj, c_arr, c_bool, c_boolN, c_boolF, vn_bool, c_charN, vn_char, b2_f, b2_t, Int.toNat_natCast, ↓reduceIte, eq_self, and_self, and_true, true_and, not_false_eq_true, not_true_eq_false, L_0_0, L_0_1, L_0_2, L_0_3, L_0_4, L_0_5, L_0_6, L_0_7, L_0_8, L_0_9, L_0_10, L_0_11, L_0_12, L_0_13, L_0_14, L_0_15, C_0, L_1_0, L_1_1, L_1_2, C_1, L_2_0, L_2_1, L_2_2, C_2, L_3_0, L_3_1, L_3_2, C_3, L_65_0, L_65_1, L_65_2, L_65_3, L_65_4, C_65, L_66_0, L_66_1, L_66_2, L_66_3, C_66, L_129_0, L_129_1, L_129_2, L_129_3, C_129, L_198_0, L_198_1, L_198_2, L_198_3, L_198_4, L_198_5, L_198_6, L_198_7, L_198_8, L_198_9, L_198_10, L_198_11, L_198_12, L_198_13, L_198_14, L_198_15, L_198_16, L_198_17, L_198_18, L_198_19, L_198_20, L_198_21, L_198_22, L_198_23, L_198_24, L_198_25, L_198_26, L_198_27, L_198_28, L_198_29, L_198_30, L_198_31, L_198_32, L_198_33, L_198_34, L_198_35, L_198_36, L_198_37, L_198_38, L_198_39, L_198_40, L_198_41, L_198_42, L_198_43, L_198_44, L_198_45, L_198_46, L_198_47, L_198_48, C_198, A_199, A_200, A_201, A_202, A_203, A_204, A_205, A_206, A_207, A_208, A_209, A_210, A_211, A_212, A_213, A_214, A_215, A_216, A_217, A_218, A_219, A_220, A_221, A_222, A_223, A_224, A_225, A_226, A_227, A_228, A_128, A_191, A_rf, A_rs, A_rt, Q_4, Q_67, Q_130, t_138_0_1, t_138_8_1, w]
    exact w2
  · have w := q2 hk
    rw [cifF hk]
    simp (disch := omega) only [rI_d, rJ_d, rR_d, rN_d, wF_d, xI_d, xJ_d, xD_d, xQ_d, yI_d, yJ_d, yD_d, yQ_d, dI_s, dJ_s, dR_s, dN_s, dN_n, dH_s, dX_s, dL_s, dD_s, dQ_s, bC_r, bC_t, kI_s, kJ_s, kF_s, kD_s, kR_s, kV_s, I_lit, I_neg, I_add, I_sub, I_mul, I_ltT, I_ltF, I_leT, I_leF, I_eqT, I_eqF, c_int, c_long, c_obj, c_arr, c_bool, c_boolN, c_boolF, vn_bool, c_charN, vn_char, b2_f, b2_t, Int.toNat_natCast, ↓reduceIte, eq_self, and_self, and_true, true_and, not_false_eq_true, not_true_eq_false, L_0_0, L_0_1, L_0_2, L_0_3, L_0_4, L_0_5, L_0_6, L_0_7, L_0_8, L_0_9, L_0_10, L_0_11, L_0_12, L_0_13, L_0_14, L_0_15, C_0, L_1_0, L_1_1, L_1_2, C_1, L_2_0, L_2_1, L_2_2, C_2, L_3_0, L_3_1, L_3_2, C_3, L_65_0, L_65_1, L_65_2, L_65_3, L_65_4, C_65, L_66_0, L_66_1, L_66_2, L_66_3, C_66, L_129_0, L_129_1, L_129_2, L_129_3, C_129, L_198_0, L_198_1, L_198_2, L_198_3, L_198_4, L_198_5, L_198_6, L_198_7, L_198_8, L_198_9, L_198_10, L_198_11, L_198_12, L_198_13, L_198_14, L_198_15, L_198_16, L_198_17, L_198_18, L_198_19, L_198_20, L_198_21, L_198_22, L_198_23, L_198_24, L_198_25, L_198_26, L_198_27, L_198_28, L_198_29, L_198_30, L_198_31, L_198_32, L_198_33, L_198_34, L_198_35, L_198_36, L_198_37, L_198_38, L_198_39, L_198_40, L_198_41, L_198_42, L_198_43, L_198_44, L_198_45, L_198_46, L_198_47, L_198_48, C_198, A_199, A_200, A_201, A_202, A_203, A_204, A_205, A_206, A_207, A_208, A_209, A_210, A_211, A_212, A_213, A_214, A_215, A_216, A_217, A_218, A_219, A_220, A_221, A_222, A_223, A_224, A_225, A_226, A_227, A_228, A_128, A_191, A_rf, A_rs, A_rt, Q_4, Q_67, Q_130, t_138_0_1, t_138_8_1, w]
end
