/-! PURE 100: the orders are tried -/
set_option maxRecDepth 100000
section
variable {K : gK} {d N : Nat} {G G' G1 : gH} {B B' B0 B1 : gB} {M : gM} {ro : Nat → Nat} {sh st pc : List Nat} {cs : Nat → List Nat} {ps : Nat → List (Nat × Int)} {o l oa n m sl : Nat} {gv lv : Int} {f : Nat → Int}
theorem l_242 (ho : N + 231 ≤ o) (hoa : N + 231 ≤ oa) (hO : ORD G N o l oa gv lv n f) (hn : n ≤ 4) {k z : Nat} (hk : k ≤ n) (hz : z < 4) (hf : ∀ j, j < k → 0 ≤ f j ∧ f j < 4) : ∀ (c y : Nat), y + c = k → gRn K d 242 2 [some (.ref o), some (.int (I (z : Int))), some (.int (I (k : Int))), some (.int (I (y : Int)))] [] (hH K N G B) = some (.inl (some (.int (I (b2 (∃ j : Nat, y ≤ j ∧ j < k ∧ f j = (z : Int)))))), hH K N G B) := by
  obtain ⟨oc, r0, r1, r2, r3, r4⟩ := hO.rd (K := K) (B := B) ho
  intro c
  induction c with
  | zero =>
    intro y hy
    rw [b2F (by rintro ⟨j, h1, h2, -⟩; omega)]
    refine e_242_2 _ ?_
    unfold t_242_2
    simp (disch := omega) only [rI_d, rJ_d, rR_d, rN_d, wF_d, xI_d, xJ_d, xD_d, xQ_d, yI_d, yJ_d, yD_d, yQ_d, dI_s, dJ_s, dR_s, dN_s, dN_n, dH_s, dX_s, dL_s, dD_s, dQ_s, bC_r, bC_t, kI_s, kJ_s, kF_s, kD_s, kR_s, kV_s, I_lit, I_neg, I_add, I_sub, I_mul, I_ltT, I_ltF, I_leT, I_leF, I_eqT, I_eqF, c_int, c_long, c_obj, c_arr, c_bool, c_boolN, c_boolF, vn_bool, c_charN, vn_char, b2_f, b2_t, Int.toNat_natCast, ↓reduceIte, eq_self, and_self, and_true, true_and, not_false_eq_true, not_true_eq_false, L_0_0, L_0_1, L_0_2, L_0_3, L_0_4, L_0_5, L_0_6, L_0_7, L_0_8, L_0_9, L_0_10, L_0_11, L_0_12, L_0_13, L_0_14, L_0_15, C_0, L_1_0, L_1_1, L_1_2, C_1, L_2_0, L_2_1, L_2_2, C_2, L_3_0, L_3_1, L_3_2, C_3, L_65_0, L_65_1, L_65_2, L_65_3, L_65_4, C_65, L_66_0, L_66_1, L_66_2, L_66_3, C_66, L_129_0, L_129_1, L_129_2, L_129_3, C_129, L_198_0, L_198_1, L_198_2, L_198_3, L_198_4, L_198_5, L_198_6, L_198_7, L_198_8, L_198_9, L_198_10, L_198_11, L_198_12, L_198_13, L_198_14, L_198_15, L_198_16, L_198_17, L_198_18, L_198_19, L_198_20, L_198_21, L_198_22, L_198_23, L_198_24, L_198_25, L_198_26, L_198_27, L_198_28, L_198_29, L_198_30, L_198_31, L_198_32, L_198_33, L_198_34, L_198_35, L_198_36, L_198_37, L_198_38, L_198_39, L_198_40, L_198_41, L_198_42, L_198_43, L_198_44, L_198_45, L_198_46, L_198_47, L_198_48, C_198, A_199, A_200, A_201, A_202, A_203, A_204, A_205, A_206, A_207, A_208, A_209, A_210, A_211, A_212, A_213, A_214, A_215, A_216, A_217, A_218, A_219, A_220, A_221, A_222, A_223, A_224, A_225, A_226, A_227, A_228, A_128, A_191, A_rf, A_rs, A_rt, Q_4, Q_67, Q_130, t_242_2_1, t_242_2_2]
  | succ c ih =>
    intro y hy
    have ar := hO.ar (K := K) (B := B) hoa (by omega) (z := (y : Int)) (by omega)
    rw [Int.toNat_natCast] at ar
    have ih := ih (y + 1) (by omega)
    rw [show ((y + 1 : Nat) : Int) = (y : Int) + 1 by omega] at ih
    have bf := hf y (by omega)
    refine e_242_2 _ ?_
    unfold t_242_2
    by_cases e : f y = (z : Int)
    · rw [b2T ⟨y, Nat.le_refl _, by omega, e⟩]
      simp (disch := omega) only [rI_d, rJ_d, rR_d, rN_d, wF_d, xI_d, xJ_d, xD_d, xQ_d, yI_d, yJ_d, yD_d, yQ_d, dI_s, dJ_s, dR_s, dN_s, dN_n, dH_s, dX_s, dL_s, dD_s, dQ_s, bC_r, bC_t, kI_s, kJ_s, kF_s, kD_s, kR_s, kV_s, I_lit, I_neg, I_add, I_sub, I_mul, I_ltT, I_ltF, I_leT, I_leF, I_eqT, I_eqF, c_int, c_long, c_obj, c_arr, c_bool, c_boolN, c_boolF, vn_bool, c_charN, vn_char, b2_f, b2_t, Int.toNat_natCast, ↓reduceIte, eq_self, and_self, and_true, true_and, not_false_eq_true, not_true_eq_false, L_0_0, L_0_1, L_0_2, L_0_3, L_0_4, L_0_5, L_0_6, L_0_7, L_0_8, L_0_9, L_0_10, L_0_11, L_0_12, L_0_13, L_0_14, L_0_15, C_0, L_1_0, L_1_1, L_1_2, C_1, L_2_0, L_2_1, L_2_2, C_2, L_3_0, L_3_1, L_3_2, C_3, L_65_0, L_65_1, L_65_2, L_65_3, L_65_4, C_65, L_66_0, L_66_1, L_66_2, L_66_3, C_66, L_129_0, L_129_1, L_129_2, L_129_3, C_129, L_198_0, L_198_1, L_198_2, L_198_3, L_198_4, L_198_5, L_198_6, L_198_7, L_198_8, L_198_9, L_198_10, L_198_11, L_198_12, L_198_13, L_198_14, L_198_15, L_198_16, L_198_17, L_198_18, L_198_19, L_198_20, L_198_21, L_198_22, L_198_23, L_198_24, L_198_25, L_198_26, L_198_27, L_198_28, L_198_29, L_198_30, L_198_31, L_198_32, L_198_33, L_198_34, L_198_35, L_198_36, L_198_37, L_198_38, L_198_39, L_198_40, L_198_41, L_198_42, L_198_43, L_198_44, L_198_45, L_198_46, L_198_47, L_198_48, C_198, A_199, A_200, A_201, A_202, A_203, A_204, A_205, A_206, A_207, A_208, A_209, A_210, A_211, A_212, A_213, A_214, A_215, A_216, A_217, A_218, A_219, A_220, A_221, A_222, A_223, A_224, A_225, A_226, A_227, A_228, A_128, A_191, A_rf, A_rs, A_rt, Q_4, Q_67, Q_130, t_242_2_1, t_242_2_2, r2, ar]
    · rw [b2_of (q := ∃ j : Nat, y + 1 ≤ j ∧ j < k ∧ f j = (z : Int)) ⟨fun ⟨j, h1, h2, h3⟩ => ⟨j, by
        by_cases q : j = y
        · rw [q] at h3; exact absurd h3 e
        · omega, h2, h3⟩, fun ⟨j, h1, h2, h3⟩ => ⟨j, by omega, h2, h3⟩⟩]
      simp (disch := omega) only [rI_d, rJ_d, rR_d, rN_d, wF_d, xI_d, xJ_d, xD_d, xQ_d, yI_d, yJ_d, yD_d, yQ_d, dI_s, dJ_s, dR_s, dN_s, dN_n, dH_s, dX_s, dL_s, dD_s, dQ_s, bC_r, bC_t, kI_s, kJ_s, kF_s, kD_s, kR_s, kV_s, I_lit, I_neg, I_add, I_sub, I_mul, I_ltT, I_ltF, I_leT, I_leF, I_eqT, I_eqF, c_int, c_long, c_obj, c_arr, c_bool, c_boolN, c_boolF, vn_bool, c_charN, vn_char, b2_f, b2_t, Int.toNat_natCast, ↓reduceIte, eq_self, and_self, and_true, true_and, not_false_eq_true, not_true_eq_false, L_0_0, L_0_1, L_0_2, L_0_3, L_0_4, L_0_5, L_0_6, L_0_7, L_0_8, L_0_9, L_0_10, L_0_11, L_0_12, L_0_13, L_0_14, L_0_15, C_0, L_1_0, L_1_1, L_1_2, C_1, L_2_0, L_2_1, L_2_2, C_2, L_3_0, L_3_1, L_3_2, C_3, L_65_0, L_65_1, L_65_2, L_65_3, L_65_4, C_65, L_66_0, L_66_1, L_66_2, L_66_3, C_66, L_129_0, L_129_1, L_129_2, L_129_3, C_129, L_198_0, L_198_1, L_198_2, L_198_3, L_198_4, L_198_5, L_198_6, L_198_7, L_198_8, L_198_9, L_198_10, L_198_11, L_198_12, L_198_13, L_198_14, L_198_15, L_198_16, L_198_17, L_198_18, L_198_19, L_198_20, L_198_21, L_198_22, L_198_23, L_198_24, L_198_25, L_198_26, L_198_27, L_198_28, L_198_29, L_198_30, L_198_31, L_198_32, L_198_33, L_198_34, L_198_35, L_198_36, L_198_37, L_198_38, L_198_39, L_198_40, L_198_41, L_198_42, L_198_43, L_198_44, L_198_45, L_198_46, L_198_47, L_198_48, C_198, A_199, A_200, A_201, A_202, A_203, A_204, A_205, A_206, A_207, A_208, A_209, A_210, A_211, A_212, A_213, A_214, A_215, A_216, A_217, A_218, A_219, A_220, A_221, A_222, A_223, A_224, A_225, A_226, A_227, A_228, A_128, A_191, A_rf, A_rs, A_rt, Q_4, Q_67, Q_130, t_242_2_1, t_242_2_2, r2, ar, ih]
theorem w_242 (hd : 1 ≤ d) (ho : N + 231 ≤ o) (hoa : N + 231 ≤ oa) (hO : ORD G N o l oa gv lv n f) (hn : n ≤ 4) {z : Nat} (hz : z < 4) {P : List Nat} (hk : P.length ≤ n) (hP : ∀ x ∈ P, x < 4) (hf : ∀ (j x : Nat), P[j]? = some x → f j = (x : Int)) : gCa K d 242 [.ref o, .int (I (z : Int)), .int (I (P.length : Int))] (hH K N G B) = some (.inl (some (.int (I (b2 (z ∈ P))))), hH K N G B) := by
  obtain ⟨d, rfl, hd'⟩ := d_succ (show 0 + 1 ≤ d by omega)
  have hat : ∀ j, j < P.length → ∃ x : Nat, P[j]? = some x ∧ f j = (x : Int) ∧ x < 4 := fun j hj => by
    obtain ⟨x, hx⟩ := at_lt hj
    exact ⟨x, hx, hf j x hx, hP x (List.mem_iff_getElem?.mpr ⟨j, hx⟩)⟩
  have := l_242 (K := K) (d := d) (B := B) ho hoa hO hn hk hz (fun j hj => by
    obtain ⟨x, -, h2, h3⟩ := hat j hj
    omega) P.length 0 (by omega)
  rw [b2_of (q := z ∈ P) ⟨fun ⟨j, _, h2, h3⟩ => by
    obtain ⟨x, h4, h5, -⟩ := hat j h2
    rw [show z = x by omega]
    exact List.mem_iff_getElem?.mpr ⟨j, h4⟩, fun h => by
    obtain ⟨j, hj⟩ := List.mem_iff_getElem?.mp h
    exact ⟨j, by omega, (List.getElem?_eq_some_iff.mp hj).1, hf j z hj⟩⟩] at this
  refine c_242 _ ?_
  unfold t_242_0
  simp only [I_lit, I_neg, I_add, I_sub, I_mul, I_ltT, I_ltF, I_leT, I_leF, I_eqT, I_eqF, c_int, c_long, c_obj, c_arr, c_bool, c_boolN, c_boolF, vn_bool, c_charN, vn_char, b2_f, b2_t]
  exact this
/-- the state of a search -/
def TS (N : Nat) (G1 : gH) (B1 : gB) (o l oa : Nat) (gv : Int) (n m sl : Nat) (G : gH) (B : gB) (lv : Int) (f : Nat → Int) : Prop := FR noW m sl G1 G ∧ TL B1 B ∧ ORD G N o l oa gv lv n f ∧ 0 ≤ lv ∧ lv ≤ 61
/-- tryFrom, with the order P begun -/
def TF (K : gK) (N : Nat) (G1 : gH) (B1 : gB) (o l oa : Nat) (gv : Int) (n m sl : Nat) (M : gM) (L : List Int) (d : Nat) (P : List Nat) : Prop := ∀ (G : gH) (B : gB) (lv : Int) (f : Nat → Int), (∀ (j x : Nat), P[j]? = some x → f j = (x : Int)) → TS N G1 B1 o l oa gv n m sl G B lv f →
  ∃ G' B' lv' f', gCa K d 222 [.ref o, .int (I (P.length : Int))] (hH K N G B) = some (.inl none, hH K N G' B') ∧ TS N G1 B1 o l oa gv n m sl G' B' lv' f' ∧ (∀ j, j < P.length → f' j = f j) ∧ BC M L (SP n P) lv lv'
theorem FR.set2 (hf : FR noW m sl G1 G) {x : Nat} {e e' : gE} (hx : G.1 x = some e') (hx1 : G1.2.1 ≤ x) : FR noW m sl G1 (gset G x e) := FR.trn hf (FR.set hf.hb hx) (fun q hq _ => by rw [hq]; exact hx1)
theorem ORD.put (hC : N + 231 ≤ oa) (hO : ORD G N o l oa gv lv n f) (hoo : o ≠ oa) {k : Nat} {z : Int} (hk : k < n) (hn : n ≤ 4) : g_is (hH K N G B) oa 0 (I (k : Int)) (I z) = some (hH K N (gset G oa (.inl (0, n, .inl (fun j => I (if j = k then z else f j))))) B) ∧ ORD (gset G oa (.inl (0, n, .inl (fun j => I (if j = k then z else f j))))) N o l oa gv lv n (fun j => if j = k then z else f j) := by
  refine ⟨?_, (gs_ne hoo).trans hO.1, gs_eq⟩
  rw [is_of ((hH_dyn hC).trans hO.2) (by omega) (by omega), gset_dyn hC, Int.toNat_natCast]
  have : upd (fun j => I (f j)) k (I z) = fun j => I (if j = k then z else f j) := funext fun j => by
    unfold upd
    by_cases e : j = k
    · rw [if_pos e, if_pos e]
    · rw [if_neg e, if_neg e]
  rw [this]
theorem ORD.lst (ho : N + 231 ≤ o) (hO : ORD G N o l oa gv lv n f) (hoo : o ≠ oa) {v : Int} : g_pf (hH K N G B) o 11 3 (.int (I v)) = some (hH K N (gset G o (.inr (11, [.ref l, .int (I gv), .ref oa, .int (I v), .ref N]))) B) ∧ ORD (gset G o (.inr (11, [.ref l, .int (I gv), .ref oa, .int (I v), .ref N]))) N o l oa gv v n f := by
  refine ⟨?_, gs_eq, (gs_ne (fun e => hoo e.symm)).trans hO.2⟩
  rw [pf_of ((hH_dyn ho).trans hO.1) (Nat.le_of_ble_eq_true rfl), gset_dyn ho]
  rfl
theorem ORD.ne (hO : ORD G N o l oa gv lv n f) : o ≠ oa := fun e => by
  have h1 := hO.1
  rw [e] at h1
  cases h1.symm.trans hO.2
theorem ORD.al (hoa : N + 231 ≤ oa) (hO : ORD G N o l oa gv lv n f) {g : Int32 → Option gO} : xL K (hH K N G B) oa g = g (I (n : Int)) := by
  unfold xL
  rw [(hH_dyn hoa).trans hO.2]
  show g (Int32.ofNat n) = _
  rw [I_nat]
variable {L : List Int} {base : Nat}
theorem l_222 (hd : 11 ≤ d) (hw : MW B0) (hru : RU (tw B0)) (hR1 : CR K N G1 B1 ro (tw B0) sh st pc cs ps) (hb : N + 231 ≤ base) (hS : SLI K G1 base sh l L) (hL : L.length = n) (hn : n ≤ 4) (ho : G1.2.1 ≤ o) (hoa : G1.2.1 ≤ oa) (hgv : 0 ≤ gv ∧ gv ≤ 1) {P : List Nat} (hPX : PX n P) (hPl : P.length < n) (ihT : ∀ z, z < n → z ∉ P → TF K N G1 B1 o l oa gv n m sl (tw B0) L d (P ++ [z])) {lv0 : Int} : ∀ (c z : Nat) (G : gH) (B : gB) (lv : Int) (f : Nat → Int), z + c = n → (∀ (j x : Nat), P[j]? = some x → f j = (x : Int)) → TS N G1 B1 o l oa gv n m sl G B lv f → BC (tw B0) L (SZ n P z) lv0 lv →
    ∃ G' B' lv' f', gRn K d 222 28 [some (.ref o), some (.int (I (P.length : Int))), some (.int (I (z : Int)))] [] (hH K N G B) = some (.inl none, hH K N G' B') ∧ TS N G1 B1 o l oa gv n m sl G' B' lv' f' ∧ (∀ j, j < P.length → f' j = f j) ∧ BC (tw B0) L (SP n P) lv0 lv' := by
  have hN := hR1.1.2.2.1
  have ho' : N + 231 ≤ o := by omega
  have hoa' : N + 231 ≤ oa := by omega
  intro c
  induction c with
  | zero =>
    intro z G B lv f hz hf hT hB
    obtain rfl : z = n := by omega
    obtain ⟨t1, t2, hO, t3⟩ := hT
    obtain ⟨oc, r0, r1, r2, r3, r4⟩ := hO.rd (K := K) (B := B) ho'
    have al := fun g => hO.al (K := K) (B := B) hoa' (g := g)
    refine ⟨G, B, lv, f, e_222_28 _ ?_, ⟨t1, t2, hO, t3⟩, fun _ _ => rfl, hB.of (fun u => SZ_n hPl)⟩
    unfold t_222_28
    simp (disch := omega) only [rI_d, rJ_d, rR_d, rN_d, wF_d, xI_d, xJ_d, xD_d, xQ_d, yI_d, yJ_d, yD_d, yQ_d, dI_s, dJ_s, dR_s, dN_s, dN_n, dH_s, dX_s, dL_s, dD_s, dQ_s, bC_r, bC_t, kI_s, kJ_s, kF_s, kD_s, kR_s, kV_s, I_lit, I_neg, I_add, I_sub, I_mul, I_ltT, I_ltF, I_leT, I_leF, I_eqT, I_eqF, c_int, c_long, c_obj, c_arr, c_bool, c_boolN, c_boolF, vn_bool, c_charN, vn_char, b2_f, b2_t, Int.toNat_natCast, ↓reduceIte, eq_self, and_self, and_true, true_and, not_false_eq_true, not_true_eq_false, L_0_0, L_0_1, L_0_2, L_0_3, L_0_4, L_0_5, L_0_6, L_0_7, L_0_8, L_0_9, L_0_10, L_0_11, L_0_12, L_0_13, L_0_14, L_0_15, C_0, L_1_0, L_1_1, L_1_2, C_1, L_2_0, L_2_1, L_2_2, C_2, L_3_0, L_3_1, L_3_2, C_3, L_65_0, L_65_1, L_65_2, L_65_3, L_65_4, C_65, L_66_0, L_66_1, L_66_2, L_66_3, C_66, L_129_0, L_129_1, L_129_2, L_129_3, C_129, L_198_0, L_198_1, L_198_2, L_198_3, L_198_4, L_198_5, L_198_6, L_198_7, L_198_8, L_198_9, L_198_10, L_198_11, L_198_12, L_198_13, L_198_14, L_198_15, L_198_16, L_198_17, L_198_18, L_198_19, L_198_20, L_198_21, L_198_22, L_198_23, L_198_24, L_198_25, L_198_26, L_198_27, L_198_28, L_198_29, L_198_30, L_198_31, L_198_32, L_198_33, L_198_34, L_198_35, L_198_36, L_198_37, L_198_38, L_198_39, L_198_40, L_198_41, L_198_42, L_198_43, L_198_44, L_198_45, L_198_46, L_198_47, L_198_48, C_198, A_199, A_200, A_201, A_202, A_203, A_204, A_205, A_206, A_207, A_208, A_209, A_210, A_211, A_212, A_213, A_214, A_215, A_216, A_217, A_218, A_219, A_220, A_221, A_222, A_223, A_224, A_225, A_226, A_227, A_228, A_128, A_191, A_rf, A_rs, A_rt, Q_4, Q_67, Q_130, t_222_0_1, t_222_0_2, t_222_0_3, t_222_0_4, t_222_0_5, t_222_0_6, t_222_28_1, t_222_28_2, t_222_28_3, t_222_28_4, t_222_28_5, t_222_28_6, t_222_28_7, t_222_28_8, t_222_28_9, t_222_28_10, r2, al]
  | succ c ih =>
    intro z G B lv f hz hf hT hB
    have hT0 := hT
    obtain ⟨t1, t2, hO, t3⟩ := hT
    have hoo := hO.ne
    obtain ⟨oc, r0, r1, r2, r3, r4⟩ := hO.rd (K := K) (B := B) ho'
    have al := fun g => hO.al (K := K) (B := B) hoa' (g := g)
    have wi := w_242 (K := K) (B := B) (d := d) (by omega) ho' hoa' hO hn (z := z) (by omega) (P := P) (by omega) (fun x hx => by have := hPX.lt hx; omega) hf
    by_cases e : z ∈ P
    · rw [b2T e] at wi
      obtain ⟨G', B', lv', f', i1, i2, i3, i4⟩ := ih (z + 1) G B lv f (by omega) hf hT0 (hB.of (fun u => by rw [SZ_s]; exact ⟨Or.inl, fun h => h.elim id (fun h => absurd e h.1)⟩))
      rw [show ((z + 1 : Nat) : Int) = (z : Int) + 1 by omega] at i1
      refine ⟨G', B', lv', f', e_222_28 _ ?_, i2, i3, i4⟩
      unfold t_222_28
      simp (disch := omega) only [rI_d, rJ_d, rR_d, rN_d, wF_d, xI_d, xJ_d, xD_d, xQ_d, yI_d, yJ_d, yD_d, yQ_d, dI_s, dJ_s, dR_s, dN_s, dN_n, dH_s, dX_s, dL_s, dD_s, dQ_s, bC_r, bC_t, kI_s, kJ_s, kF_s, kD_s, kR_s, kV_s, I_lit, I_neg, I_add, I_sub, I_mul, I_ltT, I_ltF, I_leT, I_leF, I_eqT, I_eqF, c_int, c_long, c_obj, c_arr, c_bool, c_boolN, c_boolF, vn_bool, c_charN, vn_char, b2_f, b2_t, Int.toNat_natCast, ↓reduceIte, eq_self, and_self, and_true, true_and, not_false_eq_true, not_true_eq_false, L_0_0, L_0_1, L_0_2, L_0_3, L_0_4, L_0_5, L_0_6, L_0_7, L_0_8, L_0_9, L_0_10, L_0_11, L_0_12, L_0_13, L_0_14, L_0_15, C_0, L_1_0, L_1_1, L_1_2, C_1, L_2_0, L_2_1, L_2_2, C_2, L_3_0, L_3_1, L_3_2, C_3, L_65_0, L_65_1, L_65_2, L_65_3, L_65_4, C_65, L_66_0, L_66_1, L_66_2, L_66_3, C_66, L_129_0, L_129_1, L_129_2, L_129_3, C_129, L_198_0, L_198_1, L_198_2, L_198_3, L_198_4, L_198_5, L_198_6, L_198_7, L_198_8, L_198_9, L_198_10, L_198_11, L_198_12, L_198_13, L_198_14, L_198_15, L_198_16, L_198_17, L_198_18, L_198_19, L_198_20, L_198_21, L_198_22, L_198_23, L_198_24, L_198_25, L_198_26, L_198_27, L_198_28, L_198_29, L_198_30, L_198_31, L_198_32, L_198_33, L_198_34, L_198_35, L_198_36, L_198_37, L_198_38, L_198_39, L_198_40, L_198_41, L_198_42, L_198_43, L_198_44, L_198_45, L_198_46, L_198_47, L_198_48, C_198, A_199, A_200, A_201, A_202, A_203, A_204, A_205, A_206, A_207, A_208, A_209, A_210, A_211, A_212, A_213, A_214, A_215, A_216, A_217, A_218, A_219, A_220, A_221, A_222, A_223, A_224, A_225, A_226, A_227, A_228, A_128, A_191, A_rf, A_rs, A_rt, Q_4, Q_67, Q_130, t_222_0_1, t_222_0_2, t_222_0_3, t_222_0_4, t_222_0_5, t_222_0_6, t_222_28_1, t_222_28_2, t_222_28_3, t_222_28_4, t_222_28_5, t_222_28_6, t_222_28_7, t_222_28_8, t_222_28_9, t_222_28_10, r2, al, oc, wi, i1]
    · rw [b2F e] at wi
      obtain ⟨q1, q2⟩ := hO.put (K := K) (B := B) hoa' hoo (k := P.length) (z := (z : Int)) hPl hn
      have q3 : FR noW m sl G1 (gset G oa (.inl (0, n, .inl (fun j => I (if j = P.length then (z : Int) else f j))))) := FR.set2 t1 hO.2 hoa
      generalize gset G oa (.inl (0, n, .inl (fun j => I (if j = P.length then (z : Int) else f j)))) = G2 at *
      have hf2 : ∀ (j x : Nat), (P ++ [z])[j]? = some x → (fun j => if j = P.length then (z : Int) else f j) j = (x : Int) := fun j x hx => by
        rcases get_app hx with ⟨h1, h2⟩ | ⟨h1, h2⟩
        · show (if j = P.length then (z : Int) else f j) = x
          rw [if_neg (by omega)]
          exact hf j x h2
        · show (if j = P.length then (z : Int) else f j) = x
          rw [if_pos h1, h2]
      have hlen : ((P ++ [z]).length : Int) = (P.length : Int) + 1 := by rw [List.length_append]; rfl
      have hkeep : ∀ j, j < P.length → (fun j => if j = P.length then (z : Int) else f j) j = f j := fun j hj => if_neg (by omega)
      have hPX2 := hPX.add (z := z) (by omega) e
      obtain ⟨oc2, s0, s1, s2, s3, s4⟩ := q2.rd (K := K) (B := B) ho'
      have hR : CR K N G2 B ro (tw B0) sh st pc cs ps := (hR1.gr q3).tl t2
      -- the rest of the order tried
      have rest : ∀ (B2 : gB), TL B1 B2 → ∃ G' B' lv' f' G3 B3, gCa K d 222 [.ref o, .int (I ((P.length : Int) + 1))] (hH K N G2 B2) = some (.inl none, hH K N G3 B3) ∧ gRn K d 222 28 [some (.ref o), some (.int (I (P.length : Int))), some (.int (I ((z : Int) + 1)))] [] (hH K N G3 B3) = some (.inl none, hH K N G' B') ∧ TS N G1 B1 o l oa gv n m sl G' B' lv' f' ∧ (∀ j, j < P.length → f' j = f j) ∧ BC (tw B0) L (SP n P) lv0 lv' := fun B2 hB2 => by
        obtain ⟨G3, B3, lv3, f3, a1, a2, a3, a4⟩ := ihT z (by omega) e G2 B2 lv _ hf2 ⟨q3, hB2, q2, t3⟩
        rw [hlen] at a1
        obtain ⟨G', B', lv', f', i1, i2, i3, i4⟩ := ih (z + 1) G3 B3 lv3 f3 (by omega) (fun j x hx => by
          have hj := (List.getElem?_eq_some_iff.mp hx).1
          exact (a3 j (by rw [List.length_append]; omega)).trans ((hkeep j hj).trans (hf j x hx))) a2 ((hB.tr a4).of (fun u => by rw [SZ_s]; exact ⟨fun h => h.imp_right (fun h => ⟨e, h⟩), fun h => h.imp_right And.right⟩))
        rw [show ((z + 1 : Nat) : Int) = (z : Int) + 1 by omega] at i1
        exact ⟨G', B', lv', f', G3, B3, a1, i1, i2, fun j hj => by
          exact (i3 j hj).trans ((a3 j (by rw [List.length_append]; omega)).trans (hkeep j hj)), i4⟩
      by_cases g : gv = 0
      · obtain ⟨G', B', lv', f', G3, B3, a1, a2, a3, a4, a5⟩ := rest B t2
        refine ⟨G', B', lv', f', e_222_28 _ ?_, a3, a4, a5⟩
        unfold t_222_28
        simp (disch := omega) only [rI_d, rJ_d, rR_d, rN_d, wF_d, xI_d, xJ_d, xD_d, xQ_d, yI_d, yJ_d, yD_d, yQ_d, dI_s, dJ_s, dR_s, dN_s, dN_n, dH_s, dX_s, dL_s, dD_s, dQ_s, bC_r, bC_t, kI_s, kJ_s, kF_s, kD_s, kR_s, kV_s, I_lit, I_neg, I_add, I_sub, I_mul, I_ltT, I_ltF, I_leT, I_leF, I_eqT, I_eqF, c_int, c_long, c_obj, c_arr, c_bool, c_boolN, c_boolF, vn_bool, c_charN, vn_char, b2_f, b2_t, Int.toNat_natCast, ↓reduceIte, eq_self, and_self, and_true, true_and, not_false_eq_true, not_true_eq_false, L_0_0, L_0_1, L_0_2, L_0_3, L_0_4, L_0_5, L_0_6, L_0_7, L_0_8, L_0_9, L_0_10, L_0_11, L_0_12, L_0_13, L_0_14, L_0_15, C_0, L_1_0, L_1_1, L_1_2, C_1, L_2_0, L_2_1, L_2_2, C_2, L_3_0, L_3_1, L_3_2, C_3, L_65_0, L_65_1, L_65_2, L_65_3, L_65_4, C_65, L_66_0, L_66_1, L_66_2, L_66_3, C_66, L_129_0, L_129_1, L_129_2, L_129_3, C_129, L_198_0, L_198_1, L_198_2, L_198_3, L_198_4, L_198_5, L_198_6, L_198_7, L_198_8, L_198_9, L_198_10, L_198_11, L_198_12, L_198_13, L_198_14, L_198_15, L_198_16, L_198_17, L_198_18, L_198_19, L_198_20, L_198_21, L_198_22, L_198_23, L_198_24, L_198_25, L_198_26, L_198_27, L_198_28, L_198_29, L_198_30, L_198_31, L_198_32, L_198_33, L_198_34, L_198_35, L_198_36, L_198_37, L_198_38, L_198_39, L_198_40, L_198_41, L_198_42, L_198_43, L_198_44, L_198_45, L_198_46, L_198_47, L_198_48, C_198, A_199, A_200, A_201, A_202, A_203, A_204, A_205, A_206, A_207, A_208, A_209, A_210, A_211, A_212, A_213, A_214, A_215, A_216, A_217, A_218, A_219, A_220, A_221, A_222, A_223, A_224, A_225, A_226, A_227, A_228, A_128, A_191, A_rf, A_rs, A_rt, Q_4, Q_67, Q_130, t_222_0_1, t_222_0_2, t_222_0_3, t_222_0_4, t_222_0_5, t_222_0_6, t_222_28_1, t_222_28_2, t_222_28_3, t_222_28_4, t_222_28_5, t_222_28_6, t_222_28_7, t_222_28_8, t_222_28_9, t_222_28_10, r2, al, oc, wi, q1, s1, oc2, a1, a2]
      · have hS2 := hS.gr hR1.1.1 q3
        have hys : ∀ (j : Nat) (x : Int), ((P ++ [z]).map (fun i => L.getD i 0))[j]? = some x → 0 ≤ (fun j => if j = P.length then (z : Int) else f j) j ∧ L[((fun j => if j = P.length then (z : Int) else f j) j).toNat]? = some x := fun j x hx => by
          rw [List.getElem?_map] at hx
          obtain ⟨y, hy, rfl⟩ := Option.map_eq_some_iff.mp hx
          have h1 := hf2 j y hy
          have h2 : y < n := hPX2.lt (List.mem_iff_getElem?.mpr ⟨j, hy⟩)
          rw [h1]
          refine ⟨by omega, ?_⟩
          rw [Int.toNat_natCast, List.getElem?_eq_getElem (by omega)]
          exact congrArg some (List.getElem_eq_getD 0)
        obtain ⟨B2, v1, v2⟩ := w_241 (d := d) (by omega) hw hru ho' hoa' q2 hn hb hS2 (by omega) (ys := (P ++ [z]).map (fun i => L.getD i 0)) (by rw [List.length_map, List.length_append]; show P.length + 1 ≤ n; omega) hys hR
        rw [List.length_map, hlen] at v1
        have hrn : rl (runL (tw B0) (dl (tw B0)) ts0 ((P ++ [z]).map (fun i => L.getD i 0))) = rnU (tw B0) L (P ++ [z]) := rfl
        rw [hrn] at v1
        have br : 0 ≤ rnU (tw B0) L (P ++ [z]) ∧ rnU (tw B0) L (P ++ [z]) ≤ 61 := rl_b _
        have s3' := (q2.rd (K := K) (B := B2) ho').2.2.2.2.1
        have oc3 := (q2.rd (K := K) (B := B2) ho').1
        by_cases p : lv ≤ rnU (tw B0) L (P ++ [z])
        · obtain ⟨G', B', lv', f', i1, i2, i3, i4⟩ := ih (z + 1) G2 B2 lv _ (by omega) (fun j x hx => by
            have hj := (List.getElem?_eq_some_iff.mp hx).1
            exact (hkeep j hj).trans (hf j x hx)) ⟨q3, t2.tr v2, q2, t3⟩ ((hB.tr (BC.rf (S := SP n (P ++ [z])) (fun u hu => Int.le_trans p hu.mono))).of (fun u => by rw [SZ_s]; exact ⟨fun h => h.imp_right (fun h => ⟨e, h⟩), fun h => h.imp_right And.right⟩))
          rw [show ((z + 1 : Nat) : Int) = (z : Int) + 1 by omega] at i1
          refine ⟨G', B', lv', f', e_222_28 _ ?_, i2, fun j hj => (i3 j hj).trans (hkeep j hj), i4⟩
          unfold t_222_28
          simp (disch := omega) only [rI_d, rJ_d, rR_d, rN_d, wF_d, xI_d, xJ_d, xD_d, xQ_d, yI_d, yJ_d, yD_d, yQ_d, dI_s, dJ_s, dR_s, dN_s, dN_n, dH_s, dX_s, dL_s, dD_s, dQ_s, bC_r, bC_t, kI_s, kJ_s, kF_s, kD_s, kR_s, kV_s, I_lit, I_neg, I_add, I_sub, I_mul, I_ltT, I_ltF, I_leT, I_leF, I_eqT, I_eqF, c_int, c_long, c_obj, c_arr, c_bool, c_boolN, c_boolF, vn_bool, c_charN, vn_char, b2_f, b2_t, Int.toNat_natCast, ↓reduceIte, eq_self, and_self, and_true, true_and, not_false_eq_true, not_true_eq_false, L_0_0, L_0_1, L_0_2, L_0_3, L_0_4, L_0_5, L_0_6, L_0_7, L_0_8, L_0_9, L_0_10, L_0_11, L_0_12, L_0_13, L_0_14, L_0_15, C_0, L_1_0, L_1_1, L_1_2, C_1, L_2_0, L_2_1, L_2_2, C_2, L_3_0, L_3_1, L_3_2, C_3, L_65_0, L_65_1, L_65_2, L_65_3, L_65_4, C_65, L_66_0, L_66_1, L_66_2, L_66_3, C_66, L_129_0, L_129_1, L_129_2, L_129_3, C_129, L_198_0, L_198_1, L_198_2, L_198_3, L_198_4, L_198_5, L_198_6, L_198_7, L_198_8, L_198_9, L_198_10, L_198_11, L_198_12, L_198_13, L_198_14, L_198_15, L_198_16, L_198_17, L_198_18, L_198_19, L_198_20, L_198_21, L_198_22, L_198_23, L_198_24, L_198_25, L_198_26, L_198_27, L_198_28, L_198_29, L_198_30, L_198_31, L_198_32, L_198_33, L_198_34, L_198_35, L_198_36, L_198_37, L_198_38, L_198_39, L_198_40, L_198_41, L_198_42, L_198_43, L_198_44, L_198_45, L_198_46, L_198_47, L_198_48, C_198, A_199, A_200, A_201, A_202, A_203, A_204, A_205, A_206, A_207, A_208, A_209, A_210, A_211, A_212, A_213, A_214, A_215, A_216, A_217, A_218, A_219, A_220, A_221, A_222, A_223, A_224, A_225, A_226, A_227, A_228, A_128, A_191, A_rf, A_rs, A_rt, Q_4, Q_67, Q_130, t_222_0_1, t_222_0_2, t_222_0_3, t_222_0_4, t_222_0_5, t_222_0_6, t_222_28_1, t_222_28_2, t_222_28_3, t_222_28_4, t_222_28_5, t_222_28_6, t_222_28_7, t_222_28_8, t_222_28_9, t_222_28_10, r2, al, oc, wi, q1, s1, oc2, v1, s3', i1]
        · obtain ⟨G', B', lv', f', G3, B3, a1, a2, a3, a4, a5⟩ := rest B2 (t2.tr v2)
          refine ⟨G', B', lv', f', e_222_28 _ ?_, a3, a4, a5⟩
          unfold t_222_28
          simp (disch := omega) only [rI_d, rJ_d, rR_d, rN_d, wF_d, xI_d, xJ_d, xD_d, xQ_d, yI_d, yJ_d, yD_d, yQ_d, dI_s, dJ_s, dR_s, dN_s, dN_n, dH_s, dX_s, dL_s, dD_s, dQ_s, bC_r, bC_t, kI_s, kJ_s, kF_s, kD_s, kR_s, kV_s, I_lit, I_neg, I_add, I_sub, I_mul, I_ltT, I_ltF, I_leT, I_leF, I_eqT, I_eqF, c_int, c_long, c_obj, c_arr, c_bool, c_boolN, c_boolF, vn_bool, c_charN, vn_char, b2_f, b2_t, Int.toNat_natCast, ↓reduceIte, eq_self, and_self, and_true, true_and, not_false_eq_true, not_true_eq_false, L_0_0, L_0_1, L_0_2, L_0_3, L_0_4, L_0_5, L_0_6, L_0_7, L_0_8, L_0_9, L_0_10, L_0_11, L_0_12, L_0_13, L_0_14, L_0_15, C_0, L_1_0, L_1_1, L_1_2, C_1, L_2_0, L_2_1, L_2_2, C_2, L_3_0, L_3_1, L_3_2, C_3, L_65_0, L_65_1, L_65_2, L_65_3, L_65_4, C_65, L_66_0, L_66_1, L_66_2, L_66_3, C_66, L_129_0, L_129_1, L_129_2, L_129_3, C_129, L_198_0, L_198_1, L_198_2, L_198_3, L_198_4, L_198_5, L_198_6, L_198_7, L_198_8, L_198_9, L_198_10, L_198_11, L_198_12, L_198_13, L_198_14, L_198_15, L_198_16, L_198_17, L_198_18, L_198_19, L_198_20, L_198_21, L_198_22, L_198_23, L_198_24, L_198_25, L_198_26, L_198_27, L_198_28, L_198_29, L_198_30, L_198_31, L_198_32, L_198_33, L_198_34, L_198_35, L_198_36, L_198_37, L_198_38, L_198_39, L_198_40, L_198_41, L_198_42, L_198_43, L_198_44, L_198_45, L_198_46, L_198_47, L_198_48, C_198, A_199, A_200, A_201, A_202, A_203, A_204, A_205, A_206, A_207, A_208, A_209, A_210, A_211, A_212, A_213, A_214, A_215, A_216, A_217, A_218, A_219, A_220, A_221, A_222, A_223, A_224, A_225, A_226, A_227, A_228, A_128, A_191, A_rf, A_rs, A_rt, Q_4, Q_67, Q_130, t_222_0_1, t_222_0_2, t_222_0_3, t_222_0_4, t_222_0_5, t_222_0_6, t_222_28_1, t_222_28_2, t_222_28_3, t_222_28_4, t_222_28_5, t_222_28_6, t_222_28_7, t_222_28_8, t_222_28_9, t_222_28_10, r2, al, oc, wi, q1, s1, oc2, v1, s3', oc3, a1, a2]
theorem w_222 (hw : MW B0) (hru : RU (tw B0)) (hR1 : CR K N G1 B1 ro (tw B0) sh st pc cs ps) (hb : N + 231 ≤ base) (hS : SLI K G1 base sh l L) (hL : L.length = n) (hn : n ≤ 4) (ho : G1.2.1 ≤ o) (hoa : G1.2.1 ≤ oa) (hgv : 0 ≤ gv ∧ gv ≤ 1) : ∀ (r d : Nat) (P : List Nat), P.length + r = n → 12 + r ≤ d → PX n P → TF K N G1 B1 o l oa gv n m sl (tw B0) L d P := by
  have hN := hR1.1.2.2.1
  have ho' : N + 231 ≤ o := by omega
  have hoa' : N + 231 ≤ oa := by omega
  intro r
  induction r with
  | zero =>
    intro d P hr hd hPX G B lv f hf hT
    obtain ⟨d, rfl, hd'⟩ := d_succ (show 11 + 1 ≤ d by omega)
    obtain ⟨t1, t2, hO, t3⟩ := hT
    have hPl : P.length = n := by omega
    have hoo := hO.ne
    obtain ⟨oc, r0, r1, r2, r3, r4⟩ := hO.rd (K := K) (B := B) ho'
    have al := fun g => hO.al (K := K) (B := B) hoa' (g := g)
    have hR : CR K N G B ro (tw B0) sh st pc cs ps := (hR1.gr t1).tl t2
    have hS2 := hS.gr hR1.1.1 t1
    have hys : ∀ (j : Nat) (x : Int), (P.map (fun i => L.getD i 0))[j]? = some x → 0 ≤ f j ∧ L[(f j).toNat]? = some x := fun j x hx => by
      rw [List.getElem?_map] at hx
      obtain ⟨y, hy, rfl⟩ := Option.map_eq_some_iff.mp hx
      have h1 := hf j y hy
      have h2 : y < n := hPX.lt (List.mem_iff_getElem?.mpr ⟨j, hy⟩)
      rw [h1]
      refine ⟨by omega, ?_⟩
      rw [Int.toNat_natCast, List.getElem?_eq_getElem (by omega)]
      exact congrArg some (List.getElem_eq_getD 0)
    obtain ⟨B2, v1, v2⟩ := w_241 (d := d) (by omega) hw hru ho' hoa' hO hn hb hS2 (by omega) (ys := P.map (fun i => L.getD i 0)) (by rw [List.length_map]; omega) hys hR
    rw [List.length_map, hPl] at v1
    have hrn : rl (runL (tw B0) (dl (tw B0)) ts0 (P.map (fun i => L.getD i 0))) = rnU (tw B0) L P := rfl
    rw [hrn] at v1
    have br : 0 ≤ rnU (tw B0) L P ∧ rnU (tw B0) L P ≤ 61 := rl_b _
    have wm := w_224 (K := K) (d := d) (H := hH K N G B2) (by omega) (a := lv) (b := rnU (tw B0) L P) (by omega) (by omega)
    obtain ⟨p1, p2⟩ := hO.lst (K := K) (B := B2) ho' hoo (v := min lv (rnU (tw B0) L P))
    refine ⟨_, B2, min lv (rnU (tw B0) L P), f, c_222 _ ?_, ⟨FR.set2 t1 hO.1 ho, t2.tr v2, p2, by omega⟩, fun _ _ => rfl, BC.last hPX hPl⟩
    rw [hPl]
    unfold t_222_0
    simp (disch := omega) only [rI_d, rJ_d, rR_d, rN_d, wF_d, xI_d, xJ_d, xD_d, xQ_d, yI_d, yJ_d, yD_d, yQ_d, dI_s, dJ_s, dR_s, dN_s, dN_n, dH_s, dX_s, dL_s, dD_s, dQ_s, bC_r, bC_t, kI_s, kJ_s, kF_s, kD_s, kR_s, kV_s, I_lit, I_neg, I_add, I_sub, I_mul, I_ltT, I_ltF, I_leT, I_leF, I_eqT, I_eqF, c_int, c_long, c_obj, c_arr, c_bool, c_boolN, c_boolF, vn_bool, c_charN, vn_char, b2_f, b2_t, Int.toNat_natCast, ↓reduceIte, eq_self, and_self, and_true, true_and, not_false_eq_true, not_true_eq_false, L_0_0, L_0_1, L_0_2, L_0_3, L_0_4, L_0_5, L_0_6, L_0_7, L_0_8, L_0_9, L_0_10, L_0_11, L_0_12, L_0_13, L_0_14, L_0_15, C_0, L_1_0, L_1_1, L_1_2, C_1, L_2_0, L_2_1, L_2_2, C_2, L_3_0, L_3_1, L_3_2, C_3, L_65_0, L_65_1, L_65_2, L_65_3, L_65_4, C_65, L_66_0, L_66_1, L_66_2, L_66_3, C_66, L_129_0, L_129_1, L_129_2, L_129_3, C_129, L_198_0, L_198_1, L_198_2, L_198_3, L_198_4, L_198_5, L_198_6, L_198_7, L_198_8, L_198_9, L_198_10, L_198_11, L_198_12, L_198_13, L_198_14, L_198_15, L_198_16, L_198_17, L_198_18, L_198_19, L_198_20, L_198_21, L_198_22, L_198_23, L_198_24, L_198_25, L_198_26, L_198_27, L_198_28, L_198_29, L_198_30, L_198_31, L_198_32, L_198_33, L_198_34, L_198_35, L_198_36, L_198_37, L_198_38, L_198_39, L_198_40, L_198_41, L_198_42, L_198_43, L_198_44, L_198_45, L_198_46, L_198_47, L_198_48, C_198, A_199, A_200, A_201, A_202, A_203, A_204, A_205, A_206, A_207, A_208, A_209, A_210, A_211, A_212, A_213, A_214, A_215, A_216, A_217, A_218, A_219, A_220, A_221, A_222, A_223, A_224, A_225, A_226, A_227, A_228, A_128, A_191, A_rf, A_rs, A_rt, Q_4, Q_67, Q_130, t_222_0_1, t_222_0_2, t_222_0_3, t_222_0_4, t_222_0_5, t_222_0_6, t_222_28_1, t_222_28_2, t_222_28_3, t_222_28_4, t_222_28_5, t_222_28_6, t_222_28_7, t_222_28_8, t_222_28_9, t_222_28_10, r2, al, r3, oc, v1, wm, p1]
  | succ r ihr =>
    intro d P hr hd hPX G B lv f hf hT
    obtain ⟨d, rfl, hd'⟩ := d_succ (show 12 + r + 1 ≤ d by omega)
    have hPl : P.length < n := by omega
    have hT0 := hT
    obtain ⟨t1, t2, hO, t3⟩ := hT
    obtain ⟨oc, r0, r1, r2, r3, r4⟩ := hO.rd (K := K) (B := B) ho'
    have al := fun g => hO.al (K := K) (B := B) hoa' (g := g)
    obtain ⟨G', B', lv', f', i1, i2, i3, i4⟩ := l_222 (d := d) (by omega) hw hru hR1 hb hS hL hn ho hoa hgv hPX hPl (fun z h1 h2 => ihr d (P ++ [z]) (by rw [List.length_append]; show P.length + 1 + r = n; omega) (by omega) (hPX.add h1 h2)) (lv0 := lv) n 0 G B lv f (by omega) hf hT0 (BC.rf (fun u ⟨s, h, _⟩ => absurd h (Nat.not_lt_zero s)))
    refine ⟨G', B', lv', f', c_222 _ ?_, i2, i3, i4⟩
    unfold t_222_0
    simp (disch := omega) only [rI_d, rJ_d, rR_d, rN_d, wF_d, xI_d, xJ_d, xD_d, xQ_d, yI_d, yJ_d, yD_d, yQ_d, dI_s, dJ_s, dR_s, dN_s, dN_n, dH_s, dX_s, dL_s, dD_s, dQ_s, bC_r, bC_t, kI_s, kJ_s, kF_s, kD_s, kR_s, kV_s, I_lit, I_neg, I_add, I_sub, I_mul, I_ltT, I_ltF, I_leT, I_leF, I_eqT, I_eqF, c_int, c_long, c_obj, c_arr, c_bool, c_boolN, c_boolF, vn_bool, c_charN, vn_char, b2_f, b2_t, Int.toNat_natCast, ↓reduceIte, eq_self, and_self, and_true, true_and, not_false_eq_true, not_true_eq_false, L_0_0, L_0_1, L_0_2, L_0_3, L_0_4, L_0_5, L_0_6, L_0_7, L_0_8, L_0_9, L_0_10, L_0_11, L_0_12, L_0_13, L_0_14, L_0_15, C_0, L_1_0, L_1_1, L_1_2, C_1, L_2_0, L_2_1, L_2_2, C_2, L_3_0, L_3_1, L_3_2, C_3, L_65_0, L_65_1, L_65_2, L_65_3, L_65_4, C_65, L_66_0, L_66_1, L_66_2, L_66_3, C_66, L_129_0, L_129_1, L_129_2, L_129_3, C_129, L_198_0, L_198_1, L_198_2, L_198_3, L_198_4, L_198_5, L_198_6, L_198_7, L_198_8, L_198_9, L_198_10, L_198_11, L_198_12, L_198_13, L_198_14, L_198_15, L_198_16, L_198_17, L_198_18, L_198_19, L_198_20, L_198_21, L_198_22, L_198_23, L_198_24, L_198_25, L_198_26, L_198_27, L_198_28, L_198_29, L_198_30, L_198_31, L_198_32, L_198_33, L_198_34, L_198_35, L_198_36, L_198_37, L_198_38, L_198_39, L_198_40, L_198_41, L_198_42, L_198_43, L_198_44, L_198_45, L_198_46, L_198_47, L_198_48, C_198, A_199, A_200, A_201, A_202, A_203, A_204, A_205, A_206, A_207, A_208, A_209, A_210, A_211, A_212, A_213, A_214, A_215, A_216, A_217, A_218, A_219, A_220, A_221, A_222, A_223, A_224, A_225, A_226, A_227, A_228, A_128, A_191, A_rf, A_rs, A_rt, Q_4, Q_67, Q_130, t_222_0_1, t_222_0_2, t_222_0_3, t_222_0_4, t_222_0_5, t_222_0_6, t_222_28_1, t_222_28_2, t_222_28_3, t_222_28_4, t_222_28_5, t_222_28_6, t_222_28_7, t_222_28_8, t_222_28_9, t_222_28_10, r2, al]
    exact i1
end
