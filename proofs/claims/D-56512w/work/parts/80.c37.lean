/-! PURE 76: the sheet made anew -/
set_option maxRecDepth 100000
/-- the spot and the sheet may have changed -/
def SL (B B' : gB) : Prop := (∀ o k, o ≠ 65 → (o ≠ 66 ∨ k ≠ 2) → B'.1 o k = B.1 o k) ∧ (∀ o j, (o < 68 ∨ 128 < o) → B'.2.1 o j = B.2.1 o j) ∧ B'.2.2 = B.2.2
theorem SL.rf {B : gB} : SL B B := ⟨fun _ _ _ _ => rfl, fun _ _ _ => rfl, rfl⟩
theorem SL.tr {B B' B'' : gB} (h : SL B B') (h' : SL B' B'') : SL B B'' := ⟨fun o k q w => (h'.1 o k q w).trans (h.1 o k q w), fun o k q => (h'.2.1 o k q).trans (h.2.1 o k q), h'.2.2.trans h.2.2⟩
theorem SL.shq {B B' : gB} (h : SHQ 66 B B') : SL B B' := ⟨fun o k _ q => h.1 o k q, fun o j q => h.2.1 o j (by omega), h.2.2⟩
theorem SL.kp {B B' : gB} (h : SL B B') : KP B B' := ⟨fun o k q => h.1 o k (by omega) (by omega), fun o j q => h.2.1 o j (by omega), h.2.2⟩
theorem SL.ch {B : gB} {a : Nat} {m t r c : Int} : SL B (mvB (chB B a m) t r c) := ⟨fun o k q _ => (mv_ne q).trans (ch_ne q), fun _ _ _ => rfl, rfl⟩
theorem SL.cl {B : gB} : SL B (clS B 66) := ⟨fun o k q w => if_neg (by omega), fun o j q => (if_neg (by omega)).trans (if_neg (by omega)), rfl⟩
/-- the fields with a sheet's cells and remainders -/
def shM (M : gM) (cc rm : Nat → Int) : gM := (M.1, fun o => if o = 215 then cc else if o = 216 then rm else if o = 217 then (fun _ => 1) else M.2 o)
theorem shM_rm {M : gM} {cc rm : Nat → Int} : rmT (shM M cc rm) = rm := rfl
section
variable {K : gK} {d N : Nat} {G G' : gH} {B B' B0 B1 : gB} {M M' : gM} {ro : Nat → Nat} {sh st pc : List Nat} {cs : Nat → List Nat} {ps : Nat → List (Nat × Int)} {a s : Nat} {cl : List Nat} {t m r c : Int} {cc rm : Nat → Int}
theorem CR.sheet (h : CR K N G B ro M sh st pc cs ps) (q : SL B B1) (hS : SHT B1 66 cc rm) : CR K N G B1 ro (shM M cc rm) sh st pc cs ps := by
  have hM : MS M (shM M cc rm) := ⟨fun o ho => by
    show (if o = 215 then cc else if o = 216 then rm else if o = 217 then (fun _ => 1) else M.2 o) = M.2 o
    rw [if_neg (by omega), if_neg (by omega), if_neg (by omega)], rfl, rfl, rfl⟩
  refine h.ln (m := 0) (s := 0) (FR.ln h.1) h.1 ⟨q.1 _ _ (by omega) (by omega), q.1 _ _ (by omega) (by omega)⟩ ⟨q.1 _ _ (by omega) (by omega), q.1 _ _ (by omega) (by omega)⟩ ⟨q.1 _ _ (by omega) (by omega), q.1 _ _ (by omega) (by omega)⟩ hM ?_ hS
  obtain ⟨s1, s2, s3, s4, s5, s6, s7, s8, s9⟩ := h.2.1
  exact ⟨(q.1 _ _ (by omega) (by omega)).trans s1, (q.1 _ _ (by omega) (by omega)).trans s2, (q.1 _ _ (by omega) (by omega)).trans s3, (q.1 _ _ (by omega) (by omega)).trans s4, (q.1 _ _ (by omega) (by omega)).trans s5, (q.1 _ _ (by omega) (by omega)).trans s6, (q.1 _ _ (by omega) (by omega)).trans s7, (q.1 _ _ (by omega) (by omega)).trans s8, fun R C h1 h2 => (q.2.1 _ _ (by omega)).trans (s9 R C h1 h2)⟩
theorem w_214 (hd : 2 ≤ d) {p : Nat} {x0 : Value} (h : (hH K N G B).1 p = some (.inr (7, [x0, .ref a, .int (I t), .int (I m), .int (I r), .int (I c)]))) (hp : N + 231 ≤ p) (hm : 0 ≤ m ∧ m ≤ 1) : gCa K d 214 [.ref (N + 65), .ref p] (hH K N G B) = some (.inl none, hH K N G (mvB (chB B a m) t r c)) := by
  obtain ⟨d, rfl, hd'⟩ := d_succ (show 1 + 1 ≤ d by omega)
  obtain ⟨k1, k2, k3, k4, k5, k6, k7⟩ := pc_rd h
  have h' : (hH K N G (chB B a m)).1 p = some (.inr (7, [x0, .ref a, .int (I t), .int (I m), .int (I r), .int (I c)])) := ((hH_dyn hp).trans (hH_dyn hp).symm).trans h
  obtain ⟨j1, j2, j3, j4, j5, j6, j7⟩ := pc_rd h'
  have w1 := w_163 (K := K) (N := N) (G := G) (B := B) (d := d) (a := a) (by omega) hm
  have w2 := w_165 (K := K) (N := N) (G := G) (B := chB B a m) (d := d) (t := t) (r := r) (c := c) (by omega)
  refine c_214 _ ?_
  unfold t_214_0
  simp (disch := omega) only [rI_d, rJ_d, rR_d, rN_d, wF_d, xI_d, xJ_d, xD_d, xQ_d, yI_d, yJ_d, yD_d, yQ_d, dI_s, dJ_s, dR_s, dN_s, dN_n, dH_s, dX_s, dL_s, dD_s, dQ_s, bC_r, bC_t, kI_s, kJ_s, kF_s, kD_s, kR_s, kV_s, I_lit, I_neg, I_add, I_sub, I_mul, I_ltT, I_ltF, I_leT, I_leF, I_eqT, I_eqF, c_int, c_long, c_obj, c_arr, c_bool, c_boolN, c_boolF, vn_bool, c_charN, vn_char, b2_f, b2_t, Int.toNat_natCast, ↓reduceIte, eq_self, and_self, and_true, true_and, not_false_eq_true, not_true_eq_false, L_0_0, L_0_1, L_0_2, L_0_3, L_0_4, L_0_5, L_0_6, L_0_7, L_0_8, L_0_9, L_0_10, L_0_11, L_0_12, L_0_13, L_0_14, L_0_15, C_0, L_1_0, L_1_1, L_1_2, C_1, L_2_0, L_2_1, L_2_2, C_2, L_3_0, L_3_1, L_3_2, C_3, L_65_0, L_65_1, L_65_2, L_65_3, L_65_4, C_65, L_66_0, L_66_1, L_66_2, L_66_3, C_66, L_129_0, L_129_1, L_129_2, L_129_3, C_129, L_198_0, L_198_1, L_198_2, L_198_3, L_198_4, L_198_5, L_198_6, L_198_7, L_198_8, L_198_9, L_198_10, L_198_11, L_198_12, L_198_13, L_198_14, L_198_15, L_198_16, L_198_17, L_198_18, L_198_19, L_198_20, L_198_21, L_198_22, L_198_23, L_198_24, L_198_25, L_198_26, L_198_27, L_198_28, L_198_29, L_198_30, L_198_31, L_198_32, L_198_33, L_198_34, L_198_35, L_198_36, L_198_37, L_198_38, L_198_39, L_198_40, L_198_41, L_198_42, L_198_43, L_198_44, L_198_45, L_198_46, L_198_47, L_198_48, C_198, A_199, A_200, A_201, A_202, A_203, A_204, A_205, A_206, A_207, A_208, A_209, A_210, A_211, A_212, A_213, A_214, A_215, A_216, A_217, A_218, A_219, A_220, A_221, A_222, A_223, A_224, A_225, A_226, A_227, A_228, A_128, A_191, A_rf, A_rs, A_rt, Q_4, Q_67, Q_130, t_214_0_1, t_214_0_2, t_214_0_3, t_214_0_4, t_214_0_5, t_214_0_6, t_214_0_7, k3, k5, j4, j6, j7, w1, w2]
theorem pc_dyn {p : Nat} {fs : List Value} (hC : CB K N G) (h : (hH K N G B).1 p = some (.inr (7, fs))) : N + 231 ≤ p := by
  refine Classical.byContradiction fun hlt => ?_
  by_cases hN : N ≤ p
  · have := lens_c ⟨hN, by omega⟩ h
    omega
  · have : (hH K N G B).1 p = none := by
      show (if N ≤ p ∧ p < N + 231 then _ else G.1 p) = none
      rw [if_neg (by omega)]
      exact hC.2.1 _ (by omega)
    rw [h] at this; cases this
theorem l_176 (hd : 5 ≤ d) (hw : MW B0) {cc0 rm0 : Nat → Int} (hR : CR K N G B ro (shM (tw B0) cc0 rm0) sh st pc cs ps) (hI : ∀ i : Nat, i < pc.length → ins (tw B0) (pL (tw B0) i) (B0.2.1 213 i) (B0.2.1 214 i) (B0.2.1 211 i) (B0.2.1 212 i)) : ∀ (n y : Nat) (B1 : gB) (o2 : Option Value), y + n = pc.length → SL B B1 → SHT B1 66 (reC (tw B0) y) (reR (tw B0) y) →
    ∃ B2, gRn K d 176 9 [some (.ref N), some (.int (I (y : Int))), o2] [] (hH K N G B1) = some (.inl none, hH K N G B2) ∧ SL B B2 ∧ SHT B2 66 (reC (tw B0) pc.length) (reR (tw B0) pc.length) := by
  have bm := mw_many hw
  have bs := mw_shapes hw
  have e3 : (B0.1 198 17) = (pc.length : Int) := hR.nn.2.2
  have e4 : (B0.1 198 7) = (sh.length : Int) := hR.nn.1
  intro n
  induction n with
  | zero =>
    intro y B1 o2 hy hq hS
    have hR1 := hR.sheet hq hS
    have s3 := hR1.s3 (d := d) (by omega)
    have c3 := cl_of hR1.l3.o3
    obtain rfl : y = pc.length := by omega
    refine ⟨B1, e_176_9 _ ?_, hq, hS⟩
    unfold t_176_9
    simp (disch := omega) only [rI_d, rJ_d, rR_d, rN_d, wF_d, xI_d, xJ_d, xD_d, xQ_d, yI_d, yJ_d, yD_d, yQ_d, dI_s, dJ_s, dR_s, dN_s, dN_n, dH_s, dX_s, dL_s, dD_s, dQ_s, bC_r, bC_t, kI_s, kJ_s, kF_s, kD_s, kR_s, kV_s, I_lit, I_neg, I_add, I_sub, I_mul, I_ltT, I_ltF, I_leT, I_leF, I_eqT, I_eqF, c_int, c_long, c_obj, c_arr, c_bool, c_boolN, c_boolF, vn_bool, c_charN, vn_char, b2_f, b2_t, Int.toNat_natCast, ↓reduceIte, eq_self, and_self, and_true, true_and, not_false_eq_true, not_true_eq_false, L_0_0, L_0_1, L_0_2, L_0_3, L_0_4, L_0_5, L_0_6, L_0_7, L_0_8, L_0_9, L_0_10, L_0_11, L_0_12, L_0_13, L_0_14, L_0_15, C_0, L_1_0, L_1_1, L_1_2, C_1, L_2_0, L_2_1, L_2_2, C_2, L_3_0, L_3_1, L_3_2, C_3, L_65_0, L_65_1, L_65_2, L_65_3, L_65_4, C_65, L_66_0, L_66_1, L_66_2, L_66_3, C_66, L_129_0, L_129_1, L_129_2, L_129_3, C_129, L_198_0, L_198_1, L_198_2, L_198_3, L_198_4, L_198_5, L_198_6, L_198_7, L_198_8, L_198_9, L_198_10, L_198_11, L_198_12, L_198_13, L_198_14, L_198_15, L_198_16, L_198_17, L_198_18, L_198_19, L_198_20, L_198_21, L_198_22, L_198_23, L_198_24, L_198_25, L_198_26, L_198_27, L_198_28, L_198_29, L_198_30, L_198_31, L_198_32, L_198_33, L_198_34, L_198_35, L_198_36, L_198_37, L_198_38, L_198_39, L_198_40, L_198_41, L_198_42, L_198_43, L_198_44, L_198_45, L_198_46, L_198_47, L_198_48, C_198, A_199, A_200, A_201, A_202, A_203, A_204, A_205, A_206, A_207, A_208, A_209, A_210, A_211, A_212, A_213, A_214, A_215, A_216, A_217, A_218, A_219, A_220, A_221, A_222, A_223, A_224, A_225, A_226, A_227, A_228, A_128, A_191, A_rf, A_rs, A_rt, Q_4, Q_67, Q_130, t_176_0_1, t_176_0_2, t_176_9_1, t_176_9_2, t_176_9_3, t_176_9_4, t_176_9_5, t_176_9_6, t_176_9_7, t_176_9_8, t_176_9_9, t_176_0_1, t_176_0_2, t_176_9_1, t_176_9_2, t_176_9_3, t_176_9_4, t_176_9_5, t_176_9_6, t_176_9_7, t_176_9_8, t_176_9_9, s3, c3]
  | succ n ih =>
    intro y B1 o2 hy hq hS
    have hR1 := hR.sheet hq hS
    have s3 := hR1.s3 (d := d) (by omega)
    have c3 := cl_of hR1.l3.o3
    obtain ⟨p, hp⟩ := at_lt (show y < pc.length by omega)
    have g3 := hR1.g3 (d := d) (by omega) (by omega) (y := (y : Int)) (by omega) (by rw [Int.toNat_natCast]; exact hp)
    obtain ⟨b, hbs, hp1⟩ := hR1.pp hp
    have hdyn := pc_dyn hR1.1 hp1
    obtain ⟨k1, k2, k3, k4, k5, k6, k7⟩ := pc_rd hp1
    have b1 := mw_turned hw y
    have b2' := mw_mirrored hw y
    have b3 := mw_number hw y
    have bsh := mw_shapeOf hw y
    have hsl : (B0.2.1 210 y).toNat < sh.length := (List.getElem?_eq_some_iff.mp hbs).1
    have w1 := w_214 (d := d) (by omega) hp1 hdyn (show 0 ≤ B0.2.1 214 y ∧ B0.2.1 214 y ≤ 1 from b2')
    have hX := (CR.spot hw hR1 (by omega) hbs (show 0 ≤ B0.2.1 214 y ∧ B0.2.1 214 y ≤ 1 from b2')).mv (t' := B0.2.1 213 y) (r' := B0.2.1 211 y) (c' := B0.2.1 212 y)
    have hX' : SPX K N G (mvB (chB B1 b (B0.2.1 214 y)) (B0.2.1 213 y) (B0.2.1 211 y) (B0.2.1 212 y)) (tw B0) ro b (B0.2.1 210 y).toNat (cs (B0.2.1 210 y).toNat) (B0.2.1 213 y) (B0.2.1 214 y) (B0.2.1 211 y) (B0.2.1 212 y) := by
      obtain ⟨q1, q2, q3, q4, q5⟩ := hX
      exact ⟨q1, q2.se ⟨rfl, rfl, rfl, rfl, rfl, rfl, rfl, rfl⟩, q3, q4, q5⟩
    have hq2 : SL B (mvB (chB B1 b (B0.2.1 214 y)) (B0.2.1 213 y) (B0.2.1 211 y) (B0.2.1 212 y)) := hq.tr SL.ch
    have hS2 : SHT (mvB (chB B1 b (B0.2.1 214 y)) (B0.2.1 213 y) (B0.2.1 211 y) (B0.2.1 212 y)) 66 (reC (tw B0) y) (reR (tw B0) y) := ⟨hS.1, hS.2.1, ((mv_ne (by omega)).trans (ch_ne (by omega))).trans hS.2.2⟩
    have hper : (cs (B0.2.1 210 y).toNat).Perm (pL (tw B0) y) := hX'.2.2.1
    have hins : ins (tw B0) (cs (B0.2.1 210 y).toNat) (B0.2.1 213 y) (B0.2.1 214 y) (B0.2.1 211 y) (B0.2.1 212 y) := by
      obtain ⟨z1, z2⟩ := hI y (by omega)
      exact ⟨z1, fun k hk => by rw [oR_p hper, oC_p hper]; exact z2 k (hper.mem_iff.mp hk)⟩
    obtain ⟨B2, w2, v1, v2⟩ := w_208 (d := d) (v := B0.2.1 209 y) (by omega) hw hX' (Or.inl rfl) b1 hins (by omega) hS2
    have e5 : putC (reC (tw B0) y) (cs (B0.2.1 210 y).toNat) (B0.2.1 213 y) (B0.2.1 214 y) (B0.2.1 211 y) (B0.2.1 212 y) (B0.2.1 209 y) (cs (B0.2.1 210 y).toNat) = reC (tw B0) (y + 1) := putC_p hper
    have e6 : rmP (tw B0) (reR (tw B0) y) (B0.2.1 210 y).toNat (cs (B0.2.1 210 y).toNat) (B0.2.1 213 y) (B0.2.1 214 y) (B0.2.1 211 y) = reR (tw B0) (y + 1) := by
      funext g
      unfold rmP
      rw [mb_p hper]
      rfl
    rw [e5, e6] at v2
    have hpn : g_gf (hH K N G (mvB (chB B1 b (B0.2.1 214 y)) (B0.2.1 213 y) (B0.2.1 211 y) (B0.2.1 212 y))) p 7 0 = some (.int (I (B0.2.1 209 y))) := gf_of (((hH_dyn hdyn).trans (hH_dyn hdyn).symm).trans hp1) 0
    obtain ⟨B3, w3, v3⟩ := ih (y + 1) B2 (some (.ref p)) (by omega) (hq2.tr (SL.shq v1)) v2
    rw [show ((y + 1 : Nat) : Int) = (y : Int) + 1 by omega] at w3
    refine ⟨B3, e_176_9 _ ?_, v3⟩
    have w1' : gCa K d 214 [.ref (N + 65), .ref p] (hH K N G B1) = some (.inl none, hH K N G (mvB (chB B1 b (B0.2.1 214 y)) (B0.2.1 213 y) (B0.2.1 211 y) (B0.2.1 212 y))) := w1
    unfold t_176_9
    simp (disch := omega) only [rI_d, rJ_d, rR_d, rN_d, wF_d, xI_d, xJ_d, xD_d, xQ_d, yI_d, yJ_d, yD_d, yQ_d, dI_s, dJ_s, dR_s, dN_s, dN_n, dH_s, dX_s, dL_s, dD_s, dQ_s, bC_r, bC_t, kI_s, kJ_s, kF_s, kD_s, kR_s, kV_s, I_lit, I_neg, I_add, I_sub, I_mul, I_ltT, I_ltF, I_leT, I_leF, I_eqT, I_eqF, c_int, c_long, c_obj, c_arr, c_bool, c_boolN, c_boolF, vn_bool, c_charN, vn_char, b2_f, b2_t, Int.toNat_natCast, ↓reduceIte, eq_self, and_self, and_true, true_and, not_false_eq_true, not_true_eq_false, L_0_0, L_0_1, L_0_2, L_0_3, L_0_4, L_0_5, L_0_6, L_0_7, L_0_8, L_0_9, L_0_10, L_0_11, L_0_12, L_0_13, L_0_14, L_0_15, C_0, L_1_0, L_1_1, L_1_2, C_1, L_2_0, L_2_1, L_2_2, C_2, L_3_0, L_3_1, L_3_2, C_3, L_65_0, L_65_1, L_65_2, L_65_3, L_65_4, C_65, L_66_0, L_66_1, L_66_2, L_66_3, C_66, L_129_0, L_129_1, L_129_2, L_129_3, C_129, L_198_0, L_198_1, L_198_2, L_198_3, L_198_4, L_198_5, L_198_6, L_198_7, L_198_8, L_198_9, L_198_10, L_198_11, L_198_12, L_198_13, L_198_14, L_198_15, L_198_16, L_198_17, L_198_18, L_198_19, L_198_20, L_198_21, L_198_22, L_198_23, L_198_24, L_198_25, L_198_26, L_198_27, L_198_28, L_198_29, L_198_30, L_198_31, L_198_32, L_198_33, L_198_34, L_198_35, L_198_36, L_198_37, L_198_38, L_198_39, L_198_40, L_198_41, L_198_42, L_198_43, L_198_44, L_198_45, L_198_46, L_198_47, L_198_48, C_198, A_199, A_200, A_201, A_202, A_203, A_204, A_205, A_206, A_207, A_208, A_209, A_210, A_211, A_212, A_213, A_214, A_215, A_216, A_217, A_218, A_219, A_220, A_221, A_222, A_223, A_224, A_225, A_226, A_227, A_228, A_128, A_191, A_rf, A_rs, A_rt, Q_4, Q_67, Q_130, t_176_0_1, t_176_0_2, t_176_9_1, t_176_9_2, t_176_9_3, t_176_9_4, t_176_9_5, t_176_9_6, t_176_9_7, t_176_9_8, t_176_9_9, t_176_0_1, t_176_0_2, t_176_9_1, t_176_9_2, t_176_9_3, t_176_9_4, t_176_9_5, t_176_9_6, t_176_9_7, t_176_9_8, t_176_9_9, s3, c3, g3, k1, w1', hpn, w2, w3]
theorem w_176 (hd : 6 ≤ d) (hw : MW B0) {cc0 rm0 : Nat → Int} (hR : CR K N G B ro (shM (tw B0) cc0 rm0) sh st pc cs ps) (hI : ∀ i : Nat, i < pc.length → ins (tw B0) (pL (tw B0) i) (B0.2.1 213 i) (B0.2.1 214 i) (B0.2.1 211 i) (B0.2.1 212 i)) : ∃ B2, gCa K d 176 [.ref N] (hH K N G B) = some (.inl none, hH K N G B2) ∧ SL B B2 ∧ SHT B2 66 (reC (tw B0) pc.length) (reR (tw B0) pc.length) := by
  obtain ⟨d, rfl, hd'⟩ := d_succ (show 5 + 1 ≤ d by omega)
  have w1 := w_112a (K := K) (d := d) (N := N) (G := G) (B := B) (by omega)
  have hS : SHT (clS B 66) 66 (reC (tw B0) 0) (reR (tw B0) 0) := by
    refine ⟨fun R C h1 h2 => ?_, fun g hg => ?_, ?_⟩
    · show (if 66 + 2 ≤ 66 + 2 + R ∧ 66 + 2 + R < 66 + 62 ∧ C < 12 then (-1 : Int) else _) = fill (fun _ => 0) (-1) 720 (12 * R + C)
      rw [if_pos (by omega)]
      exact (if_pos (by omega)).symm
    · show (if 66 + 2 ≤ 66 + 62 ∧ 66 + 62 < 66 + 62 ∧ g < 12 then (-1 : Int) else if 66 + 62 = 66 + 62 ∧ g < 4 then -1 else B.2.1 (66 + 62) g) = -1
      rw [if_neg (by omega), if_pos (by omega)]
    · show (if (66 : Nat) = 66 ∧ 2 = 2 then (0 : Int) else B.1 66 2) = lng (fill (fun _ => 0) (-1) 720)
      rw [if_pos (by omega), lng_fill]
  obtain ⟨B2, w2, v1⟩ := l_176 (d := d) (by omega) hw hR hI pc.length 0 (clS B 66) none (by omega) SL.cl hS
  refine ⟨B2, c_176 _ ?_, v1⟩
  unfold t_176_0
  simp (disch := omega) only [rI_d, rJ_d, rR_d, rN_d, wF_d, xI_d, xJ_d, xD_d, xQ_d, yI_d, yJ_d, yD_d, yQ_d, dI_s, dJ_s, dR_s, dN_s, dN_n, dH_s, dX_s, dL_s, dD_s, dQ_s, bC_r, bC_t, kI_s, kJ_s, kF_s, kD_s, kR_s, kV_s, I_lit, I_neg, I_add, I_sub, I_mul, I_ltT, I_ltF, I_leT, I_leF, I_eqT, I_eqF, c_int, c_long, c_obj, c_arr, c_bool, c_boolN, c_boolF, vn_bool, c_charN, vn_char, b2_f, b2_t, Int.toNat_natCast, ↓reduceIte, eq_self, and_self, and_true, true_and, not_false_eq_true, not_true_eq_false, L_0_0, L_0_1, L_0_2, L_0_3, L_0_4, L_0_5, L_0_6, L_0_7, L_0_8, L_0_9, L_0_10, L_0_11, L_0_12, L_0_13, L_0_14, L_0_15, C_0, L_1_0, L_1_1, L_1_2, C_1, L_2_0, L_2_1, L_2_2, C_2, L_3_0, L_3_1, L_3_2, C_3, L_65_0, L_65_1, L_65_2, L_65_3, L_65_4, C_65, L_66_0, L_66_1, L_66_2, L_66_3, C_66, L_129_0, L_129_1, L_129_2, L_129_3, C_129, L_198_0, L_198_1, L_198_2, L_198_3, L_198_4, L_198_5, L_198_6, L_198_7, L_198_8, L_198_9, L_198_10, L_198_11, L_198_12, L_198_13, L_198_14, L_198_15, L_198_16, L_198_17, L_198_18, L_198_19, L_198_20, L_198_21, L_198_22, L_198_23, L_198_24, L_198_25, L_198_26, L_198_27, L_198_28, L_198_29, L_198_30, L_198_31, L_198_32, L_198_33, L_198_34, L_198_35, L_198_36, L_198_37, L_198_38, L_198_39, L_198_40, L_198_41, L_198_42, L_198_43, L_198_44, L_198_45, L_198_46, L_198_47, L_198_48, C_198, A_199, A_200, A_201, A_202, A_203, A_204, A_205, A_206, A_207, A_208, A_209, A_210, A_211, A_212, A_213, A_214, A_215, A_216, A_217, A_218, A_219, A_220, A_221, A_222, A_223, A_224, A_225, A_226, A_227, A_228, A_128, A_191, A_rf, A_rs, A_rt, Q_4, Q_67, Q_130, t_176_0_1, t_176_0_2, t_176_9_1, t_176_9_2, t_176_9_3, t_176_9_4, t_176_9_5, t_176_9_6, t_176_9_7, t_176_9_8, t_176_9_9, w1]
  exact w2
end
