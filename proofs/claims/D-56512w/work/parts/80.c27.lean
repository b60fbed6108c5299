/-! PURE 66: addShape in the room -/
set_option maxRecDepth 100000
section
variable {K : gK} {d N : Nat} {G G' : gH} {B B' : gB} {M : gM} {ro : Nat → Nat} {sh st pc : List Nat} {cs : Nat → List Nat} {ps : Nat → List (Nat × Int)} {H H' : gH} {m sl x : Nat} {P : Nat → Prop}
theorem CR.osh (h : CR K N G B ro M sh st pc cs ps) {x : Nat} (hx : x ∈ sh) : ∃ fs, (hH K N G B).1 x = some (.inr (4, fs)) := by
  obtain ⟨i, hi⟩ := List.mem_iff_getElem?.mp hx
  obtain ⟨⟨p, mk, vr, h1, -⟩, -⟩ := h.sp hi
  exact ⟨_, h1⟩
theorem lB_kp {o : Nat} (ho : o < 192) {mc : Int} {e n : Nat} : KP B (lB B o mc e n) := ⟨fun o' k q => lB_ne (by omega), fun _ _ _ => rfl, rfl⟩
theorem w_94 (hd : 9 ≤ d) (hw : MW B) (hb : BL (tw B)) (hR : CR K N G B ro (tw B) sh st pc cs ps) {ch pd : Int} (h1 : 0 ≤ ch ∧ ch < 65536) (h2 : 0 ≤ pd ∧ pd ≤ 1) : ∃ G' B', gCa K d 94 [.ref N, .int (I ch), .int (I pd)] (hH K N G B) =
    some (cif (k_addShape (tw B) ch = 0) (.inl (some (.int (I ((B.1 198 7))))), hH K N G' B') (.inr (exA (k_addShape (tw B) ch)), hH K N (gjunk G 6) B)) ∧ AL G G' 1000 3000 ∧ KP B B' ∧
    (k_addShape (tw B) ch = 0 → RM K N G' B' (tw (sI (sA (sA (sI B 198 0 0) 200 ((B.1 198 7)).toNat ch) 201 ((B.1 198 7)).toNat pd) 198 7 ((B.1 198 7) + 1)))) := by
  obtain ⟨d, rfl, hd'⟩ := d_succ (show 8 + 1 ≤ d by omega)
  have e3 : (B.1 198 7) = (sh.length : Int) := hR.nn.1
  have q := mw_shapes hw
  have hC := hR.1
  have hN := hC.2.2.1
  have T1 := w_151T (K := K) (d := d) (H := hH K N G B) (by omega)
  have F1 := w_151F (K := K) (d := d) (H := hH K N G B) (by omega)
  by_cases c1 : ch = 110 ∨ ch = 104 ∨ ch = 113
  · have w := w_154 (K := K) (d := d) (H := hH K N G B) (by omega) hC.2.2.2.2.1 hC.2.2.2.2.2.1 hC.2.2.2.2.2.2.1 c1
    have s1 := hR.s1 (d := d) (by omega)
    have cl1 := cl_of hR.l1.o1
    by_cases c2 : sh.length = 8
    · have hk : k_addShape (tw B) ch = 2 := by
        unfold k_addShape
        rw [cifF (fun h => h c1), cifT (show (B.1 198 7) = 8 by omega)]
      refine ⟨G, B, c_94 _ ?_, AL.rf, KP.rf, fun h => absurd h (by rw [hk]; decide)⟩
      rw [hk]
      unfold t_94_0
      simp (disch := omega) only [rI_d, rJ_d, rR_d, rN_d, wF_d, xI_d, xJ_d, xD_d, xQ_d, yI_d, yJ_d, yD_d, yQ_d, dI_s, dJ_s, dR_s, dN_s, dN_n, dH_s, dX_s, dL_s, dD_s, dQ_s, bC_r, bC_t, kI_s, kJ_s, kF_s, kD_s, kR_s, kV_s, I_lit, I_neg, I_add, I_sub, I_mul, I_ltT, I_ltF, I_leT, I_leF, I_eqT, I_eqF, c_int, c_long, c_obj, c_arr, c_bool, c_boolN, c_boolF, vn_bool, c_charN, vn_char, b2_f, b2_t, Int.toNat_natCast, ↓reduceIte, eq_self, and_self, and_true, true_and, not_false_eq_true, not_true_eq_false, L_0_0, L_0_1, L_0_2, L_0_3, L_0_4, L_0_5, L_0_6, L_0_7, L_0_8, L_0_9, L_0_10, L_0_11, L_0_12, L_0_13, L_0_14, L_0_15, C_0, L_1_0, L_1_1, L_1_2, C_1, L_2_0, L_2_1, L_2_2, C_2, L_3_0, L_3_1, L_3_2, C_3, L_65_0, L_65_1, L_65_2, L_65_3, L_65_4, C_65, L_66_0, L_66_1, L_66_2, L_66_3, C_66, L_129_0, L_129_1, L_129_2, L_129_3, C_129, L_198_0, L_198_1, L_198_2, L_198_3, L_198_4, L_198_5, L_198_6, L_198_7, L_198_8, L_198_9, L_198_10, L_198_11, L_198_12, L_198_13, L_198_14, L_198_15, L_198_16, L_198_17, L_198_18, L_198_19, L_198_20, L_198_21, L_198_22, L_198_23, L_198_24, L_198_25, L_198_26, L_198_27, L_198_28, L_198_29, L_198_30, L_198_31, L_198_32, L_198_33, L_198_34, L_198_35, L_198_36, L_198_37, L_198_38, L_198_39, L_198_40, L_198_41, L_198_42, L_198_43, L_198_44, L_198_45, L_198_46, L_198_47, L_198_48, C_198, A_199, A_200, A_201, A_202, A_203, A_204, A_205, A_206, A_207, A_208, A_209, A_210, A_211, A_212, A_213, A_214, A_215, A_216, A_217, A_218, A_219, A_220, A_221, A_222, A_223, A_224, A_225, A_226, A_227, A_228, A_128, A_191, A_rf, A_rs, A_rt, Q_4, Q_67, Q_130, t_94_0_1, t_94_0_2, t_94_0_3, t_94_0_4, t_94_0_5, t_94_0_6, t_94_0_7, t_94_0_8, t_94_0_9, t_94_0_10, t_94_0_11, t_94_0_12, t_94_0_13, t_94_0_14, t_94_0_15, iltT, iltF, ileT, ileF, ieqT, ieqF, cif_T, cif_F, not_true_eq_false, not_false_eq_true, or_true, or_false, true_or, false_or, false_and, and_false, ne_eq, w, s1, cl1, F1, gjunk_hH]
      rfl
    · have hk : k_addShape (tw B) ch = 0 := by
        unfold k_addShape
        rw [cifF (fun h => h c1), cifF (show ¬ (B.1 198 7) = 8 by omega)]
      have hk3 := hC.2.2.2.1 3 (by omega)
      have hG : (hH K N G B).2.1 = G.2.1 := rfl
      have hnew : (gnew (hH K N G B) (.inr (4, [.null, .int (I 0), .null, .int (I 0), .null, .int (I 0), .int (I 0), .int (I 0), .null])) 9).1 G.2.1 = some (.inr (4, [.null, .int (I 0), .null, .int (I 0), .null, .int (I 0), .int (I 0), .int (I 0), .null])) := gn_eq
      obtain ⟨H1, p, mk, vr, v1, v2, v3, v4, v5, v6, v7, v8⟩ := w_155 (K := K) (d := d) (P := PD N) (H := gnew (hH K N G B) (.inr (4, [.null, .int (I 0), .null, .int (I 0), .null, .int (I 0), .int (I 0), .int (I 0), .null])) 9) (s := G.2.1) (rr := K.2 (ru ch)) (pd := pd) (by omega) (fun a ha => by have : G.2.1 + 1 ≤ a := ha; show N + 231 ≤ a; omega) hC.hb.new (show K.2 3 < G.2.1 + 1 by omega) ((gn_lt (H := hH K N G B) (show K.2 3 < G.2.1 by omega)).trans hC.e) hnew h2
      have f1 : FR (LW (hH K N G B) (N + 1) (B.1 1 1).toNat) (1 + 900) (9 + 2600) (hH K N G B) H1 := FR.new2 hC.hb v6
      have keep : ∀ {x : Nat} {en : gE}, (hH K N G B).1 x = some en → H1.1 x = some en := fun {x en} hx => by
        have hlt := hC.hb.lt hx
        rw [v6.2.2.2.2.2 x (show x < G.2.1 + 1 by omega) (by omega)]
        exact (gn_lt hlt).trans hx
      have n3 : H1.1 (K.2 3) = none := by
        rw [v6.2.2.2.2.2 (K.2 3) (show K.2 3 < G.2.1 + 1 by omega) (by omega)]
        exact (gn_lt (H := hH K N G B) (show K.2 3 < G.2.1 by omega)).trans hC.e
      have oA : ALo H1 (N + 1) (B.1 1 0) (B.1 1 1).toNat sh.length := keep hR.l1.o1
      have oR : ARR K H1 (B.1 1 1).toNat sh := by
        rcases hR.l1.2.2.1 with ⟨q1, q2, q3⟩ | ⟨q0, cap, f, q1, q2⟩
        · exact Or.inl ⟨q1, by rw [q1]; exact n3, q3⟩
        · exact Or.inr ⟨q0, cap, f, keep q1, q2⟩
      obtain ⟨H2, mcv, e', g1, g2, g3, g4, g5⟩ := w_156 (K := K) (d := d) (by omega) v6.hb (by have := v6.1; have : (gnew (hH K N G B) (.inr (4, [.null, .int (I 0), .null, .int (I 0), .null, .int (I 0), .int (I 0), .int (I 0), .null])) 9).2.1 = G.2.1 + 1 := rfl; omega) oA oR (by omega) (fun x hx => by
        obtain ⟨fs, hfs⟩ := hR.osh hx
        exact ⟨4, cl_of (keep hfs), by omega⟩) (v := G.2.1) ⟨4, cl_of v2, by omega⟩
      have cl1' := cl_of oA
      have h1n : G.2.1 + 1 ≤ H1.2.1 := v6.1
      have f2 : FR (LW (hH K N G B) (N + 1) (B.1 1 1).toNat) 1 200 H1 H2 := g5.mono (fun q hq hw => hw.imp_right (fun h => ⟨h.1, fun z => by
        rcases hR.l1.2.2.1 with ⟨q1, q2, q3⟩ | ⟨q0, cap, f, q1, q2⟩
        · exact h.2 (by rw [q1]; exact n3)
        · rw [q1] at z; cases z⟩))
      have hf := f1.tr f2
      have out : ∀ {x : Nat} {en : gE}, H1.1 x = some en → (∀ fs, en ≠ .inr (12, fs)) → (∀ y, en ≠ .inl (5, y)) → H2.1 x = some en := fun {x en} hx h12 h5 => by
        refine g5.at v6.hb hx ?_
        rintro (rfl | ⟨rfl, -⟩)
        · exact h12 _ (Option.some.inj (hx.symm.trans oA))
        · rcases oR with ⟨q1, q2, q3⟩ | ⟨q0, cap, f, q1, q2⟩
          · rw [hx] at q2; cases q2
          · exact h5 _ (Option.some.inj (hx.symm.trans q1))
      obtain ⟨lmc, le, ca, z1, z2, z3, z4, z5⟩ := v3
      obtain rfl : le = K.2 3 := z3
      have hs2 := out v2 (fun fs e => by cases e) (fun y e => by cases e)
      have hp2 : ALo H2 p lmc (K.2 3) ca.length := by
        refine g5.at v6.hb z1 ?_
        have : G.2.1 + 1 ≤ p := v7
        rintro (h | ⟨h, h'⟩)
        · omega
        · rcases oR with ⟨q1, q2, q3⟩ | ⟨q0, cap, f, q1, q2⟩
          · exact h' q2
          · rw [← h] at q1; cases q1.symm.trans z1
      have n32 : H2.1 (K.2 3) = none := by
        rw [g5.2.2.2.2.2 (K.2 3) (by omega) ?_]
        · exact n3
        · rintro (h | ⟨h, h'⟩)
          · omega
          · rw [← h] at h'; exact h' n3
      have ca0 : ca = [] := List.eq_nil_of_length_eq_zero z4
      subst ca0
      have hm2 : CE H2 mk 0 0 := out v4 (fun fs e => by cases e) (fun y e => by cases e)
      have hv2 : VAS (PD N) H2 vr [] 0 0 4 := by
        obtain ⟨vf, k1, k2⟩ := v5
        refine ⟨vf, out k1 (fun fs e => by cases e) (fun y e => by cases e), fun t mm a1 a2 a3 a4 => ?_⟩
        obtain ⟨va, k3, ra, ca, fr, fc, k4, k5, k6, k7, k8⟩ := k2 t mm a1 a2 a3 a4
        exact ⟨va, k3, ra, ca, fr, fc, out k4 (fun fs e => by cases e) (fun y e => by cases e), k5, out k6 (fun fs e => by cases e) (fun y e => by cases e), out k7 (fun fs e => by cases e) (fun y e => by cases e), k8⟩
      have hblk := hb.1 sh.length (show (B.1 198 7) ≤ sh.length by omega) (by omega)
      have hvlt : vr < H1.2.1 := by
        obtain ⟨vf, k1, -⟩ := v5
        exact v6.hb.lt k1
      have hplt : p < H1.2.1 := v6.hb.lt z1
      have es : ((B.1 198 7)).toNat = sh.length := by omega
      have aM : ∀ o j, (tw (sI (sA (sA (sI B 198 0 0) 200 ((B.1 198 7)).toNat ch) 201 ((B.1 198 7)).toNat pd) 198 7 ((B.1 198 7) + 1))).2 o j = if o = 201 ∧ j = sh.length then pd else if o = 200 ∧ j = sh.length then ch else B.2.1 o j := fun o j => by rw [← es]; rfl
      have aK : ∀ k, (tw (sI (sA (sA (sI B 198 0 0) 200 ((B.1 198 7)).toNat ch) 201 ((B.1 198 7)).toNat pd) 198 7 ((B.1 198 7) + 1))).1 k = if (198 : Nat) = 198 ∧ k = 7 then (B.1 198 7) + 1 else if (198 : Nat) = 198 ∧ k = 0 then 0 else B.1 198 k := fun k => rfl
      have b1 : (tw B).2 204 sh.length = -1 := hblk.1
      have b2' : (tw B).2 208 (2 * sh.length) = 0 := hblk.2.1
      have b3 : (tw B).2 208 (2 * sh.length + 1) = 0 := hblk.2.2.1
      have b4 : (tw B).2 207 sh.length = 0 := hblk.2.2.2.1
      have b5 : (tw B).2 205 sh.length = 0 := hblk.2.2.2.2.1
      have b6 : (tw B).2 206 sh.length = 0 := hblk.2.2.2.2.2.1
      generalize hMM : tw (sI (sA (sA (sI B 198 0 0) 200 ((B.1 198 7)).toNat ch) 201 ((B.1 198 7)).toNat pd) 198 7 ((B.1 198 7) + 1)) = MM at *
      have nM : ∀ o, 199 ≤ o → (o < 200 ∨ 201 < o) → MM.2 o = (tw B).2 o := fun o h1 h2 => funext fun j => by rw [aM, if_neg (by omega), if_neg (by omega)]
      obtain ⟨r1, r2⟩ := hR.shN (M' := MM) (p := p) (mk := mk) (vr := vr) (mc' := 0) (e' := e') hf g2 g3 (by
        rcases g4 with h | h
        · exact Or.inl h
        · exact Or.inr ⟨by omega, fun z => absurd hplt (by rw [← z, h]; exact Nat.lt_irrefl _), fun z => absurd hvlt (by rw [← z, h]; exact Nat.lt_irrefl _)⟩) (by
        unfold shF
        rw [nM 204 (by omega) (by omega), nM 208 (by omega) (by omega), nM 207 (by omega) (by omega), b1, b2', b3, b4, aM, aM, if_neg (by omega), if_pos ⟨rfl, rfl⟩, if_pos ⟨rfl, rfl⟩]
        exact hs2) ⟨lmc, K.2 3, [], hp2, Or.inl ⟨rfl, n32, rfl⟩, rfl, rfl, fun j c k q => by cases q⟩ (by rw [nM 205 (by omega) (by omega), nM 206 (by omega) (by omega), b5, b6]; exact hm2) (by rw [nM 205 (by omega) (by omega), nM 206 (by omega) (by omega), b5, b6]; exact hv2) v7 v8 (by omega) (fun k h1 h2 => by rw [aK, if_neg (by omega), if_neg (by omega)]) (by rw [aK, if_pos ⟨rfl, rfl⟩, e3]; rfl) nM (fun i hi => ⟨by rw [aM, if_neg (by omega), if_neg (by omega)], by rw [aM, if_neg (by omega), if_neg (by omega)]⟩) (hb.dl (show (B.1 198 7) ≤ sh.length by omega) (by omega))
      have w2 := w_110 (K := K) (d := d) (by omega) g2
      refine ⟨dn N H2, lB B 1 mcv e' (sh.length + 1), c_94 _ ?_, (AL.of hf).le (by omega) (by omega), lB_kp (by omega), fun _ => ⟨_, _, _, _, _, _, r2⟩⟩
      have o2 := cl_of g2
      rw [r1] at g1 w2 o2
      rw [hk, e3]
      have e5 : (((sh.length + 1 : Nat) : Int) - 1) = (sh.length : Int) := by omega
      unfold t_94_0
      simp (disch := omega) only [rI_d, rJ_d, rR_d, rN_d, wF_d, xI_d, xJ_d, xD_d, xQ_d, yI_d, yJ_d, yD_d, yQ_d, dI_s, dJ_s, dR_s, dN_s, dN_n, dH_s, dX_s, dL_s, dD_s, dQ_s, bC_r, bC_t, kI_s, kJ_s, kF_s, kD_s, kR_s, kV_s, I_lit, I_neg, I_add, I_sub, I_mul, I_ltT, I_ltF, I_leT, I_leF, I_eqT, I_eqF, c_int, c_long, c_obj, c_arr, c_bool, c_boolN, c_boolF, vn_bool, c_charN, vn_char, b2_f, b2_t, Int.toNat_natCast, ↓reduceIte, eq_self, and_self, and_true, true_and, not_false_eq_true, not_true_eq_false, L_0_0, L_0_1, L_0_2, L_0_3, L_0_4, L_0_5, L_0_6, L_0_7, L_0_8, L_0_9, L_0_10, L_0_11, L_0_12, L_0_13, L_0_14, L_0_15, C_0, L_1_0, L_1_1, L_1_2, C_1, L_2_0, L_2_1, L_2_2, C_2, L_3_0, L_3_1, L_3_2, C_3, L_65_0, L_65_1, L_65_2, L_65_3, L_65_4, C_65, L_66_0, L_66_1, L_66_2, L_66_3, C_66, L_129_0, L_129_1, L_129_2, L_129_3, C_129, L_198_0, L_198_1, L_198_2, L_198_3, L_198_4, L_198_5, L_198_6, L_198_7, L_198_8, L_198_9, L_198_10, L_198_11, L_198_12, L_198_13, L_198_14, L_198_15, L_198_16, L_198_17, L_198_18, L_198_19, L_198_20, L_198_21, L_198_22, L_198_23, L_198_24, L_198_25, L_198_26, L_198_27, L_198_28, L_198_29, L_198_30, L_198_31, L_198_32, L_198_33, L_198_34, L_198_35, L_198_36, L_198_37, L_198_38, L_198_39, L_198_40, L_198_41, L_198_42, L_198_43, L_198_44, L_198_45, L_198_46, L_198_47, L_198_48, C_198, A_199, A_200, A_201, A_202, A_203, A_204, A_205, A_206, A_207, A_208, A_209, A_210, A_211, A_212, A_213, A_214, A_215, A_216, A_217, A_218, A_219, A_220, A_221, A_222, A_223, A_224, A_225, A_226, A_227, A_228, A_128, A_191, A_rf, A_rs, A_rt, Q_4, Q_67, Q_130, t_94_0_1, t_94_0_2, t_94_0_3, t_94_0_4, t_94_0_5, t_94_0_6, t_94_0_7, t_94_0_8, t_94_0_9, t_94_0_10, t_94_0_11, t_94_0_12, t_94_0_13, t_94_0_14, t_94_0_15, iltT, iltF, ileT, ileF, ieqT, ieqF, cif_T, cif_F, not_true_eq_false, not_false_eq_true, or_true, or_false, true_or, false_or, false_and, and_false, ne_eq, w, s1, cl1, T1, v1, cl1', g1, w2, o2, e5, hG]
  · have hk : k_addShape (tw B) ch = 1 := by
      unfold k_addShape
      rw [cifT c1]
    have w := w_154F (K := K) (d := d) (H := hH K N G B) (by omega) hC.2.2.2.2.1 hC.2.2.2.2.2.1 hC.2.2.2.2.2.2.1 h1 c1
    refine ⟨G, B, c_94 _ ?_, AL.rf, KP.rf, fun h => absurd h (by rw [hk]; decide)⟩
    rw [hk]
    unfold t_94_0
    simp (disch := omega) only [rI_d, rJ_d, rR_d, rN_d, wF_d, xI_d, xJ_d, xD_d, xQ_d, yI_d, yJ_d, yD_d, yQ_d, dI_s, dJ_s, dR_s, dN_s, dN_n, dH_s, dX_s, dL_s, dD_s, dQ_s, bC_r, bC_t, kI_s, kJ_s, kF_s, kD_s, kR_s, kV_s, I_lit, I_neg, I_add, I_sub, I_mul, I_ltT, I_ltF, I_leT, I_leF, I_eqT, I_eqF, c_int, c_long, c_obj, c_arr, c_bool, c_boolN, c_boolF, vn_bool, c_charN, vn_char, b2_f, b2_t, Int.toNat_natCast, ↓reduceIte, eq_self, and_self, and_true, true_and, not_false_eq_true, not_true_eq_false, L_0_0, L_0_1, L_0_2, L_0_3, L_0_4, L_0_5, L_0_6, L_0_7, L_0_8, L_0_9, L_0_10, L_0_11, L_0_12, L_0_13, L_0_14, L_0_15, C_0, L_1_0, L_1_1, L_1_2, C_1, L_2_0, L_2_1, L_2_2, C_2, L_3_0, L_3_1, L_3_2, C_3, L_65_0, L_65_1, L_65_2, L_65_3, L_65_4, C_65, L_66_0, L_66_1, L_66_2, L_66_3, C_66, L_129_0, L_129_1, L_129_2, L_129_3, C_129, L_198_0, L_198_1, L_198_2, L_198_3, L_198_4, L_198_5, L_198_6, L_198_7, L_198_8, L_198_9, L_198_10, L_198_11, L_198_12, L_198_13, L_198_14, L_198_15, L_198_16, L_198_17, L_198_18, L_198_19, L_198_20, L_198_21, L_198_22, L_198_23, L_198_24, L_198_25, L_198_26, L_198_27, L_198_28, L_198_29, L_198_30, L_198_31, L_198_32, L_198_33, L_198_34, L_198_35, L_198_36, L_198_37, L_198_38, L_198_39, L_198_40, L_198_41, L_198_42, L_198_43, L_198_44, L_198_45, L_198_46, L_198_47, L_198_48, C_198, A_199, A_200, A_201, A_202, A_203, A_204, A_205, A_206, A_207, A_208, A_209, A_210, A_211, A_212, A_213, A_214, A_215, A_216, A_217, A_218, A_219, A_220, A_221, A_222, A_223, A_224, A_225, A_226, A_227, A_228, A_128, A_191, A_rf, A_rs, A_rt, Q_4, Q_67, Q_130, t_94_0_1, t_94_0_2, t_94_0_3, t_94_0_4, t_94_0_5, t_94_0_6, t_94_0_7, t_94_0_8, t_94_0_9, t_94_0_10, t_94_0_11, t_94_0_12, t_94_0_13, t_94_0_14, t_94_0_15, iltT, iltF, ileT, ileF, ieqT, ieqF, cif_T, cif_F, not_true_eq_false, not_false_eq_true, or_true, or_false, true_or, false_or, false_and, and_false, ne_eq, w, gjunk_hH]
    rfl
end
