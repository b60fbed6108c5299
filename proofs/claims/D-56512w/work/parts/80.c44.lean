/-! PURE 83: addStyle in the room -/
set_option maxRecDepth 100000
section
variable {K : gK} {d N : Nat} {G G' : gH} {B B' B0 : gB} {M M' : gM} {ro : Nat → Nat} {sh st pc : List Nat} {cs : Nat → List Nat} {ps : Nat → List (Nat × Int)} {H H' : gH} {m sl s : Nat}
theorem CR.ost (h : CR K N G B ro M sh st pc cs ps) {x : Nat} (hx : x ∈ st) : ∃ fs, (hH K N G B).1 x = some (.inr (8, fs)) := by
  obtain ⟨i, hi⟩ := List.mem_iff_getElem?.mp hx
  obtain ⟨p, mc, e, ca, h1, -⟩ := h.part hi
  exact ⟨_, h1⟩
theorem w_121 (hd : 9 ≤ d) (hw : MW B) (hb : BL (tw B)) (hR : CR K N G B ro (tw B) sh st pc cs ps) : ∃ G' B', gCa K d 121 [.ref N] (hH K N G B) =
    some (cif (k_addStyle (tw B) = 0) (.inl (some (.int (I ((B.1 198 28)))))) (.inr 1), hH K N G' B') ∧ KP B B' ∧ AL G G' 3 211 ∧
    (k_addStyle (tw B) = 0 → RM K N G' B' (tw (sI B 198 28 ((B.1 198 28) + 1)))) ∧ (k_addStyle (tw B) ≠ 0 → RM K N G' B' (tw B)) := by
  obtain ⟨d, rfl, hd'⟩ := d_succ (show 8 + 1 ≤ d by omega)
  have e3 : (B.1 198 28) = (st.length : Int) := hR.nn.2.1
  have q := mw_styles hw
  have h8 := h8_of hw hR
  have hC := hR.1
  have hN := hC.2.2.1
  have T1 := w_151T (K := K) (d := d) (H := hH K N G B) (by omega)
  have F1 := w_151F (K := K) (d := d) (H := hH K N G B) (by omega)
  have s2 := hR.s2 (d := d) (by omega)
  have cl2 := cl_of hR.l2.o2
  by_cases c2 : st.length = 4
  · have hk : k_addStyle (tw B) = 1 := by
      unfold k_addStyle
      rw [cifT (show (B.1 198 28) = 4 by omega)]
    refine ⟨gjunk G 6, B, c_121 _ ?_, KP.rf, AL.jk (by omega) (by omega), fun h => absurd h (by rw [hk]; decide), fun _ => ⟨_, _, _, _, _, _, hR.jk⟩⟩
    rw [hk, cifF (p := (1 : Int) = 0) (by omega)]
    unfold t_121_0
    simp (disch := omega) only [rI_d, rJ_d, rR_d, rN_d, wF_d, xI_d, xJ_d, xD_d, xQ_d, yI_d, yJ_d, yD_d, yQ_d, dI_s, dJ_s, dR_s, dN_s, dN_n, dH_s, dX_s, dL_s, dD_s, dQ_s, bC_r, bC_t, kI_s, kJ_s, kF_s, kD_s, kR_s, kV_s, I_lit, I_neg, I_add, I_sub, I_mul, I_ltT, I_ltF, I_leT, I_leF, I_eqT, I_eqF, c_int, c_long, c_obj, c_arr, c_bool, c_boolN, c_boolF, vn_bool, c_charN, vn_char, b2_f, b2_t, Int.toNat_natCast, ↓reduceIte, eq_self, and_self, and_true, true_and, not_false_eq_true, not_true_eq_false, L_0_0, L_0_1, L_0_2, L_0_3, L_0_4, L_0_5, L_0_6, L_0_7, L_0_8, L_0_9, L_0_10, L_0_11, L_0_12, L_0_13, L_0_14, L_0_15, C_0, L_1_0, L_1_1, L_1_2, C_1, L_2_0, L_2_1, L_2_2, C_2, L_3_0, L_3_1, L_3_2, C_3, L_65_0, L_65_1, L_65_2, L_65_3, L_65_4, C_65, L_66_0, L_66_1, L_66_2, L_66_3, C_66, L_129_0, L_129_1, L_129_2, L_129_3, C_129, L_198_0, L_198_1, L_198_2, L_198_3, L_198_4, L_198_5, L_198_6, L_198_7, L_198_8, L_198_9, L_198_10, L_198_11, L_198_12, L_198_13, L_198_14, L_198_15, L_198_16, L_198_17, L_198_18, L_198_19, L_198_20, L_198_21, L_198_22, L_198_23, L_198_24, L_198_25, L_198_26, L_198_27, L_198_28, L_198_29, L_198_30, L_198_31, L_198_32, L_198_33, L_198_34, L_198_35, L_198_36, L_198_37, L_198_38, L_198_39, L_198_40, L_198_41, L_198_42, L_198_43, L_198_44, L_198_45, L_198_46, L_198_47, L_198_48, C_198, A_199, A_200, A_201, A_202, A_203, A_204, A_205, A_206, A_207, A_208, A_209, A_210, A_211, A_212, A_213, A_214, A_215, A_216, A_217, A_218, A_219, A_220, A_221, A_222, A_223, A_224, A_225, A_226, A_227, A_228, A_128, A_191, A_rf, A_rs, A_rt, Q_4, Q_67, Q_130, t_121_0_1, t_121_0_2, t_121_0_3, t_121_0_4, t_121_0_5, t_121_0_6, t_121_0_7, t_121_0_8, t_121_0_9, t_121_0_10, t_121_0_11, t_121_0_12, t_121_0_13, t_121_0_14, s2, cl2, F1, gjunk_hH]
  · have hk : k_addStyle (tw B) = 0 := by
      unfold k_addStyle
      rw [cifF (show ¬ (B.1 198 28) = 4 by omega)]
    have hk3 := hC.2.2.2.1 3 (by omega)
    have hG : (hH K N G B).2.1 = G.2.1 := rfl
    have hnew : (gnew (hH K N G B) (.inr (8, [.null, .int (I 0)])) 2).1 G.2.1 = some (.inr (8, [.null, .int (I 0)])) := gn_eq
    have hn1 : (gnew (hH K N G B) (.inr (8, [.null, .int (I 0)])) 2).2.1 = G.2.1 + 1 := rfl
    obtain ⟨H1, v1, v2, v3, v4, v6⟩ := w_180 (K := K) (d := d) (H := gnew (hH K N G B) (.inr (8, [.null, .int (I 0)])) 2) (s := G.2.1) (by omega) hC.hb.new (by omega) ((gn_lt (H := hH K N G B) (show K.2 3 < G.2.1 by omega)).trans hC.e) hnew
    rw [hn1] at v2 v3
    have f1 : FR (LW (hH K N G B) (N + 2) (B.1 2 1).toNat) (1 + 1) (2 + 3) (hH K N G B) H1 := FR.new2 hC.hb v6
    have keep : ∀ {x : Nat} {en : gE}, (hH K N G B).1 x = some en → H1.1 x = some en := fun {x en} hx => by
      have hlt := hC.hb.lt hx
      rw [v6.2.2.2.2.2 x (show x < G.2.1 + 1 by omega) (by omega)]
      exact (gn_lt hlt).trans hx
    have oA : ALo H1 (N + 2) (B.1 2 0) (B.1 2 1).toNat st.length := keep hR.l2.o2
    have oR : ARR K H1 (B.1 2 1).toNat st := by
      rcases hR.l2.2.2.1 with ⟨q1, q2, q3⟩ | ⟨q0, cap, f, q1, q2⟩
      · exact Or.inl ⟨q1, by rw [q1]; exact v4, q3⟩
      · exact Or.inr ⟨q0, cap, f, keep q1, q2⟩
    have h1n : G.2.1 + 1 ≤ H1.2.1 := v6.1
    obtain ⟨H2, mcv, e', g1, g2, g3, g4, g5⟩ := w_156 (K := K) (d := d) (by omega) v6.hb (by omega) oA oR (by omega) (fun x hx => by
      obtain ⟨fs, hfs⟩ := hR.ost hx
      exact ⟨8, cl_of (keep hfs), by omega⟩) (v := G.2.1) ⟨8, cl_of v2, by omega⟩
    have cl2' := cl_of oA
    have f2 : FR (LW (hH K N G B) (N + 2) (B.1 2 1).toNat) 1 200 H1 H2 := g5.mono (fun q hq hw => hw.imp_right (fun h => ⟨h.1, fun z => by
      rcases hR.l2.2.2.1 with ⟨q1, q2, q3⟩ | ⟨q0, cap, f, q1, q2⟩
      · exact h.2 (by rw [q1]; exact v4)
      · rw [q1] at z; cases z⟩))
    have hf := f1.tr f2
    have hp2 : ALo H2 (G.2.1 + 1) 0 (K.2 3) 0 := by
      refine g5.at v6.hb v3 ?_
      rintro (h | ⟨h, h'⟩)
      · omega
      · rcases oR with ⟨q1, q2, q3⟩ | ⟨q0, cap, f, q1, q2⟩
        · exact h' q2
        · rw [← h] at q1; cases q1.symm.trans v3
    have hs2 : H2.1 G.2.1 = some (.inr (8, [.ref (G.2.1 + 1), .int (I 0)])) := by
      refine g5.at v6.hb v2 ?_
      rintro (h | ⟨h, h'⟩)
      · omega
      · rcases oR with ⟨q1, q2, q3⟩ | ⟨q0, cap, f, q1, q2⟩
        · exact h' q2
        · rw [← h] at q1; cases q1.symm.trans v2
    have n32 : H2.1 (K.2 3) = none := by
      rw [g5.2.2.2.2.2 (K.2 3) (by omega) ?_]
      · exact v4
      · rintro (h | ⟨h, h'⟩)
        · omega
        · rw [← h] at h'; exact h' v4
    have hplt : G.2.1 + 1 < H1.2.1 := v6.hb.lt v3
    have hblk := hb.2 st.length (show (B.1 198 28) ≤ st.length by omega) (by omega)
    have b1 : (tw B).2 219 st.length = 0 := hblk.1
    have aK : ∀ k, (tw (sI B 198 28 ((B.1 198 28) + 1))).1 k = if (198 : Nat) = 198 ∧ k = 28 then (B.1 198 28) + 1 else B.1 198 k := fun k => rfl
    have aM : ∀ o, (tw (sI B 198 28 ((B.1 198 28) + 1))).2 o = (tw B).2 o := fun o => rfl
    generalize hMM : tw (sI B 198 28 ((B.1 198 28) + 1)) = MM at *
    obtain ⟨r1, r2⟩ := hR.stN (M' := MM) (p := G.2.1 + 1) (mc' := 0) (e' := e') (lmc := 0) hf g2 g3 (by
      rcases g4 with h | h
      · exact Or.inl h
      · exact Or.inr ⟨by omega, fun z => absurd hplt (by rw [← z, h]; exact Nat.lt_irrefl _)⟩) (by rw [aM, b1]; exact hs2) hp2 n32 (by omega) (by omega) h8.1 (fun k h1 h2 => by rw [aK, if_neg (by omega)]) (by rw [aK, if_pos ⟨rfl, rfl⟩, e3]; rfl) (fun o _ => aM o) hblk.2
    have w2 := w_110 (K := K) (d := d) (by omega) g2
    refine ⟨dn N H2, lB B 2 mcv e' (st.length + 1), c_121 _ ?_, lB_kp (by omega), (AL.of hf).le (by omega) (by omega), fun _ => ⟨_, _, _, _, _, _, r2⟩, fun h => absurd hk h⟩
    have o2 := cl_of g2
    rw [r1] at g1 w2 o2
    rw [hk, cifT (p := (0 : Int) = 0) rfl, e3]
    have e5 : (((st.length + 1 : Nat) : Int) - 1) = (st.length : Int) := by omega
    unfold t_121_0
    simp (disch := omega) only [rI_d, rJ_d, rR_d, rN_d, wF_d, xI_d, xJ_d, xD_d, xQ_d, yI_d, yJ_d, yD_d, yQ_d, dI_s, dJ_s, dR_s, dN_s, dN_n, dH_s, dX_s, dL_s, dD_s, dQ_s, bC_r, bC_t, kI_s, kJ_s, kF_s, kD_s, kR_s, kV_s, I_lit, I_neg, I_add, I_sub, I_mul, I_ltT, I_ltF, I_leT, I_leF, I_eqT, I_eqF, c_int, c_long, c_obj, c_arr, c_bool, c_boolN, c_boolF, vn_bool, c_charN, vn_char, b2_f, b2_t, Int.toNat_natCast, ↓reduceIte, eq_self, and_self, and_true, true_and, not_false_eq_true, not_true_eq_false, L_0_0, L_0_1, L_0_2, L_0_3, L_0_4, L_0_5, L_0_6, L_0_7, L_0_8, L_0_9, L_0_10, L_0_11, L_0_12, L_0_13, L_0_14, L_0_15, C_0, L_1_0, L_1_1, L_1_2, C_1, L_2_0, L_2_1, L_2_2, C_2, L_3_0, L_3_1, L_3_2, C_3, L_65_0, L_65_1, L_65_2, L_65_3, L_65_4, C_65, L_66_0, L_66_1, L_66_2, L_66_3, C_66, L_129_0, L_129_1, L_129_2, L_129_3, C_129, L_198_0, L_198_1, L_198_2, L_198_3, L_198_4, L_198_5, L_198_6, L_198_7, L_198_8, L_198_9, L_198_10, L_198_11, L_198_12, L_198_13, L_198_14, L_198_15, L_198_16, L_198_17, L_198_18, L_198_19, L_198_20, L_198_21, L_198_22, L_198_23, L_198_24, L_198_25, L_198_26, L_198_27, L_198_28, L_198_29, L_198_30, L_198_31, L_198_32, L_198_33, L_198_34, L_198_35, L_198_36, L_198_37, L_198_38, L_198_39, L_198_40, L_198_41, L_198_42, L_198_43, L_198_44, L_198_45, L_198_46, L_198_47, L_198_48, C_198, A_199, A_200, A_201, A_202, A_203, A_204, A_205, A_206, A_207, A_208, A_209, A_210, A_211, A_212, A_213, A_214, A_215, A_216, A_217, A_218, A_219, A_220, A_221, A_222, A_223, A_224, A_225, A_226, A_227, A_228, A_128, A_191, A_rf, A_rs, A_rt, Q_4, Q_67, Q_130, t_121_0_1, t_121_0_2, t_121_0_3, t_121_0_4, t_121_0_5, t_121_0_6, t_121_0_7, t_121_0_8, t_121_0_9, t_121_0_10, t_121_0_11, t_121_0_12, t_121_0_13, t_121_0_14, s2, cl2, T1, v1, cl2', g1, w2, o2, e5, hG]
end
