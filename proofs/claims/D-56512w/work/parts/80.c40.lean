/-! PURE 79: takeOff -/
set_option maxRecDepth 100000
section
variable {K : gK} {d N : Nat} {G G' : gH} {B B' B0 B1 : gB} {M M' : gM} {ro : Nat → Nat} {sh st pc : List Nat} {cs : Nat → List Nat} {ps : Nat → List (Nat × Int)}
theorem GI.og (hw : MW B) (hg : GI B) : ∀ j : Nat, (j : Int) < (B.1 198 17) → marked (tw B) (B.2.1 210 j).toNat → 0 < B.2.1 217 (B.2.1 204 (B.2.1 210 j).toNat).toNat := fun j hj hm => by
  have h1 := mw_ofGroup hw (B.2.1 204 (B.2.1 210 j).toNat).toNat
  have h2 : B.2.1 217 (B.2.1 204 (B.2.1 210 j).toNat).toNat ≠ 0 := by
    rw [hg.2.2.1]
    exact fun z => (reO_z _).mp z j (by omega) ⟨hm, rfl⟩
  omega
theorem w_106 (hd : 8 ≤ d) (hw : MW B) (hg : GI B) (hR : CR K N G B ro (tw B) sh st pc cs ps) {p : Int} (h1 : R32 p) : ∃ G' B', gCa K d 106 [.ref N, .int (I p)] (hH K N G B) =
    some (cif (k_plc (tw B) p = 0) (.inl (some (.int (I (lng ((tkB B (plc (tw B) p).toNat).2.1 215)))))) (.inr 4), hH K N G' B') ∧ KP B B' ∧ AL G G' 1 6 ∧ (k_plc (tw B) p = 0 → RM K N G' B' (tw (tkB B (plc (tw B) p).toNat))) ∧ (k_plc (tw B) p ≠ 0 → RM K N G' B' (tw B)) := by
  obtain ⟨d, rfl, hd'⟩ := d_succ (show 7 + 1 ≤ d by omega)
  have hC := hR.1
  have bm := mw_many hw
  have bs := mw_shapes hw
  have e3 : (B.1 198 17) = (pc.length : Int) := hR.nn.2.2
  have e4 : (B.1 198 7) = (sh.length : Int) := hR.nn.1
  obtain ⟨q1, q2⟩ := w_174p (d := d) (by omega) hw hR hg.up h1
  have c0 : ∀ G B, g_cls (hH K N G B) N = some 0 := fun G B => cl_of (c := 0) (hH_x (B := B))
  by_cases e : plc (tw B) p = -1
  · have hk : k_plc (tw B) p = 1 := by
      unfold k_plc
      rw [cifT e]
    have w := q1 e
    refine ⟨gjunk G 6, B, c_106 _ ?_, KP.rf, AL.jk (by omega) (by omega), fun h => absurd h (by rw [hk]; decide), fun _ => ⟨_, _, _, _, _, _, hR.jk⟩⟩
    rw [hk, cifF (p := (1 : Int) = 0) (by omega)]
    unfold t_106_0
    simp (disch := omega) only [rI_d, rJ_d, rR_d, rN_d, wF_d, xI_d, xJ_d, xD_d, xQ_d, yI_d, yJ_d, yD_d, yQ_d, dI_s, dJ_s, dR_s, dN_s, dN_n, dH_s, dX_s, dL_s, dD_s, dQ_s, bC_r, bC_t, kI_s, kJ_s, kF_s, kD_s, kR_s, kV_s, I_lit, I_neg, I_add, I_sub, I_mul, I_ltT, I_ltF, I_leT, I_leF, I_eqT, I_eqF, c_int, c_long, c_obj, c_arr, c_bool, c_boolN, c_boolF, vn_bool, c_charN, vn_char, b2_f, b2_t, Int.toNat_natCast, ↓reduceIte, eq_self, and_self, and_true, true_and, not_false_eq_true, not_true_eq_false, L_0_0, L_0_1, L_0_2, L_0_3, L_0_4, L_0_5, L_0_6, L_0_7, L_0_8, L_0_9, L_0_10, L_0_11, L_0_12, L_0_13, L_0_14, L_0_15, C_0, L_1_0, L_1_1, L_1_2, C_1, L_2_0, L_2_1, L_2_2, C_2, L_3_0, L_3_1, L_3_2, C_3, L_65_0, L_65_1, L_65_2, L_65_3, L_65_4, C_65, L_66_0, L_66_1, L_66_2, L_66_3, C_66, L_129_0, L_129_1, L_129_2, L_129_3, C_129, L_198_0, L_198_1, L_198_2, L_198_3, L_198_4, L_198_5, L_198_6, L_198_7, L_198_8, L_198_9, L_198_10, L_198_11, L_198_12, L_198_13, L_198_14, L_198_15, L_198_16, L_198_17, L_198_18, L_198_19, L_198_20, L_198_21, L_198_22, L_198_23, L_198_24, L_198_25, L_198_26, L_198_27, L_198_28, L_198_29, L_198_30, L_198_31, L_198_32, L_198_33, L_198_34, L_198_35, L_198_36, L_198_37, L_198_38, L_198_39, L_198_40, L_198_41, L_198_42, L_198_43, L_198_44, L_198_45, L_198_46, L_198_47, L_198_48, C_198, A_199, A_200, A_201, A_202, A_203, A_204, A_205, A_206, A_207, A_208, A_209, A_210, A_211, A_212, A_213, A_214, A_215, A_216, A_217, A_218, A_219, A_220, A_221, A_222, A_223, A_224, A_225, A_226, A_227, A_228, A_128, A_191, A_rf, A_rs, A_rt, Q_4, Q_67, Q_130, t_106_0_1, t_106_0_2, t_106_0_3, t_106_0_4, t_106_0_5, t_106_0_6, c0, w]
  · have hk : k_plc (tw B) p = 0 := by
      unfold k_plc
      rw [cifF e]
    obtain ⟨a, ha, w⟩ := q2 e
    rw [hk, cifT (p := (0 : Int) = 0) rfl]
    have hil := (List.getElem?_eq_some_iff.mp ha).1
    generalize (plc (tw B) p).toNat = i at *
    have hcls : ∀ j x, pc[j]? = some x → g_cls (hH K N G B) x = some 7 := fun j x hx => by
      obtain ⟨b, -, hb⟩ := hR.pp hx
      exact cl_of hb
    have hne : ∀ j, j < i → pc[j]? ≠ some a := fun j hj hx => by
      obtain ⟨b, -, hb⟩ := hR.pp hx
      obtain ⟨b', -, hb'⟩ := hR.pp ha
      have z := hb.symm.trans hb'
      injection z with z
      injection z with z
      injection z with z1 z2
      injection z2 with z3 z4
      injection z3 with z5
      have n1 := mw_number hw j
      have n2 := mw_number hw i
      have n3 := hg.up i j (show (i : Int) < (B.1 198 17) by omega) hj
      have n4 : B.2.1 209 j < B.2.1 209 i := n3
      have z6 : I (B.2.1 209 j) = I (B.2.1 209 i) := z5
      rw [I_eqF (by omega)] at z6
      exact z6
    obtain ⟨H1, mcv, w1, a1, a2, hf⟩ := w_175 (K := K) (d := d) (by omega) hC.hb hR.l3.o3 hR.l3.2.2.1 (by omega) ha hne (hcls i a ha) (fun x hx => by
      obtain ⟨j, hj⟩ := List.mem_iff_getElem?.mp hx
      exact ⟨7, hcls j x hj, by omega⟩)
    have hf1 : FR (LW (hH K N G B) (N + 3) (B.1 3 1).toNat) 0 0 (hH K N G B) H1 := hf.mono (fun q _ hq => hq.imp_right (fun h => ⟨h, by
      rcases hR.l3.2.2.1 with ⟨z1, z2, z3⟩ | ⟨z0, cap, f, z1, z2⟩
      · rw [z3] at hil; exact absurd hil (by simp)
      · rw [z1]; exact fun z => by cases z⟩))
    obtain ⟨r1, r2⟩ := relist (Or.inr (Or.inr rfl)) hC hR.l3 hf1 a1
    have hAL := AL.of hf1
    rw [r1] at hf1 a2 w1
    have hle : (pc.eraseIdx i).length = pc.length - 1 := by rw [List.length_eraseIdx, if_pos hil]
    obtain ⟨f1, f2, f3, f4⟩ := hR.fo (ro' := ro) (o1 := 3) hf1 (fun q hq => by
      rcases hq with rfl | ⟨rfl, h0⟩
      · exact Or.inl (by omega)
      · have := hR.l3.arr hC h0
        exact Or.inr ⟨this.2.1, this.2.2.1⟩) (fun _ _ => rfl)
    have n3 : CL K N (dn N H1) (lB B 3 mcv (B.1 3 1).toNat (pc.eraseIdx i).length) ro 3 (pc.eraseIdx i) := CL.new a2 (by rw [hle]) hR.l3.2.2.2
    rw [hle] at n3
    have k1 : ∀ o k, o ≠ 3 → (lB B 3 mcv (B.1 3 1).toNat (pc.length - 1)).1 o k = B.1 o k := fun o k h => lB_ne h
    have k2 : ∀ o j, (lB B 3 mcv (B.1 3 1).toNat (pc.length - 1)).2.1 o j = B.2.1 o j := fun _ _ => rfl
    have k3 : (lB B 3 mcv (B.1 3 1).toNat (pc.length - 1)).2.2 = B.2.2 := rfl
    generalize lB B 3 mcv (B.1 3 1).toNat (pc.length - 1) = B1 at *
    generalize dn N H1 = G1 at *
    have hwt := tkB_b hw (show (i : Int) < (B.1 198 17) by omega) (GI.og hw hg i (by omega))
    have hgt := GI.tk hw hg (show (i : Int) < (B.1 198 17) by omega)
    obtain ⟨hO, -⟩ := OFF_tk hw (show (i : Int) < (B.1 198 17) by omega)
    have m1 : ∀ k, k ≠ 17 → (tkB B i).1 198 k = B.1 198 k := fun k h => tkB_f (Or.inr h)
    have m2 : ∀ o, (o < 209 ∨ o = 216 ∨ 217 < o) → (tkB B i).2.1 o = B.2.1 o := fun o h => tkB_a h
    have m3 : (tkB B i).1 198 17 = (B.1 198 17) - 1 := tkB_many
    have hatt : ∀ j : Nat, (j : Int) < (B.1 198 17) - 1 → PE (tw B) (tw (tkB B i)) (if j < i then j else j + 1) j := fun j hj => hO.at hj
    generalize tkB B i = Bt at *
    have hR1 : CR K N G1 B1 ro (shM (tw Bt) (B.2.1 215) (rmT (tw B))) sh st (pc.eraseIdx i) cs ps := by
      obtain ⟨s1, s2, s3, s4, s5, s6, s7, s8, s9⟩ := hR.2.1
      obtain ⟨t1, t2, t3⟩ := hR.2.2.1
      have z2 : ∀ o, 199 ≤ o → (o < 209 ∨ 217 < o) → (shM (tw Bt) (B.2.1 215) (rmT (tw B))).2 o = (tw B).2 o := fun o h1 h2 => by
        show (if o = 215 then B.2.1 215 else if o = 216 then rmT (tw B) else if o = 217 then (fun _ => 1) else Bt.2.1 o) = B.2.1 o
        rw [if_neg (by omega), if_neg (by omega), if_neg (by omega), m2 o (by omega)]
      have z1 : ∀ k, k ≠ 17 → (shM (tw Bt) (B.2.1 215) (rmT (tw B))).1 k = (tw B).1 k := m1
      refine ⟨r2, ⟨?_, ?_, ?_, ?_, ?_, ?_, ?_, ?_, fun R C h1 h2 => ?_⟩, ⟨fun R C h1 h2 => (k2 _ _).trans (t1 R C h1 h2), fun g hg => (k2 _ _).trans (t2 g hg), (k1 66 2 (by omega)).trans t3⟩, f4 1 sh (by omega) hR.l1 (k1 _ _ (by omega)) (k1 _ _ (by omega)), f4 2 st (by omega) hR.l2 (k1 _ _ (by omega)) (k1 _ _ (by omega)), n3, ⟨?_, ?_, ?_⟩, fun j x hx => ⟨(f1 j x hx (by omega)).se (SE.of (fun o h1 h2 => z2 o (by omega) (by omega))), ?_⟩, fun j x hx => ⟨(f2 j x hx (by omega)).se (by rw [z2 219 (by omega) (by omega)]), (hR.sy hx).2.se (fun z _ => by rw [z2 218 (by omega) (by omega)]) (by omega)⟩, fun j x hx => ?_⟩
      · rw [k1 0 8 (by omega), z1 1 (by omega)]; exact s1
      · rw [k1 0 9 (by omega), z1 2 (by omega)]; exact s2
      · rw [k1 0 10 (by omega), z1 3 (by omega)]; exact s3
      · rw [k1 0 11 (by omega), z1 4 (by omega)]; exact s4
      · rw [k1 0 12 (by omega), z1 5 (by omega)]; exact s5
      · rw [k1 0 13 (by omega), z1 18 (by omega)]; exact s6
      · rw [k1 0 14 (by omega), z1 31 (by omega)]; exact s7
      · rw [k1 0 15 (by omega), z1 32 (by omega)]; exact s8
      · rw [k2, z2 199 (by omega) (by omega)]; exact s9 R C h1 h2
      · rw [z1 7 (by omega)]; exact hR.nn.1
      · rw [z1 28 (by omega)]; exact hR.nn.2.1
      · show Bt.1 198 17 = _
        rw [m3, hle]; omega
      · rw [dl_e (z2 202 (by omega) (by omega))]; exact (hR.sp hx).2
      · have hjl : j < pc.length - 1 := by have := (List.getElem?_eq_some_iff.mp hx).1; omega
        rw [List.getElem?_eraseIdx] at hx
        have hPE := hatt j (by omega)
        by_cases z : j < i
        · rw [if_pos z] at hx hPE
          exact (f3 j x hx).se hPE
        · rw [if_neg z] at hx hPE
          exact (f3 (j + 1) x hx).se hPE
    have hmt : (Bt.1 198 17).toNat = (pc.eraseIdx i).length := by rw [m3, hle]; omega
    obtain ⟨B2, w2, v1, v2⟩ := w_176 (d := d) (by omega) hwt hR1 (fun j hj => (hgt.2.2.2 j (by omega)).1)
    rw [← hmt, ← hgt.1, ← hgt.2.1] at v2
    have hcc := cl_of hR.l3.o3
    have el := v2.2.2
    have hfin : CR K N G1 B2 ro (tw Bt) sh st (pc.eraseIdx i) cs ps := by
      refine hR1.ln (m := 0) (s := 0) (FR.ln r2) r2 ⟨v1.1 _ _ (by omega) (by omega), v1.1 _ _ (by omega) (by omega)⟩ ⟨v1.1 _ _ (by omega) (by omega), v1.1 _ _ (by omega) (by omega)⟩ ⟨v1.1 _ _ (by omega) (by omega), v1.1 _ _ (by omega) (by omega)⟩ ⟨fun o ho => ?_, rfl, rfl, rfl⟩ ?_ v2
      · show Bt.2.1 o = (if o = 215 then B.2.1 215 else if o = 216 then rmT (tw B) else if o = 217 then (fun _ => 1) else Bt.2.1 o)
        rw [if_neg (by omega), if_neg (by omega), if_neg (by omega)]
      · obtain ⟨s1, s2, s3, s4, s5, s6, s7, s8, s9⟩ := hR1.2.1
        exact ⟨(v1.1 _ _ (by omega) (by omega)).trans s1, (v1.1 _ _ (by omega) (by omega)).trans s2, (v1.1 _ _ (by omega) (by omega)).trans s3, (v1.1 _ _ (by omega) (by omega)).trans s4, (v1.1 _ _ (by omega) (by omega)).trans s5, (v1.1 _ _ (by omega) (by omega)).trans s6, (v1.1 _ _ (by omega) (by omega)).trans s7, (v1.1 _ _ (by omega) (by omega)).trans s8, fun R C h1 h2 => (v1.2.1 _ _ (by omega)).trans (s9 R C h1 h2)⟩
    refine ⟨G1, B2, c_106 _ ?_, KP.tr ⟨fun o k h => k1 o k (by omega), fun o j _ => k2 o j, k3⟩ v1.kp, hAL.le (by omega) (by omega), fun _ => ⟨_, _, _, _, _, _, hfin⟩, fun h => absurd rfl h⟩
    unfold t_106_0
    simp (disch := omega) only [rI_d, rJ_d, rR_d, rN_d, wF_d, xI_d, xJ_d, xD_d, xQ_d, yI_d, yJ_d, yD_d, yQ_d, dI_s, dJ_s, dR_s, dN_s, dN_n, dH_s, dX_s, dL_s, dD_s, dQ_s, bC_r, bC_t, kI_s, kJ_s, kF_s, kD_s, kR_s, kV_s, I_lit, I_neg, I_add, I_sub, I_mul, I_ltT, I_ltF, I_leT, I_leF, I_eqT, I_eqF, c_int, c_long, c_obj, c_arr, c_bool, c_boolN, c_boolF, vn_bool, c_charN, vn_char, b2_f, b2_t, Int.toNat_natCast, ↓reduceIte, eq_self, and_self, and_true, true_and, not_false_eq_true, not_true_eq_false, L_0_0, L_0_1, L_0_2, L_0_3, L_0_4, L_0_5, L_0_6, L_0_7, L_0_8, L_0_9, L_0_10, L_0_11, L_0_12, L_0_13, L_0_14, L_0_15, C_0, L_1_0, L_1_1, L_1_2, C_1, L_2_0, L_2_1, L_2_2, C_2, L_3_0, L_3_1, L_3_2, C_3, L_65_0, L_65_1, L_65_2, L_65_3, L_65_4, C_65, L_66_0, L_66_1, L_66_2, L_66_3, C_66, L_129_0, L_129_1, L_129_2, L_129_3, C_129, L_198_0, L_198_1, L_198_2, L_198_3, L_198_4, L_198_5, L_198_6, L_198_7, L_198_8, L_198_9, L_198_10, L_198_11, L_198_12, L_198_13, L_198_14, L_198_15, L_198_16, L_198_17, L_198_18, L_198_19, L_198_20, L_198_21, L_198_22, L_198_23, L_198_24, L_198_25, L_198_26, L_198_27, L_198_28, L_198_29, L_198_30, L_198_31, L_198_32, L_198_33, L_198_34, L_198_35, L_198_36, L_198_37, L_198_38, L_198_39, L_198_40, L_198_41, L_198_42, L_198_43, L_198_44, L_198_45, L_198_46, L_198_47, L_198_48, C_198, A_199, A_200, A_201, A_202, A_203, A_204, A_205, A_206, A_207, A_208, A_209, A_210, A_211, A_212, A_213, A_214, A_215, A_216, A_217, A_218, A_219, A_220, A_221, A_222, A_223, A_224, A_225, A_226, A_227, A_228, A_128, A_191, A_rf, A_rs, A_rt, Q_4, Q_67, Q_130, t_106_0_1, t_106_0_2, t_106_0_3, t_106_0_4, t_106_0_5, t_106_0_6, c0, w, hcc, w1, w2, el]
end
