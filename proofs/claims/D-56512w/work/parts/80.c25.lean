/-! PURE 64: addCell and setMark in the room -/
set_option maxRecDepth 100000
section
variable {K : gK} {d N : Nat} {G G' : gH} {B B' : gB} {M : gM} {ro : Nat → Nat} {sh st pc : List Nat} {cs : Nat → List Nat} {ps : Nat → List (Nat × Int)} {H' : gH} {m sl : Nat}
/-- the room when one shape changed -/
theorem CR.shp {s a : Nat} {cl : List Nat} {M' : gM} (h : CR K N G B (roZ N ro) M sh st pc cs ps) (ha : sh[s]? = some a) (hf : FR (WO (hH K N G B) (roZ N ro) (10 + s)) m sl (hH K N G B) H') (hS : SHP K (PD N) H' (roN (hH K N G B) (roZ N ro) (10 + s)) a s M' cl) (hp : cl.Perm (dl M' s)) (hM1 : ∀ k, k ≠ 0 → M'.1 k = M.1 k) (hM2 : ∀ o, 199 ≤ o → (o < 200 ∨ 208 < o) → M'.2 o = M.2 o) (hSE : ∀ i, i ≠ s → SE M M' i) (hdl : ∀ i, i ≠ s → dl M' i = dl M i) (h8 : sh.length ≤ 8) :
    H' = hH K N (dn N H') B ∧ CR K N (dn N H') B (roN (hH K N G B) (roZ N ro) (10 + s)) M' sh st pc (fun j => if j = s then cl else cs j) ps := by
  obtain ⟨r1, r2, f1, f2, f3, f4⟩ := h.own (CR.zo h.1 (by omega)) hf
  obtain ⟨q1, q2, q3, q4, q5, q6, q7, q8, q9, q10⟩ := h
  refine ⟨r1, r2, ?_, ?_, f4 1 sh (by omega) q4, f4 2 st (by omega) q5, f4 3 pc (by omega) q6, ?_, fun i a' hi => ?_, fun i a' hi => ?_, fun j a' hj => ?_⟩
  · unfold CS at q2 ⊢
    rw [hM1 1 (by decide), hM1 2 (by decide), hM1 3 (by decide), hM1 4 (by decide), hM1 5 (by decide), hM1 18 (by decide), hM1 31 (by decide), hM1 32 (by decide), hM2 199 (by decide) (by omega)]
    exact q2
  · have e : rmT M' = rmT M := by
      unfold rmT
      rw [hM2 217 (by decide) (by omega), hM2 216 (by decide) (by omega)]
    rw [hM2 215 (by decide) (by omega), e]
    exact q3
  · rw [hM1 7 (by decide), hM1 28 (by decide), hM1 17 (by decide)]; exact q7
  · rw [← r1]
    dsimp only
    by_cases e : i = s
    · subst e
      rw [if_pos rfl]
      cases hi.symm.trans ha
      exact ⟨hS, hp⟩
    · rw [if_neg e, hdl i e]
      exact ⟨(f1 i a' hi (by omega)).se (hSE i e), (q8 i a' hi).2⟩
  · rw [← r1]
    exact ⟨(f2 i a' hi (by have := (List.getElem?_eq_some_iff.mp ha).1; omega)).se (by rw [hM2 219 (by decide) (by omega)]), (q9 i a' hi).2.se (fun s _ => by rw [hM2 218 (by decide) (by omega)]) h8⟩
  · rw [← r1]
    exact (f3 j a' hj).se (PE.of (fun o h1 h2 => hM2 o (by omega) (by omega)))
theorem w_95 (hd : 9 ≤ d) (hi : MI B) (hR : CR K N G B ro (tw B) sh st pc cs ps) {s r c : Int} (h1 : R32 s) (h2 : R32 r) (h3 : R32 c) : ∃ G', gCa K d 95 [.ref N, .int (I s), .int (I r), .int (I c)] (hH K N G B) =
    some (cif (k_addCell (tw B) s r c = 0) (.inl (some (.int (I (B.2.1 203 s.toNat + 1)))), hH K N G' B) (.inr (exC (k_addCell (tw B) s r c)), hH K N (gjunk G 6) B)) ∧ AL G G' 858 2626 ∧
    (k_addCell (tw B) s r c = 0 → RM K N G' B (tw (sA (sA (sI B 198 0 0) 202 (25 * s + 5 * r + c).toNat 1) 203 s.toNat (B.2.1 203 s.toNat + 1)))) := by
  obtain ⟨d, rfl, hd'⟩ := d_succ (show 8 + 1 ≤ d by omega)
  have hw := hi.1
  have e3 : (B.1 198 7) = (sh.length : Int) := hR.nn.1
  have q := mw_shapes hw
  have hR := hR.z
  generalize hro : roZ N ro = roz at hR
  have T0 := w_149T (K := K) (d := d) (H := hH K N G B) (by omega)
  have F0 := w_149F (K := K) (d := d) (H := hH K N G B) (by omega)
  have T1 := w_151T (K := K) (d := d) (H := hH K N G B) (by omega)
  have F1 := w_151F (K := K) (d := d) (H := hH K N G B) (by omega)
  have T2 := w_153T (K := K) (d := d) (H := hH K N G B) (by omega)
  have F2 := w_153F (K := K) (d := d) (H := hH K N G B) (by omega)
  by_cases c1 : 0 ≤ s ∧ s ≤ (B.1 198 7) - 1
  · obtain ⟨a, ha⟩ := at_lt (show s.toNat < sh.length by omega)
    have w := w_157 (d := d) (by omega) hR (by omega) c1.1 ha
    have hS := hR.sp ha
    have h25 := hR.cs25 ha
    have ca : g_cls (hH K N G B) a = some 4 := by
      obtain ⟨⟨p, mk, vr, h1, -⟩, -⟩ := hS
      exact cl_of h1
    have ew : g_gf (hH K N G B) a 4 7 = some (.int (I (B.2.1 207 s.toNat))) := by
      obtain ⟨⟨p, mk, vr, h1, -⟩, -⟩ := hS
      exact (sh_rd h1).2.2.2.2.2.2.2.2.1
    have bw := mw_everCut hw s.toNat
    have w1 := w_158 (K := K) (d := d) (H := hH K N G B) (by omega) h2 h3
    by_cases c2 : (0 ≤ r ∧ r ≤ 4) ∧ (0 ≤ c ∧ c ≤ 4)
    · rw [b2T c2] at w1
      have w2 := w_159 (K := K) (d := d) (by omega) hS.1 h25.1 h25.2 h2 h3
      have hdr := drawn_cs hS.2 c2.1 c2.2
      rw [show (s.toNat : Int) = s by omega] at hdr
      by_cases c3 : B.2.1 202 (25 * s + 5 * r + c).toNat = 0
      · rw [b2F (fun h => hdr.mp h c3)] at w2
        have w3 := w_160 (d := d) (by omega) hw hR ha
        rw [show ((s.toNat : Nat) : Int) = s by omega] at w3
        by_cases c4 : laid (tw B) s
        · rw [b2T c4] at w3
          have hk : k_addCell (tw B) s r c = 4 := by
            unfold k_addCell
            rw [cifF (fun h => h c1), cifF (fun h => h c2), cifF (fun h => h c3), cifT (Or.inl c4)]
          refine ⟨G, c_95 _ ?_, AL.rf, fun h => absurd h (by rw [hk]; decide)⟩
          rw [hk]
          unfold t_95_0
          simp (disch := omega) only [rI_d, rJ_d, rR_d, rN_d, wF_d, xI_d, xJ_d, xD_d, xQ_d, yI_d, yJ_d, yD_d, yQ_d, dI_s, dJ_s, dR_s, dN_s, dN_n, dH_s, dX_s, dL_s, dD_s, dQ_s, bC_r, bC_t, kI_s, kJ_s, kF_s, kD_s, kR_s, kV_s, I_lit, I_neg, I_add, I_sub, I_mul, I_ltT, I_ltF, I_leT, I_leF, I_eqT, I_eqF, c_int, c_long, c_obj, c_arr, c_bool, c_boolN, c_boolF, vn_bool, c_charN, vn_char, b2_f, b2_t, Int.toNat_natCast, ↓reduceIte, eq_self, and_self, and_true, true_and, not_false_eq_true, not_true_eq_false, L_0_0, L_0_1, L_0_2, L_0_3, L_0_4, L_0_5, L_0_6, L_0_7, L_0_8, L_0_9, L_0_10, L_0_11, L_0_12, L_0_13, L_0_14, L_0_15, C_0, L_1_0, L_1_1, L_1_2, C_1, L_2_0, L_2_1, L_2_2, C_2, L_3_0, L_3_1, L_3_2, C_3, L_65_0, L_65_1, L_65_2, L_65_3, L_65_4, C_65, L_66_0, L_66_1, L_66_2, L_66_3, C_66, L_129_0, L_129_1, L_129_2, L_129_3, C_129, L_198_0, L_198_1, L_198_2, L_198_3, L_198_4, L_198_5, L_198_6, L_198_7, L_198_8, L_198_9, L_198_10, L_198_11, L_198_12, L_198_13, L_198_14, L_198_15, L_198_16, L_198_17, L_198_18, L_198_19, L_198_20, L_198_21, L_198_22, L_198_23, L_198_24, L_198_25, L_198_26, L_198_27, L_198_28, L_198_29, L_198_30, L_198_31, L_198_32, L_198_33, L_198_34, L_198_35, L_198_36, L_198_37, L_198_38, L_198_39, L_198_40, L_198_41, L_198_42, L_198_43, L_198_44, L_198_45, L_198_46, L_198_47, L_198_48, C_198, A_199, A_200, A_201, A_202, A_203, A_204, A_205, A_206, A_207, A_208, A_209, A_210, A_211, A_212, A_213, A_214, A_215, A_216, A_217, A_218, A_219, A_220, A_221, A_222, A_223, A_224, A_225, A_226, A_227, A_228, A_128, A_191, A_rf, A_rs, A_rt, Q_4, Q_67, Q_130, t_95_0_1, t_95_0_2, t_95_0_3, t_95_0_4, t_95_0_5, t_95_0_6, t_95_0_7, t_95_0_8, t_95_0_9, t_95_0_10, t_95_0_11, t_95_0_12, t_95_0_13, t_95_0_14, t_95_0_15, t_95_0_16, t_95_0_17, t_95_0_18, t_95_0_19, t_95_0_20, t_95_0_21, t_95_0_22, t_95_0_23, t_95_0_24, t_95_0_25, t_95_0_26, t_95_0_27, t_95_0_28, t_95_0_29, t_95_0_30, t_95_0_31, t_95_0_32, t_95_0_33, t_95_0_34, t_95_0_35, t_95_0_36, t_95_0_37, t_95_0_38, t_95_0_39, t_95_0_40, t_95_0_41, t_95_0_42, t_95_0_43, t_95_0_44, t_95_0_45, t_95_0_46, t_95_0_47, t_95_0_48, t_95_0_49, t_95_0_50, t_95_0_51, t_95_0_52, iltT, iltF, ileT, ileF, ieqT, ieqF, cif_T, cif_F, not_true_eq_false, not_false_eq_true, or_true, or_false, true_or, false_or, false_and, and_false, ne_eq, w, w1, ca, w2, w3, T0, T2, F1, gjunk_hH]
          rfl
        · rw [b2F c4] at w3
          by_cases c5 : B.2.1 207 s.toNat = 0
          · have hk : k_addCell (tw B) s r c = 0 := by
              unfold k_addCell
              rw [cifF (fun h => h c1), cifF (fun h => h c2), cifF (fun h => h c3), cifF (by rintro (h | h); exact c4 h; exact h c5)]
            have ek : (25 * s + 5 * r + c).toNat = 25 * s.toNat + (5 * r + c).toNat := by omega
            have hD := dl_set (M := tw B) (M' := tw (sA (sA (sI B 198 0 0) 202 (25 * s + 5 * r + c).toNat 1) 203 s.toNat (B.2.1 203 s.toNat + 1))) (s := s.toNat) (k := (5 * r + c).toNat) (fun j => by
              rw [← ek]
              show (if 202 = 203 ∧ j = s.toNat then (B.2.1 203 s.toNat + 1 : Int) else if 202 = 202 ∧ j = (25 * s + 5 * r + c).toNat then (1 : Int) else B.2.1 202 j) = _
              rw [if_neg (by omega)]
              by_cases e : j = (25 * s + 5 * r + c).toNat
              · rw [if_pos ⟨rfl, e⟩, if_pos e]
              · rw [if_neg (fun h => e h.2), if_neg e]) (by omega) (by rw [← ek]; exact c3)
            have h24 : (cs s.toNat).length ≤ 24 := by
              have h5 := (hS.2.append_right [(5 * r + c).toNat]).trans hD.2
              have := h5.length_eq
              rw [List.length_append] at this
              have h6 := dl_len (M := tw (sA (sA (sI B 198 0 0) 202 (25 * s + 5 * r + c).toNat 1) 203 s.toNat (B.2.1 203 s.toNat + 1))) (i := s.toNat)
              have h7 : [(5 * r + c).toNat].length = 1 := rfl
              omega
            have hC := hR.1
            have hN := hC.2.2.1
            have hk3 := hC.2.2.2.1 3 (by omega)
            obtain ⟨p, H2, H3, v1, v2, v3, v4, v5, v6, v7, v8, v9, v10⟩ := grow (K := K) (d := d) (H := hH K N G B) (by omega) (P := PD N) (fun x hx => Nat.le_trans hN hx) hC.hb (show K.2 3 < G.2.1 by omega) hC.e hS.1 h24 h25.2 c2.1 c2.2
            have wc := mkCell (K := K) (d := d) (H := hH K N G B) (r := r) (c := c) (by omega)
            have es : ((cs s.toNat).length : Int) = B.2.1 203 s.toNat := by
              rw [hi.2.1 s.toNat (by omega), hS.2.length_eq]
            rw [es] at v8
            subst hro
            obtain ⟨r1, r2⟩ := hR.shp ha v9 (v10.se (M' := tw (sA (sA (sI B 198 0 0) 202 (25 * s + 5 * r + c).toNat 1) 203 s.toNat (B.2.1 203 s.toNat + 1))) ⟨rfl, rfl, rfl, rfl, rfl, rfl, rfl, rfl⟩) ((hS.2.append_right _).trans hD.2) (fun k hk => sI_ne (Or.inr hk)) (fun o h1 h2 => funext fun j => (if_neg (by omega)).trans (if_neg (by omega))) (fun i _ => ⟨rfl, rfl, rfl, rfl, rfl, rfl, rfl, rfl⟩) hD.1 (by omega)
            refine ⟨dn N H3, c_95 _ ?_, AL.of v9, fun _ => ⟨_, _, _, _, _, _, r2⟩⟩
            rw [hk, ← r1]
            unfold t_95_0
            have e0 : g_gf (hH K N G B) a 4 7 = some (.int (I 0)) := by rw [ew, c5]
            simp (disch := omega) only [rI_d, rJ_d, rR_d, rN_d, wF_d, xI_d, xJ_d, xD_d, xQ_d, yI_d, yJ_d, yD_d, yQ_d, dI_s, dJ_s, dR_s, dN_s, dN_n, dH_s, dX_s, dL_s, dD_s, dQ_s, bC_r, bC_t, kI_s, kJ_s, kF_s, kD_s, kR_s, kV_s, I_lit, I_neg, I_add, I_sub, I_mul, I_ltT, I_ltF, I_leT, I_leF, I_eqT, I_eqF, c_int, c_long, c_obj, c_arr, c_bool, c_boolN, c_boolF, vn_bool, c_charN, vn_char, b2_f, b2_t, Int.toNat_natCast, ↓reduceIte, eq_self, and_self, and_true, true_and, not_false_eq_true, not_true_eq_false, L_0_0, L_0_1, L_0_2, L_0_3, L_0_4, L_0_5, L_0_6, L_0_7, L_0_8, L_0_9, L_0_10, L_0_11, L_0_12, L_0_13, L_0_14, L_0_15, C_0, L_1_0, L_1_1, L_1_2, C_1, L_2_0, L_2_1, L_2_2, C_2, L_3_0, L_3_1, L_3_2, C_3, L_65_0, L_65_1, L_65_2, L_65_3, L_65_4, C_65, L_66_0, L_66_1, L_66_2, L_66_3, C_66, L_129_0, L_129_1, L_129_2, L_129_3, C_129, L_198_0, L_198_1, L_198_2, L_198_3, L_198_4, L_198_5, L_198_6, L_198_7, L_198_8, L_198_9, L_198_10, L_198_11, L_198_12, L_198_13, L_198_14, L_198_15, L_198_16, L_198_17, L_198_18, L_198_19, L_198_20, L_198_21, L_198_22, L_198_23, L_198_24, L_198_25, L_198_26, L_198_27, L_198_28, L_198_29, L_198_30, L_198_31, L_198_32, L_198_33, L_198_34, L_198_35, L_198_36, L_198_37, L_198_38, L_198_39, L_198_40, L_198_41, L_198_42, L_198_43, L_198_44, L_198_45, L_198_46, L_198_47, L_198_48, C_198, A_199, A_200, A_201, A_202, A_203, A_204, A_205, A_206, A_207, A_208, A_209, A_210, A_211, A_212, A_213, A_214, A_215, A_216, A_217, A_218, A_219, A_220, A_221, A_222, A_223, A_224, A_225, A_226, A_227, A_228, A_128, A_191, A_rf, A_rs, A_rt, Q_4, Q_67, Q_130, t_95_0_1, t_95_0_2, t_95_0_3, t_95_0_4, t_95_0_5, t_95_0_6, t_95_0_7, t_95_0_8, t_95_0_9, t_95_0_10, t_95_0_11, t_95_0_12, t_95_0_13, t_95_0_14, t_95_0_15, t_95_0_16, t_95_0_17, t_95_0_18, t_95_0_19, t_95_0_20, t_95_0_21, t_95_0_22, t_95_0_23, t_95_0_24, t_95_0_25, t_95_0_26, t_95_0_27, t_95_0_28, t_95_0_29, t_95_0_30, t_95_0_31, t_95_0_32, t_95_0_33, t_95_0_34, t_95_0_35, t_95_0_36, t_95_0_37, t_95_0_38, t_95_0_39, t_95_0_40, t_95_0_41, t_95_0_42, t_95_0_43, t_95_0_44, t_95_0_45, t_95_0_46, t_95_0_47, t_95_0_48, t_95_0_49, t_95_0_50, t_95_0_51, t_95_0_52, iltT, iltF, ileT, ileF, ieqT, ieqF, cif_T, cif_F, not_true_eq_false, not_false_eq_true, or_true, or_false, true_or, false_or, false_and, and_false, ne_eq, w, w1, ca, w2, w3, T0, T2, T1, e0, v1, wc, v2, v3, v4, v5, v6, v7, v8]
          · have hk : k_addCell (tw B) s r c = 4 := by
              unfold k_addCell
              rw [cifF (fun h => h c1), cifF (fun h => h c2), cifF (fun h => h c3), cifT (Or.inr c5)]
            refine ⟨G, c_95 _ ?_, AL.rf, fun h => absurd h (by rw [hk]; decide)⟩
            rw [hk]
            unfold t_95_0
            simp (disch := omega) only [rI_d, rJ_d, rR_d, rN_d, wF_d, xI_d, xJ_d, xD_d, xQ_d, yI_d, yJ_d, yD_d, yQ_d, dI_s, dJ_s, dR_s, dN_s, dN_n, dH_s, dX_s, dL_s, dD_s, dQ_s, bC_r, bC_t, kI_s, kJ_s, kF_s, kD_s, kR_s, kV_s, I_lit, I_neg, I_add, I_sub, I_mul, I_ltT, I_ltF, I_leT, I_leF, I_eqT, I_eqF, c_int, c_long, c_obj, c_arr, c_bool, c_boolN, c_boolF, vn_bool, c_charN, vn_char, b2_f, b2_t, Int.toNat_natCast, ↓reduceIte, eq_self, and_self, and_true, true_and, not_false_eq_true, not_true_eq_false, L_0_0, L_0_1, L_0_2, L_0_3, L_0_4, L_0_5, L_0_6, L_0_7, L_0_8, L_0_9, L_0_10, L_0_11, L_0_12, L_0_13, L_0_14, L_0_15, C_0, L_1_0, L_1_1, L_1_2, C_1, L_2_0, L_2_1, L_2_2, C_2, L_3_0, L_3_1, L_3_2, C_3, L_65_0, L_65_1, L_65_2, L_65_3, L_65_4, C_65, L_66_0, L_66_1, L_66_2, L_66_3, C_66, L_129_0, L_129_1, L_129_2, L_129_3, C_129, L_198_0, L_198_1, L_198_2, L_198_3, L_198_4, L_198_5, L_198_6, L_198_7, L_198_8, L_198_9, L_198_10, L_198_11, L_198_12, L_198_13, L_198_14, L_198_15, L_198_16, L_198_17, L_198_18, L_198_19, L_198_20, L_198_21, L_198_22, L_198_23, L_198_24, L_198_25, L_198_26, L_198_27, L_198_28, L_198_29, L_198_30, L_198_31, L_198_32, L_198_33, L_198_34, L_198_35, L_198_36, L_198_37, L_198_38, L_198_39, L_198_40, L_198_41, L_198_42, L_198_43, L_198_44, L_198_45, L_198_46, L_198_47, L_198_48, C_198, A_199, A_200, A_201, A_202, A_203, A_204, A_205, A_206, A_207, A_208, A_209, A_210, A_211, A_212, A_213, A_214, A_215, A_216, A_217, A_218, A_219, A_220, A_221, A_222, A_223, A_224, A_225, A_226, A_227, A_228, A_128, A_191, A_rf, A_rs, A_rt, Q_4, Q_67, Q_130, t_95_0_1, t_95_0_2, t_95_0_3, t_95_0_4, t_95_0_5, t_95_0_6, t_95_0_7, t_95_0_8, t_95_0_9, t_95_0_10, t_95_0_11, t_95_0_12, t_95_0_13, t_95_0_14, t_95_0_15, t_95_0_16, t_95_0_17, t_95_0_18, t_95_0_19, t_95_0_20, t_95_0_21, t_95_0_22, t_95_0_23, t_95_0_24, t_95_0_25, t_95_0_26, t_95_0_27, t_95_0_28, t_95_0_29, t_95_0_30, t_95_0_31, t_95_0_32, t_95_0_33, t_95_0_34, t_95_0_35, t_95_0_36, t_95_0_37, t_95_0_38, t_95_0_39, t_95_0_40, t_95_0_41, t_95_0_42, t_95_0_43, t_95_0_44, t_95_0_45, t_95_0_46, t_95_0_47, t_95_0_48, t_95_0_49, t_95_0_50, t_95_0_51, t_95_0_52, iltT, iltF, ileT, ileF, ieqT, ieqF, cif_T, cif_F, not_true_eq_false, not_false_eq_true, or_true, or_false, true_or, false_or, false_and, and_false, ne_eq, w, w1, ca, w2, w3, T0, T2, F1, ew, gjunk_hH]
            rfl
      · rw [b2T (hdr.mpr c3)] at w2
        have hk : k_addCell (tw B) s r c = 3 := by
          unfold k_addCell
          rw [cifF (fun h => h c1), cifF (fun h => h c2), cifT c3]
        refine ⟨G, c_95 _ ?_, AL.rf, fun h => absurd h (by rw [hk]; decide)⟩
        rw [hk]
        unfold t_95_0
        simp (disch := omega) only [rI_d, rJ_d, rR_d, rN_d, wF_d, xI_d, xJ_d, xD_d, xQ_d, yI_d, yJ_d, yD_d, yQ_d, dI_s, dJ_s, dR_s, dN_s, dN_n, dH_s, dX_s, dL_s, dD_s, dQ_s, bC_r, bC_t, kI_s, kJ_s, kF_s, kD_s, kR_s, kV_s, I_lit, I_neg, I_add, I_sub, I_mul, I_ltT, I_ltF, I_leT, I_leF, I_eqT, I_eqF, c_int, c_long, c_obj, c_arr, c_bool, c_boolN, c_boolF, vn_bool, c_charN, vn_char, b2_f, b2_t, Int.toNat_natCast, ↓reduceIte, eq_self, and_self, and_true, true_and, not_false_eq_true, not_true_eq_false, L_0_0, L_0_1, L_0_2, L_0_3, L_0_4, L_0_5, L_0_6, L_0_7, L_0_8, L_0_9, L_0_10, L_0_11, L_0_12, L_0_13, L_0_14, L_0_15, C_0, L_1_0, L_1_1, L_1_2, C_1, L_2_0, L_2_1, L_2_2, C_2, L_3_0, L_3_1, L_3_2, C_3, L_65_0, L_65_1, L_65_2, L_65_3, L_65_4, C_65, L_66_0, L_66_1, L_66_2, L_66_3, C_66, L_129_0, L_129_1, L_129_2, L_129_3, C_129, L_198_0, L_198_1, L_198_2, L_198_3, L_198_4, L_198_5, L_198_6, L_198_7, L_198_8, L_198_9, L_198_10, L_198_11, L_198_12, L_198_13, L_198_14, L_198_15, L_198_16, L_198_17, L_198_18, L_198_19, L_198_20, L_198_21, L_198_22, L_198_23, L_198_24, L_198_25, L_198_26, L_198_27, L_198_28, L_198_29, L_198_30, L_198_31, L_198_32, L_198_33, L_198_34, L_198_35, L_198_36, L_198_37, L_198_38, L_198_39, L_198_40, L_198_41, L_198_42, L_198_43, L_198_44, L_198_45, L_198_46, L_198_47, L_198_48, C_198, A_199, A_200, A_201, A_202, A_203, A_204, A_205, A_206, A_207, A_208, A_209, A_210, A_211, A_212, A_213, A_214, A_215, A_216, A_217, A_218, A_219, A_220, A_221, A_222, A_223, A_224, A_225, A_226, A_227, A_228, A_128, A_191, A_rf, A_rs, A_rt, Q_4, Q_67, Q_130, t_95_0_1, t_95_0_2, t_95_0_3, t_95_0_4, t_95_0_5, t_95_0_6, t_95_0_7, t_95_0_8, t_95_0_9, t_95_0_10, t_95_0_11, t_95_0_12, t_95_0_13, t_95_0_14, t_95_0_15, t_95_0_16, t_95_0_17, t_95_0_18, t_95_0_19, t_95_0_20, t_95_0_21, t_95_0_22, t_95_0_23, t_95_0_24, t_95_0_25, t_95_0_26, t_95_0_27, t_95_0_28, t_95_0_29, t_95_0_30, t_95_0_31, t_95_0_32, t_95_0_33, t_95_0_34, t_95_0_35, t_95_0_36, t_95_0_37, t_95_0_38, t_95_0_39, t_95_0_40, t_95_0_41, t_95_0_42, t_95_0_43, t_95_0_44, t_95_0_45, t_95_0_46, t_95_0_47, t_95_0_48, t_95_0_49, t_95_0_50, t_95_0_51, t_95_0_52, iltT, iltF, ileT, ileF, ieqT, ieqF, cif_T, cif_F, not_true_eq_false, not_false_eq_true, or_true, or_false, true_or, false_or, false_and, and_false, ne_eq, w, w1, ca, w2, T0, F2, gjunk_hH]
        rfl
    · rw [b2F c2] at w1
      have hk : k_addCell (tw B) s r c = 2 := by
        unfold k_addCell
        rw [cifF (fun h => h c1), cifT c2]
      refine ⟨G, c_95 _ ?_, AL.rf, fun h => absurd h (by rw [hk]; decide)⟩
      rw [hk]
      unfold t_95_0
      simp (disch := omega) only [rI_d, rJ_d, rR_d, rN_d, wF_d, xI_d, xJ_d, xD_d, xQ_d, yI_d, yJ_d, yD_d, yQ_d, dI_s, dJ_s, dR_s, dN_s, dN_n, dH_s, dX_s, dL_s, dD_s, dQ_s, bC_r, bC_t, kI_s, kJ_s, kF_s, kD_s, kR_s, kV_s, I_lit, I_neg, I_add, I_sub, I_mul, I_ltT, I_ltF, I_leT, I_leF, I_eqT, I_eqF, c_int, c_long, c_obj, c_arr, c_bool, c_boolN, c_boolF, vn_bool, c_charN, vn_char, b2_f, b2_t, Int.toNat_natCast, ↓reduceIte, eq_self, and_self, and_true, true_and, not_false_eq_true, not_true_eq_false, L_0_0, L_0_1, L_0_2, L_0_3, L_0_4, L_0_5, L_0_6, L_0_7, L_0_8, L_0_9, L_0_10, L_0_11, L_0_12, L_0_13, L_0_14, L_0_15, C_0, L_1_0, L_1_1, L_1_2, C_1, L_2_0, L_2_1, L_2_2, C_2, L_3_0, L_3_1, L_3_2, C_3, L_65_0, L_65_1, L_65_2, L_65_3, L_65_4, C_65, L_66_0, L_66_1, L_66_2, L_66_3, C_66, L_129_0, L_129_1, L_129_2, L_129_3, C_129, L_198_0, L_198_1, L_198_2, L_198_3, L_198_4, L_198_5, L_198_6, L_198_7, L_198_8, L_198_9, L_198_10, L_198_11, L_198_12, L_198_13, L_198_14, L_198_15, L_198_16, L_198_17, L_198_18, L_198_19, L_198_20, L_198_21, L_198_22, L_198_23, L_198_24, L_198_25, L_198_26, L_198_27, L_198_28, L_198_29, L_198_30, L_198_31, L_198_32, L_198_33, L_198_34, L_198_35, L_198_36, L_198_37, L_198_38, L_198_39, L_198_40, L_198_41, L_198_42, L_198_43, L_198_44, L_198_45, L_198_46, L_198_47, L_198_48, C_198, A_199, A_200, A_201, A_202, A_203, A_204, A_205, A_206, A_207, A_208, A_209, A_210, A_211, A_212, A_213, A_214, A_215, A_216, A_217, A_218, A_219, A_220, A_221, A_222, A_223, A_224, A_225, A_226, A_227, A_228, A_128, A_191, A_rf, A_rs, A_rt, Q_4, Q_67, Q_130, t_95_0_1, t_95_0_2, t_95_0_3, t_95_0_4, t_95_0_5, t_95_0_6, t_95_0_7, t_95_0_8, t_95_0_9, t_95_0_10, t_95_0_11, t_95_0_12, t_95_0_13, t_95_0_14, t_95_0_15, t_95_0_16, t_95_0_17, t_95_0_18, t_95_0_19, t_95_0_20, t_95_0_21, t_95_0_22, t_95_0_23, t_95_0_24, t_95_0_25, t_95_0_26, t_95_0_27, t_95_0_28, t_95_0_29, t_95_0_30, t_95_0_31, t_95_0_32, t_95_0_33, t_95_0_34, t_95_0_35, t_95_0_36, t_95_0_37, t_95_0_38, t_95_0_39, t_95_0_40, t_95_0_41, t_95_0_42, t_95_0_43, t_95_0_44, t_95_0_45, t_95_0_46, t_95_0_47, t_95_0_48, t_95_0_49, t_95_0_50, t_95_0_51, t_95_0_52, iltT, iltF, ileT, ileF, ieqT, ieqF, cif_T, cif_F, not_true_eq_false, not_false_eq_true, or_true, or_false, true_or, false_or, false_and, and_false, ne_eq, w, w1, F0, gjunk_hH]
      rfl
  · have hk : k_addCell (tw B) s r c = 1 := by
      unfold k_addCell
      rw [cifT c1]
    have w := w_157F (d := d) (by omega) hR (by omega) h1 (by omega)
    refine ⟨G, c_95 _ ?_, AL.rf, fun h => absurd h (by rw [hk]; decide)⟩
    rw [hk]
    unfold t_95_0
    simp (disch := omega) only [rI_d, rJ_d, rR_d, rN_d, wF_d, xI_d, xJ_d, xD_d, xQ_d, yI_d, yJ_d, yD_d, yQ_d, dI_s, dJ_s, dR_s, dN_s, dN_n, dH_s, dX_s, dL_s, dD_s, dQ_s, bC_r, bC_t, kI_s, kJ_s, kF_s, kD_s, kR_s, kV_s, I_lit, I_neg, I_add, I_sub, I_mul, I_ltT, I_ltF, I_leT, I_leF, I_eqT, I_eqF, c_int, c_long, c_obj, c_arr, c_bool, c_boolN, c_boolF, vn_bool, c_charN, vn_char, b2_f, b2_t, Int.toNat_natCast, ↓reduceIte, eq_self, and_self, and_true, true_and, not_false_eq_true, not_true_eq_false, L_0_0, L_0_1, L_0_2, L_0_3, L_0_4, L_0_5, L_0_6, L_0_7, L_0_8, L_0_9, L_0_10, L_0_11, L_0_12, L_0_13, L_0_14, L_0_15, C_0, L_1_0, L_1_1, L_1_2, C_1, L_2_0, L_2_1, L_2_2, C_2, L_3_0, L_3_1, L_3_2, C_3, L_65_0, L_65_1, L_65_2, L_65_3, L_65_4, C_65, L_66_0, L_66_1, L_66_2, L_66_3, C_66, L_129_0, L_129_1, L_129_2, L_129_3, C_129, L_198_0, L_198_1, L_198_2, L_198_3, L_198_4, L_198_5, L_198_6, L_198_7, L_198_8, L_198_9, L_198_10, L_198_11, L_198_12, L_198_13, L_198_14, L_198_15, L_198_16, L_198_17, L_198_18, L_198_19, L_198_20, L_198_21, L_198_22, L_198_23, L_198_24, L_198_25, L_198_26, L_198_27, L_198_28, L_198_29, L_198_30, L_198_31, L_198_32, L_198_33, L_198_34, L_198_35, L_198_36, L_198_37, L_198_38, L_198_39, L_198_40, L_198_41, L_198_42, L_198_43, L_198_44, L_198_45, L_198_46, L_198_47, L_198_48, C_198, A_199, A_200, A_201, A_202, A_203, A_204, A_205, A_206, A_207, A_208, A_209, A_210, A_211, A_212, A_213, A_214, A_215, A_216, A_217, A_218, A_219, A_220, A_221, A_222, A_223, A_224, A_225, A_226, A_227, A_228, A_128, A_191, A_rf, A_rs, A_rt, Q_4, Q_67, Q_130, t_95_0_1, t_95_0_2, t_95_0_3, t_95_0_4, t_95_0_5, t_95_0_6, t_95_0_7, t_95_0_8, t_95_0_9, t_95_0_10, t_95_0_11, t_95_0_12, t_95_0_13, t_95_0_14, t_95_0_15, t_95_0_16, t_95_0_17, t_95_0_18, t_95_0_19, t_95_0_20, t_95_0_21, t_95_0_22, t_95_0_23, t_95_0_24, t_95_0_25, t_95_0_26, t_95_0_27, t_95_0_28, t_95_0_29, t_95_0_30, t_95_0_31, t_95_0_32, t_95_0_33, t_95_0_34, t_95_0_35, t_95_0_36, t_95_0_37, t_95_0_38, t_95_0_39, t_95_0_40, t_95_0_41, t_95_0_42, t_95_0_43, t_95_0_44, t_95_0_45, t_95_0_46, t_95_0_47, t_95_0_48, t_95_0_49, t_95_0_50, t_95_0_51, t_95_0_52, iltT, iltF, ileT, ileF, ieqT, ieqF, cif_T, cif_F, not_true_eq_false, not_false_eq_true, or_true, or_false, true_or, false_or, false_and, and_false, ne_eq, w]
    rfl
theorem w_98 (hd : 9 ≤ d) (hi : MI B) (hR : CR K N G B ro (tw B) sh st pc cs ps) {s g r c : Int} (h1 : R32 s) (h0 : R32 g) (h2 : R32 r) (h3 : R32 c) : ∃ G', gCa K d 98 [.ref N, .int (I s), .int (I g), .int (I r), .int (I c)] (hH K N G B) =
    some (cif (k_setMark (tw B) s g r c = 0) (.inl (some (.int (I (B.2.1 204 s.toNat)))), hH K N G' B) (.inr (exD (k_setMark (tw B) s g r c)), hH K N (gjunk G 6) B)) ∧ AL G G' 857 2426 ∧
    (k_setMark (tw B) s g r c = 0 → RM K N G' B (tw (sA (sA (sA (sI B 198 0 0) 204 s.toNat g) 205 s.toNat r) 206 s.toNat c))) := by
  obtain ⟨d, rfl, hd'⟩ := d_succ (show 8 + 1 ≤ d by omega)
  have hw := hi.1
  have e3 : (B.1 198 7) = (sh.length : Int) := hR.nn.1
  have q := mw_shapes hw
  have hR := hR.z
  generalize hro : roZ N ro = roz at hR
  have T0 := w_149T (K := K) (d := d) (H := hH K N G B) (by omega)
  have F0 := w_149F (K := K) (d := d) (H := hH K N G B) (by omega)
  have T1 := w_151T (K := K) (d := d) (H := hH K N G B) (by omega)
  have F1 := w_151F (K := K) (d := d) (H := hH K N G B) (by omega)
  by_cases c1 : 0 ≤ s ∧ s ≤ (B.1 198 7) - 1
  · obtain ⟨a, ha⟩ := at_lt (show s.toNat < sh.length by omega)
    have w := w_157 (d := d) (by omega) hR (by omega) c1.1 ha
    have hS := hR.sp ha
    have h25 := hR.cs25 ha
    have ca : g_cls (hH K N G B) a = some 4 := by
      obtain ⟨⟨p, mk, vr, h1, -⟩, -⟩ := hS
      exact cl_of h1
    have w1 := w_158 (K := K) (d := d) (H := hH K N G B) (by omega) h2 h3
    have w0 := w_148 (K := K) (d := d) (H := hH K N G B) (a := g) (b := -1) (c := 3) (by omega) h0 (by omega) (by omega)
    by_cases c2 : -1 ≤ g ∧ g ≤ 3
    · rw [b2T c2] at w0
      by_cases c3 : (0 ≤ r ∧ r ≤ 4) ∧ (0 ≤ c ∧ c ≤ 4)
      · rw [b2T c3] at w1
        have w3 := w_160 (d := d) (by omega) hw hR ha
        rw [show ((s.toNat : Nat) : Int) = s by omega] at w3
        by_cases c4 : laid (tw B) s
        · rw [b2T c4] at w3
          have hk : k_setMark (tw B) s g r c = 3 := by
            unfold k_setMark
            rw [cifF (fun h => h c1), cifF (fun h => h ⟨c2, c3⟩), cifT c4]
          refine ⟨G, c_98 _ ?_, AL.rf, fun h => absurd h (by rw [hk]; decide)⟩
          rw [hk]
          unfold t_98_0
          simp (disch := omega) only [rI_d, rJ_d, rR_d, rN_d, wF_d, xI_d, xJ_d, xD_d, xQ_d, yI_d, yJ_d, yD_d, yQ_d, dI_s, dJ_s, dR_s, dN_s, dN_n, dH_s, dX_s, dL_s, dD_s, dQ_s, bC_r, bC_t, kI_s, kJ_s, kF_s, kD_s, kR_s, kV_s, I_lit, I_neg, I_add, I_sub, I_mul, I_ltT, I_ltF, I_leT, I_leF, I_eqT, I_eqF, c_int, c_long, c_obj, c_arr, c_bool, c_boolN, c_boolF, vn_bool, c_charN, vn_char, b2_f, b2_t, Int.toNat_natCast, ↓reduceIte, eq_self, and_self, and_true, true_and, not_false_eq_true, not_true_eq_false, L_0_0, L_0_1, L_0_2, L_0_3, L_0_4, L_0_5, L_0_6, L_0_7, L_0_8, L_0_9, L_0_10, L_0_11, L_0_12, L_0_13, L_0_14, L_0_15, C_0, L_1_0, L_1_1, L_1_2, C_1, L_2_0, L_2_1, L_2_2, C_2, L_3_0, L_3_1, L_3_2, C_3, L_65_0, L_65_1, L_65_2, L_65_3, L_65_4, C_65, L_66_0, L_66_1, L_66_2, L_66_3, C_66, L_129_0, L_129_1, L_129_2, L_129_3, C_129, L_198_0, L_198_1, L_198_2, L_198_3, L_198_4, L_198_5, L_198_6, L_198_7, L_198_8, L_198_9, L_198_10, L_198_11, L_198_12, L_198_13, L_198_14, L_198_15, L_198_16, L_198_17, L_198_18, L_198_19, L_198_20, L_198_21, L_198_22, L_198_23, L_198_24, L_198_25, L_198_26, L_198_27, L_198_28, L_198_29, L_198_30, L_198_31, L_198_32, L_198_33, L_198_34, L_198_35, L_198_36, L_198_37, L_198_38, L_198_39, L_198_40, L_198_41, L_198_42, L_198_43, L_198_44, L_198_45, L_198_46, L_198_47, L_198_48, C_198, A_199, A_200, A_201, A_202, A_203, A_204, A_205, A_206, A_207, A_208, A_209, A_210, A_211, A_212, A_213, A_214, A_215, A_216, A_217, A_218, A_219, A_220, A_221, A_222, A_223, A_224, A_225, A_226, A_227, A_228, A_128, A_191, A_rf, A_rs, A_rt, Q_4, Q_67, Q_130, t_98_0_1, t_98_0_2, t_98_0_3, t_98_0_4, t_98_0_5, t_98_0_6, t_98_0_7, t_98_0_8, t_98_0_9, t_98_0_10, t_98_0_11, t_98_0_12, t_98_0_13, t_98_0_14, t_98_0_15, t_98_0_16, t_98_0_17, t_98_0_18, t_98_0_19, t_98_0_20, t_98_0_21, t_98_0_22, t_98_0_23, t_98_0_24, t_98_0_25, t_98_0_26, t_98_0_27, t_98_0_28, t_98_0_29, t_98_0_30, t_98_0_31, t_98_0_32, t_98_0_33, t_98_0_34, t_98_0_35, t_98_0_36, t_98_0_37, t_98_0_38, t_98_0_39, t_98_0_40, t_98_0_41, t_98_0_42, t_98_0_43, t_98_0_44, t_98_0_45, iltT, iltF, ileT, ileF, ieqT, ieqF, cif_T, cif_F, not_true_eq_false, not_false_eq_true, or_true, or_false, true_or, false_or, false_and, and_false, ne_eq, w, w0, w1, ca, w3, T0, F1, gjunk_hH]
          rfl
        · rw [b2F c4] at w3
          have hk : k_setMark (tw B) s g r c = 0 := by
            unfold k_setMark
            rw [cifF (fun h => h c1), cifF (fun h => h ⟨c2, c3⟩), cifF c4]
          have hC := hR.1
          have hN := hC.2.2.1
          have hk3 := hC.2.2.2.1 3 (by omega)
          have bg := mw_group hw s.toNat
          have aM : ∀ o j, (tw (sA (sA (sA (sI B 198 0 0) 204 s.toNat g) 205 s.toNat r) 206 s.toNat c)).2 o j = if o = 206 ∧ j = s.toNat then c else if o = 205 ∧ j = s.toNat then r else if o = 204 ∧ j = s.toNat then g else B.2.1 o j := fun o j => rfl
          obtain ⟨H1, H3, H4, v1, v2, v3, v4, v5, v9, v10⟩ := remark (K := K) (d := d) (H := hH K N G B) (by omega) (P := PD N) (fun x hx => Nat.le_trans hN hx) hC.hb (show K.2 3 < G.2.1 by omega) hC.e hS.1 h25.1 h25.2 (M' := tw (sA (sA (sA (sI B 198 0 0) 204 s.toNat g) 205 s.toNat r) 206 s.toNat c)) (g := g) (r := r) (c := c) ⟨rfl, rfl, by rw [aM, if_neg (by omega), if_neg (by omega), if_pos ⟨rfl, rfl⟩], rfl, rfl, rfl, by rw [aM, if_neg (by omega), if_pos ⟨rfl, rfl⟩], by rw [aM, if_pos ⟨rfl, rfl⟩]⟩
          have wc := mkCell (K := K) (d := d) (H := H1) (r := r) (c := c) (by omega)
          subst hro
          obtain ⟨r1, r2⟩ := hR.shp ha v9 v10 hS.2 (fun k hk => sI_ne (Or.inr hk)) (fun o h1 h2 => funext fun j => by rw [aM, if_neg (by omega), if_neg (by omega), if_neg (by omega)]) (fun i hi => ⟨rfl, rfl, by rw [aM, if_neg (by omega), if_neg (by omega), if_neg (by omega)], rfl, rfl, rfl, by rw [aM, if_neg (by omega), if_neg (by omega), if_neg (by omega)], by rw [aM, if_neg (by omega), if_neg (by omega), if_neg (by omega)]⟩) (fun i _ => rfl) (by omega)
          refine ⟨dn N H4, c_98 _ ?_, AL.of v9, fun _ => ⟨_, _, _, _, _, _, r2⟩⟩
          have v1' : g_gf (hH K N G B) a 4 3 = some (.int (I (B.2.1 204 s.toNat))) := v1
          rw [hk, ← r1]
          unfold t_98_0
          simp (disch := omega) only [rI_d, rJ_d, rR_d, rN_d, wF_d, xI_d, xJ_d, xD_d, xQ_d, yI_d, yJ_d, yD_d, yQ_d, dI_s, dJ_s, dR_s, dN_s, dN_n, dH_s, dX_s, dL_s, dD_s, dQ_s, bC_r, bC_t, kI_s, kJ_s, kF_s, kD_s, kR_s, kV_s, I_lit, I_neg, I_add, I_sub, I_mul, I_ltT, I_ltF, I_leT, I_leF, I_eqT, I_eqF, c_int, c_long, c_obj, c_arr, c_bool, c_boolN, c_boolF, vn_bool, c_charN, vn_char, b2_f, b2_t, Int.toNat_natCast, ↓reduceIte, eq_self, and_self, and_true, true_and, not_false_eq_true, not_true_eq_false, L_0_0, L_0_1, L_0_2, L_0_3, L_0_4, L_0_5, L_0_6, L_0_7, L_0_8, L_0_9, L_0_10, L_0_11, L_0_12, L_0_13, L_0_14, L_0_15, C_0, L_1_0, L_1_1, L_1_2, C_1, L_2_0, L_2_1, L_2_2, C_2, L_3_0, L_3_1, L_3_2, C_3, L_65_0, L_65_1, L_65_2, L_65_3, L_65_4, C_65, L_66_0, L_66_1, L_66_2, L_66_3, C_66, L_129_0, L_129_1, L_129_2, L_129_3, C_129, L_198_0, L_198_1, L_198_2, L_198_3, L_198_4, L_198_5, L_198_6, L_198_7, L_198_8, L_198_9, L_198_10, L_198_11, L_198_12, L_198_13, L_198_14, L_198_15, L_198_16, L_198_17, L_198_18, L_198_19, L_198_20, L_198_21, L_198_22, L_198_23, L_198_24, L_198_25, L_198_26, L_198_27, L_198_28, L_198_29, L_198_30, L_198_31, L_198_32, L_198_33, L_198_34, L_198_35, L_198_36, L_198_37, L_198_38, L_198_39, L_198_40, L_198_41, L_198_42, L_198_43, L_198_44, L_198_45, L_198_46, L_198_47, L_198_48, C_198, A_199, A_200, A_201, A_202, A_203, A_204, A_205, A_206, A_207, A_208, A_209, A_210, A_211, A_212, A_213, A_214, A_215, A_216, A_217, A_218, A_219, A_220, A_221, A_222, A_223, A_224, A_225, A_226, A_227, A_228, A_128, A_191, A_rf, A_rs, A_rt, Q_4, Q_67, Q_130, t_98_0_1, t_98_0_2, t_98_0_3, t_98_0_4, t_98_0_5, t_98_0_6, t_98_0_7, t_98_0_8, t_98_0_9, t_98_0_10, t_98_0_11, t_98_0_12, t_98_0_13, t_98_0_14, t_98_0_15, t_98_0_16, t_98_0_17, t_98_0_18, t_98_0_19, t_98_0_20, t_98_0_21, t_98_0_22, t_98_0_23, t_98_0_24, t_98_0_25, t_98_0_26, t_98_0_27, t_98_0_28, t_98_0_29, t_98_0_30, t_98_0_31, t_98_0_32, t_98_0_33, t_98_0_34, t_98_0_35, t_98_0_36, t_98_0_37, t_98_0_38, t_98_0_39, t_98_0_40, t_98_0_41, t_98_0_42, t_98_0_43, t_98_0_44, t_98_0_45, iltT, iltF, ileT, ileF, ieqT, ieqF, cif_T, cif_F, not_true_eq_false, not_false_eq_true, or_true, or_false, true_or, false_or, false_and, and_false, ne_eq, w, w0, w1, ca, w3, T0, T1, v1', v2, wc, v3, v4, v5]
      · rw [b2F c3] at w1
        have hk : k_setMark (tw B) s g r c = 2 := by
          unfold k_setMark
          rw [cifF (fun h => h c1), cifT (fun h => c3 h.2)]
        refine ⟨G, c_98 _ ?_, AL.rf, fun h => absurd h (by rw [hk]; decide)⟩
        rw [hk]
        unfold t_98_0
        simp (disch := omega) only [rI_d, rJ_d, rR_d, rN_d, wF_d, xI_d, xJ_d, xD_d, xQ_d, yI_d, yJ_d, yD_d, yQ_d, dI_s, dJ_s, dR_s, dN_s, dN_n, dH_s, dX_s, dL_s, dD_s, dQ_s, bC_r, bC_t, kI_s, kJ_s, kF_s, kD_s, kR_s, kV_s, I_lit, I_neg, I_add, I_sub, I_mul, I_ltT, I_ltF, I_leT, I_leF, I_eqT, I_eqF, c_int, c_long, c_obj, c_arr, c_bool, c_boolN, c_boolF, vn_bool, c_charN, vn_char, b2_f, b2_t, Int.toNat_natCast, ↓reduceIte, eq_self, and_self, and_true, true_and, not_false_eq_true, not_true_eq_false, L_0_0, L_0_1, L_0_2, L_0_3, L_0_4, L_0_5, L_0_6, L_0_7, L_0_8, L_0_9, L_0_10, L_0_11, L_0_12, L_0_13, L_0_14, L_0_15, C_0, L_1_0, L_1_1, L_1_2, C_1, L_2_0, L_2_1, L_2_2, C_2, L_3_0, L_3_1, L_3_2, C_3, L_65_0, L_65_1, L_65_2, L_65_3, L_65_4, C_65, L_66_0, L_66_1, L_66_2, L_66_3, C_66, L_129_0, L_129_1, L_129_2, L_129_3, C_129, L_198_0, L_198_1, L_198_2, L_198_3, L_198_4, L_198_5, L_198_6, L_198_7, L_198_8, L_198_9, L_198_10, L_198_11, L_198_12, L_198_13, L_198_14, L_198_15, L_198_16, L_198_17, L_198_18, L_198_19, L_198_20, L_198_21, L_198_22, L_198_23, L_198_24, L_198_25, L_198_26, L_198_27, L_198_28, L_198_29, L_198_30, L_198_31, L_198_32, L_198_33, L_198_34, L_198_35, L_198_36, L_198_37, L_198_38, L_198_39, L_198_40, L_198_41, L_198_42, L_198_43, L_198_44, L_198_45, L_198_46, L_198_47, L_198_48, C_198, A_199, A_200, A_201, A_202, A_203, A_204, A_205, A_206, A_207, A_208, A_209, A_210, A_211, A_212, A_213, A_214, A_215, A_216, A_217, A_218, A_219, A_220, A_221, A_222, A_223, A_224, A_225, A_226, A_227, A_228, A_128, A_191, A_rf, A_rs, A_rt, Q_4, Q_67, Q_130, t_98_0_1, t_98_0_2, t_98_0_3, t_98_0_4, t_98_0_5, t_98_0_6, t_98_0_7, t_98_0_8, t_98_0_9, t_98_0_10, t_98_0_11, t_98_0_12, t_98_0_13, t_98_0_14, t_98_0_15, t_98_0_16, t_98_0_17, t_98_0_18, t_98_0_19, t_98_0_20, t_98_0_21, t_98_0_22, t_98_0_23, t_98_0_24, t_98_0_25, t_98_0_26, t_98_0_27, t_98_0_28, t_98_0_29, t_98_0_30, t_98_0_31, t_98_0_32, t_98_0_33, t_98_0_34, t_98_0_35, t_98_0_36, t_98_0_37, t_98_0_38, t_98_0_39, t_98_0_40, t_98_0_41, t_98_0_42, t_98_0_43, t_98_0_44, t_98_0_45, iltT, iltF, ileT, ileF, ieqT, ieqF, cif_T, cif_F, not_true_eq_false, not_false_eq_true, or_true, or_false, true_or, false_or, false_and, and_false, ne_eq, w, w0, w1, F0, gjunk_hH]
        rfl
    · rw [b2F c2] at w0
      have hk : k_setMark (tw B) s g r c = 2 := by
        unfold k_setMark
        rw [cifF (fun h => h c1), cifT (fun h => c2 h.1)]
      refine ⟨G, c_98 _ ?_, AL.rf, fun h => absurd h (by rw [hk]; decide)⟩
      rw [hk]
      unfold t_98_0
      simp (disch := omega) only [rI_d, rJ_d, rR_d, rN_d, wF_d, xI_d, xJ_d, xD_d, xQ_d, yI_d, yJ_d, yD_d, yQ_d, dI_s, dJ_s, dR_s, dN_s, dN_n, dH_s, dX_s, dL_s, dD_s, dQ_s, bC_r, bC_t, kI_s, kJ_s, kF_s, kD_s, kR_s, kV_s, I_lit, I_neg, I_add, I_sub, I_mul, I_ltT, I_ltF, I_leT, I_leF, I_eqT, I_eqF, c_int, c_long, c_obj, c_arr, c_bool, c_boolN, c_boolF, vn_bool, c_charN, vn_char, b2_f, b2_t, Int.toNat_natCast, ↓reduceIte, eq_self, and_self, and_true, true_and, not_false_eq_true, not_true_eq_false, L_0_0, L_0_1, L_0_2, L_0_3, L_0_4, L_0_5, L_0_6, L_0_7, L_0_8, L_0_9, L_0_10, L_0_11, L_0_12, L_0_13, L_0_14, L_0_15, C_0, L_1_0, L_1_1, L_1_2, C_1, L_2_0, L_2_1, L_2_2, C_2, L_3_0, L_3_1, L_3_2, C_3, L_65_0, L_65_1, L_65_2, L_65_3, L_65_4, C_65, L_66_0, L_66_1, L_66_2, L_66_3, C_66, L_129_0, L_129_1, L_129_2, L_129_3, C_129, L_198_0, L_198_1, L_198_2, L_198_3, L_198_4, L_198_5, L_198_6, L_198_7, L_198_8, L_198_9, L_198_10, L_198_11, L_198_12, L_198_13, L_198_14, L_198_15, L_198_16, L_198_17, L_198_18, L_198_19, L_198_20, L_198_21, L_198_22, L_198_23, L_198_24, L_198_25, L_198_26, L_198_27, L_198_28, L_198_29, L_198_30, L_198_31, L_198_32, L_198_33, L_198_34, L_198_35, L_198_36, L_198_37, L_198_38, L_198_39, L_198_40, L_198_41, L_198_42, L_198_43, L_198_44, L_198_45, L_198_46, L_198_47, L_198_48, C_198, A_199, A_200, A_201, A_202, A_203, A_204, A_205, A_206, A_207, A_208, A_209, A_210, A_211, A_212, A_213, A_214, A_215, A_216, A_217, A_218, A_219, A_220, A_221, A_222, A_223, A_224, A_225, A_226, A_227, A_228, A_128, A_191, A_rf, A_rs, A_rt, Q_4, Q_67, Q_130, t_98_0_1, t_98_0_2, t_98_0_3, t_98_0_4, t_98_0_5, t_98_0_6, t_98_0_7, t_98_0_8, t_98_0_9, t_98_0_10, t_98_0_11, t_98_0_12, t_98_0_13, t_98_0_14, t_98_0_15, t_98_0_16, t_98_0_17, t_98_0_18, t_98_0_19, t_98_0_20, t_98_0_21, t_98_0_22, t_98_0_23, t_98_0_24, t_98_0_25, t_98_0_26, t_98_0_27, t_98_0_28, t_98_0_29, t_98_0_30, t_98_0_31, t_98_0_32, t_98_0_33, t_98_0_34, t_98_0_35, t_98_0_36, t_98_0_37, t_98_0_38, t_98_0_39, t_98_0_40, t_98_0_41, t_98_0_42, t_98_0_43, t_98_0_44, t_98_0_45, iltT, iltF, ileT, ileF, ieqT, ieqF, cif_T, cif_F, not_true_eq_false, not_false_eq_true, or_true, or_false, true_or, false_or, false_and, and_false, ne_eq, w, w0, F0, gjunk_hH]
      rfl
  · have hk : k_setMark (tw B) s g r c = 1 := by
      unfold k_setMark
      rw [cifT c1]
    have w := w_157F (d := d) (by omega) hR (by omega) h1 (by omega)
    refine ⟨G, c_98 _ ?_, AL.rf, fun h => absurd h (by rw [hk]; decide)⟩
    rw [hk]
    unfold t_98_0
    simp (disch := omega) only [rI_d, rJ_d, rR_d, rN_d, wF_d, xI_d, xJ_d, xD_d, xQ_d, yI_d, yJ_d, yD_d, yQ_d, dI_s, dJ_s, dR_s, dN_s, dN_n, dH_s, dX_s, dL_s, dD_s, dQ_s, bC_r, bC_t, kI_s, kJ_s, kF_s, kD_s, kR_s, kV_s, I_lit, I_neg, I_add, I_sub, I_mul, I_ltT, I_ltF, I_leT, I_leF, I_eqT, I_eqF, c_int, c_long, c_obj, c_arr, c_bool, c_boolN, c_boolF, vn_bool, c_charN, vn_char, b2_f, b2_t, Int.toNat_natCast, ↓reduceIte, eq_self, and_self, and_true, true_and, not_false_eq_true, not_true_eq_false, L_0_0, L_0_1, L_0_2, L_0_3, L_0_4, L_0_5, L_0_6, L_0_7, L_0_8, L_0_9, L_0_10, L_0_11, L_0_12, L_0_13, L_0_14, L_0_15, C_0, L_1_0, L_1_1, L_1_2, C_1, L_2_0, L_2_1, L_2_2, C_2, L_3_0, L_3_1, L_3_2, C_3, L_65_0, L_65_1, L_65_2, L_65_3, L_65_4, C_65, L_66_0, L_66_1, L_66_2, L_66_3, C_66, L_129_0, L_129_1, L_129_2, L_129_3, C_129, L_198_0, L_198_1, L_198_2, L_198_3, L_198_4, L_198_5, L_198_6, L_198_7, L_198_8, L_198_9, L_198_10, L_198_11, L_198_12, L_198_13, L_198_14, L_198_15, L_198_16, L_198_17, L_198_18, L_198_19, L_198_20, L_198_21, L_198_22, L_198_23, L_198_24, L_198_25, L_198_26, L_198_27, L_198_28, L_198_29, L_198_30, L_198_31, L_198_32, L_198_33, L_198_34, L_198_35, L_198_36, L_198_37, L_198_38, L_198_39, L_198_40, L_198_41, L_198_42, L_198_43, L_198_44, L_198_45, L_198_46, L_198_47, L_198_48, C_198, A_199, A_200, A_201, A_202, A_203, A_204, A_205, A_206, A_207, A_208, A_209, A_210, A_211, A_212, A_213, A_214, A_215, A_216, A_217, A_218, A_219, A_220, A_221, A_222, A_223, A_224, A_225, A_226, A_227, A_228, A_128, A_191, A_rf, A_rs, A_rt, Q_4, Q_67, Q_130, t_98_0_1, t_98_0_2, t_98_0_3, t_98_0_4, t_98_0_5, t_98_0_6, t_98_0_7, t_98_0_8, t_98_0_9, t_98_0_10, t_98_0_11, t_98_0_12, t_98_0_13, t_98_0_14, t_98_0_15, t_98_0_16, t_98_0_17, t_98_0_18, t_98_0_19, t_98_0_20, t_98_0_21, t_98_0_22, t_98_0_23, t_98_0_24, t_98_0_25, t_98_0_26, t_98_0_27, t_98_0_28, t_98_0_29, t_98_0_30, t_98_0_31, t_98_0_32, t_98_0_33, t_98_0_34, t_98_0_35, t_98_0_36, t_98_0_37, t_98_0_38, t_98_0_39, t_98_0_40, t_98_0_41, t_98_0_42, t_98_0_43, t_98_0_44, t_98_0_45, iltT, iltF, ileT, ileF, ieqT, ieqF, cif_T, cif_F, not_true_eq_false, not_false_eq_true, or_true, or_false, true_or, false_or, false_and, and_false, ne_eq, w]
    rfl
end
