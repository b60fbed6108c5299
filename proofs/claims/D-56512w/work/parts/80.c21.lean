/-! PURE 60: what is read of the model's fields; the marker cleared -/
set_option maxRecDepth 100000
/-- the shape i is alike -/
def SE (M M' : gM) (i : Nat) : Prop := M'.2 200 i = M.2 200 i ∧ M'.2 201 i = M.2 201 i ∧ M'.2 204 i = M.2 204 i ∧ M'.2 208 (2 * i) = M.2 208 (2 * i) ∧ M'.2 208 (2 * i + 1) = M.2 208 (2 * i + 1) ∧ M'.2 207 i = M.2 207 i ∧ M'.2 205 i = M.2 205 i ∧ M'.2 206 i = M.2 206 i
/-- the piece j is alike -/
def PE (M M' : gM) (j j' : Nat) : Prop := M'.2 209 j' = M.2 209 j ∧ M'.2 210 j' = M.2 210 j ∧ M'.2 211 j' = M.2 211 j ∧ M'.2 212 j' = M.2 212 j ∧ M'.2 213 j' = M.2 213 j ∧ M'.2 214 j' = M.2 214 j
section
variable {K : gK} {d N : Nat} {G G' : gH} {B B' : gB} {M M' : gM} {ro ro' : Nat → Nat} {sh st pc : List Nat} {cs : Nat → List Nat} {ps : Nat → List (Nat × Int)} {P : Nat → Prop} {H : gH}
theorem SE.of (h : ∀ o, 200 ≤ o → o ≤ 208 → M'.2 o = M.2 o) {i : Nat} : SE M M' i := by
  unfold SE
  rw [h 200 (by omega) (by omega), h 201 (by omega) (by omega), h 204 (by omega) (by omega), h 208 (by omega) (by omega), h 207 (by omega) (by omega), h 205 (by omega) (by omega), h 206 (by omega) (by omega)]
  exact ⟨rfl, rfl, rfl, rfl, rfl, rfl, rfl, rfl⟩
theorem PE.of (h : ∀ o, 209 ≤ o → o ≤ 214 → M'.2 o = M.2 o) {i : Nat} : PE M M' i i := by
  unfold PE
  rw [h 209 (by omega) (by omega), h 210 (by omega) (by omega), h 211 (by omega) (by omega), h 212 (by omega) (by omega), h 213 (by omega) (by omega), h 214 (by omega) (by omega)]
  exact ⟨rfl, rfl, rfl, rfl, rfl, rfl⟩
theorem SHP.se {a i : Nat} {cl : List Nat} (h : SHP K P H ro a i M cl) (e : SE M M' i) : SHP K P H ro a i M' cl := by
  obtain ⟨e1, e2, e3, e4, e5, e6, e7, e8⟩ := e
  obtain ⟨p, mk, vr, h1, h2, h3, h4, h5⟩ := h
  refine ⟨p, mk, vr, ?_, h2, by rw [e7, e8]; exact h3, by rw [e7, e8]; exact h4, h5⟩
  unfold shF at h1 ⊢
  rw [e1, e2, e3, e4, e5, e6]
  exact h1
theorem STP.se {a i : Nat} {p : List (Nat × Int)} (h : STP K P H ro a i M p sh) (e : M'.2 219 i = M.2 219 i) : STP K P H ro a i M' p sh := by
  obtain ⟨q, mc, e', ca, h1, h2⟩ := h
  exact ⟨q, mc, e', ca, by rw [e]; exact h1, h2⟩
theorem PSW.se {p : List (Nat × Int)} {i n : Nat} (h : PSW p M i n) (e : ∀ s, s < 8 → M'.2 218 (8 * i + s) = M.2 218 (8 * i + s)) (hn : n ≤ 8) : PSW p M' i n := by
  obtain ⟨h1, h2, h3⟩ := h
  exact ⟨h1, fun q hq => ⟨(h2 q hq).1, by rw [e _ (by have := (h2 q hq).1; omega)]; exact (h2 q hq).2⟩, fun s hs h0 => by rw [e s hs] at h0 ⊢; exact h3 s hs h0⟩
theorem PCP.se {a j j' : Nat} (h : PCP H a j M sh) (e : PE M M' j j') : PCP H a j' M' sh := by
  obtain ⟨e1, e2, e3, e4, e5, e6⟩ := e
  obtain ⟨b, h1, h2⟩ := h
  exact ⟨b, by rw [e2]; exact h1, by rw [e1, e3, e4, e5, e6]; exact h2⟩
theorem dl_e (h : M'.2 202 = M.2 202) {i : Nat} : dl M' i = dl M i := by
  unfold dl dlp
  rw [h]
theorem AL.of {W : Nat → Prop} {m s : Nat} {H' : gH} (h : FR W m s (hH K N G B) H') : AL G (dn N H') m s := ⟨h.1, h.2.1, h.2.2.1, h.2.2.2.1⟩
theorem lngP_fill {f : Nat → Int} : ∀ n, n ≤ 720 → lngP (fill f (-1) 720) n = 0
  | 0, _ => rfl
  | n + 1, h => by
    unfold lngP
    rw [if_pos (show fill f (-1) 720 n = -1 from if_pos (by omega)), lngP_fill n (by omega)]
theorem lng_fill {f : Nat → Int} : lng (fill f (-1) 720) = 0 := lngP_fill 720 (by omega)
theorem emB_c {o : Nat} (h : o ≠ 215 ∧ o ≠ 216 ∧ o ≠ 217) : (emB B).2.1 o = B.2.1 o := emB_a h.1 h.2.1 h.2.2
theorem w_28 (hd : 3 ≤ d) (hw : MW B) (hR : CR K N G B ro (tw B) sh st pc cs ps) : ∃ G' B', gCa K d 28 [.ref N] (hH K N G B) = some (.inl (some (.int (I ((B.1 198 17))))), hH K N G' B') ∧ KP B B' ∧ AL G G' 0 0 ∧ CR K N G' B' ro (tw (emB B')) sh st [] cs ps := by
  obtain ⟨d, rfl, hd'⟩ := d_succ (show 2 + 1 ≤ d by omega)
  have q1 := mw_many hw
  have e3 : (B.1 198 17) = (pc.length : Int) := hR.nn.2.2
  have hC := hR.1
  have s3 := hR.s3 (d := d) (by omega)
  have c3 := cl_of hR.l3.o3
  obtain ⟨H1, mc', w1, a1, a2, hf⟩ := w_111 (K := K) (d := d) (by omega) hC.hb hR.l3.o3 hR.l3.2.2.1 (by omega)
  obtain ⟨r1, r2⟩ := relist (Or.inr (Or.inr rfl)) hC hR.l3 hf a1
  have hAL := AL.of hf
  have hf' := hf
  rw [r1] at hf'
  obtain ⟨f1, f2, f3, f4⟩ := hR.fo (ro' := ro) (o1 := 3) hf' (fun q hq => by
    rcases hq with rfl | ⟨rfl, h0⟩
    · exact Or.inl (by omega)
    · have := hR.l3.arr hC h0
      exact Or.inr ⟨this.2.1, this.2.2.1⟩) (fun _ _ => rfl)
  have n3 : CL K N (dn N H1) (lB B 3 mc' (B.1 3 1).toNat 0) ro 3 [] := CL.new a2 r1 hR.l3.2.2.2
  have w2 := w_112a (K := K) (d := d) (N := N) (G := dn N H1) (B := sI (lB B 3 mc' (B.1 3 1).toNat 0) 0 13 0) (by omega)
  generalize hB1 : lB B 3 mc' (B.1 3 1).toNat 0 = B1 at *
  have k1 : ∀ o k, o ≠ 3 → B1.1 o k = B.1 o k := fun o k h => by rw [← hB1]; exact lB_ne h
  have k2 : ∀ o j, B1.2.1 o j = B.2.1 o j := fun o k => by rw [← hB1]; rfl
  have k3 : B1.2.2 = B.2.2 := by rw [← hB1]; rfl
  generalize hG1 : dn N H1 = G1 at *
  refine ⟨G1, clS (sI B1 0 13 0) 66, c_28 _ ?_, ⟨fun o k h => ?_, fun o j h => ?_, k3⟩, hAL, ?_⟩
  · unfold t_28_0
    rw [e3]
    simp (disch := omega) only [rI_d, rJ_d, rR_d, rN_d, wF_d, xI_d, xJ_d, xD_d, xQ_d, yI_d, yJ_d, yD_d, yQ_d, dI_s, dJ_s, dR_s, dN_s, dN_n, dH_s, dX_s, dL_s, dD_s, dQ_s, bC_r, bC_t, kI_s, kJ_s, kF_s, kD_s, kR_s, kV_s, I_lit, I_neg, I_add, I_sub, I_mul, I_ltT, I_ltF, I_leT, I_leF, I_eqT, I_eqF, c_int, c_long, c_obj, c_arr, c_bool, c_boolN, c_boolF, vn_bool, c_charN, vn_char, b2_f, b2_t, Int.toNat_natCast, ↓reduceIte, eq_self, and_self, and_true, true_and, not_false_eq_true, not_true_eq_false, L_0_0, L_0_1, L_0_2, L_0_3, L_0_4, L_0_5, L_0_6, L_0_7, L_0_8, L_0_9, L_0_10, L_0_11, L_0_12, L_0_13, L_0_14, L_0_15, C_0, L_1_0, L_1_1, L_1_2, C_1, L_2_0, L_2_1, L_2_2, C_2, L_3_0, L_3_1, L_3_2, C_3, L_65_0, L_65_1, L_65_2, L_65_3, L_65_4, C_65, L_66_0, L_66_1, L_66_2, L_66_3, C_66, L_129_0, L_129_1, L_129_2, L_129_3, C_129, L_198_0, L_198_1, L_198_2, L_198_3, L_198_4, L_198_5, L_198_6, L_198_7, L_198_8, L_198_9, L_198_10, L_198_11, L_198_12, L_198_13, L_198_14, L_198_15, L_198_16, L_198_17, L_198_18, L_198_19, L_198_20, L_198_21, L_198_22, L_198_23, L_198_24, L_198_25, L_198_26, L_198_27, L_198_28, L_198_29, L_198_30, L_198_31, L_198_32, L_198_33, L_198_34, L_198_35, L_198_36, L_198_37, L_198_38, L_198_39, L_198_40, L_198_41, L_198_42, L_198_43, L_198_44, L_198_45, L_198_46, L_198_47, L_198_48, C_198, A_199, A_200, A_201, A_202, A_203, A_204, A_205, A_206, A_207, A_208, A_209, A_210, A_211, A_212, A_213, A_214, A_215, A_216, A_217, A_218, A_219, A_220, A_221, A_222, A_223, A_224, A_225, A_226, A_227, A_228, A_128, A_191, A_rf, A_rs, A_rt, Q_4, Q_67, Q_130, t_28_0_1, t_28_0_2, t_28_0_3, t_28_0_4, t_28_0_5, t_28_0_6, t_28_0_7, M_0_8, M_0_9, M_0_10, M_0_11, M_0_12, M_0_13, M_0_14, M_0_15, M_1_0, M_1_1, M_1_2, M_2_0, M_2_1, M_2_2, M_3_0, M_3_1, M_3_2, M_65_0, M_65_1, M_65_2, M_65_3, M_65_4, M_66_2, M_129_2, M_198_0, M_198_1, M_198_2, M_198_3, M_198_4, M_198_5, M_198_7, M_198_17, M_198_18, M_198_28, M_198_31, M_198_32, M_198_33, M_198_36, M_198_37, M_198_38, M_198_39, M_198_41, M_198_48, S_199, S_200, S_201, S_202, S_203, S_204, S_205, S_206, S_207, S_208, S_209, S_210, S_211, S_212, S_213, S_214, S_215, S_216, S_217, S_218, S_219, S_220, S_221, S_222, S_223, S_224, S_225, S_226, S_227, S_228, S_128, S_191, S_rf, S_rs, S_rt, sI_eq, sI_ne, sI_21, sI_22, sA_eq, sA_ne, sA_1, sA_3, iltT, iltF, ileT, ileF, ieqT, ieqF, cif_T, cif_F, not_true_eq_false, not_false_eq_true, or_true, or_false, true_or, false_or, false_and, and_false, ne_eq, c3, s3, w1, r1, w2]
  · show (if o = 66 ∧ k = 2 then 0 else (sI B1 0 13 0).1 o k) = _
    rw [if_neg (by omega), sI_ne (by omega), k1 o k (by omega)]
  · show (if 66 + 2 ≤ o ∧ o < 66 + 62 ∧ j < 12 then (-1 : Int) else if o = 66 + 62 ∧ j < 4 then -1 else B1.2.1 o j) = _
    rw [if_neg (by omega), if_neg (by omega), k2]
  · have hM2 : ∀ o, 199 ≤ o → o ≠ 215 ∧ o ≠ 216 ∧ o ≠ 217 → (tw (emB (clS (sI B1 0 13 0) 66))).2 o = (tw B).2 o := fun o h1 h2 => by
      show (emB (clS (sI B1 0 13 0) 66)).2.1 o = B.2.1 o
      rw [emB_c h2]
      funext j
      show (if 66 + 2 ≤ o ∧ o < 66 + 62 ∧ j < 12 then (-1 : Int) else if o = 66 + 62 ∧ j < 4 then -1 else B1.2.1 o j) = _
      rw [if_neg (by omega), if_neg (by omega), k2]
    have hM1 : ∀ k, k ≠ 17 → k ≠ 18 → (tw (emB (clS (sI B1 0 13 0) 66))).1 k = (tw B).1 k := fun k h1 h2 => by
      show (emB (clS (sI B1 0 13 0) 66)).1 198 k = B.1 198 k
      rw [emB_f (Or.inr ⟨h1, h2⟩)]
      show (if (198 : Nat) = 66 ∧ k = 2 then 0 else (sI B1 0 13 0).1 198 k) = _
      rw [if_neg (by omega), sI_ne (by omega), k1 198 k (by omega)]
    generalize hMM : tw (emB (clS (sI B1 0 13 0) 66)) = MM at *
    have hcl : MM.2 215 = fill (B.2.1 215) (-1) 720 := by
      rw [← hMM]
      show (emB (clS (sI B1 0 13 0) 66)).2.1 215 = _
      rw [emB_cl]
      congr 1
      funext j
      show (if 66 + 2 ≤ 215 ∧ 215 < 66 + 62 ∧ j < 12 then (-1 : Int) else if 215 = 66 + 62 ∧ j < 4 then -1 else B1.2.1 215 j) = _
      rw [if_neg (by omega), if_neg (by omega), k2]
    have hog : ∀ g, g < 4 → MM.2 217 g = 0 := fun g hg => by
      rw [← hMM]
      show (emB (clS (sI B1 0 13 0) 66)).2.1 217 g = _
      rw [emB_og]
      exact if_pos hg
    have hmy : (MM.1 17) = 0 := by rw [← hMM]; exact emB_many (B := clS (sI B1 0 13 0) 66)
    have hnx : (MM.1 18) = 0 := by rw [← hMM]; exact emB_next (B := clS (sI B1 0 13 0) 66)
    have cc := f4 1 sh (by omega) hR.l1 (k1 1 1 (by omega)) (k1 1 2 (by omega))
    have cc2 := f4 2 st (by omega) hR.l2 (k1 2 1 (by omega)) (k1 2 2 (by omega))
    have hz : ∀ o k, o ≠ 66 → o ≠ 0 ∨ k ≠ 13 → (clS (sI B1 0 13 0) 66).1 o k = B1.1 o k := fun o k h1 h2 => by
      show (if o = 66 ∧ k = 2 then 0 else (sI B1 0 13 0).1 o k) = _
      rw [if_neg (by omega), sI_ne (by omega)]
    have hfl := FR.ln (B := B1) (B' := clS (sI B1 0 13 0) 66) r2
    have hkN : K.2 3 < N := r2.2.2.2.1 3 (by omega)
    have hN1 : N ≤ G1.2.1 := by have := r2.2.2.1; omega
    have clw : ∀ o xs, o ≠ 0 → o ≠ 66 → CL K N G1 B1 ro o xs → CL K N G1 (clS (sI B1 0 13 0) 66) ro o xs := fun o xs h1 h2 ⟨a, b, c, r⟩ => by
      have z1 := hz o 1 h2 (Or.inl h1)
      refine ⟨by rw [z1]; exact a, (hz o 2 h2 (Or.inl h1)).trans b, ?_, by rw [z1]; exact r⟩
      rw [z1]
      rcases r with e | e
      · exact c.fr (ro := ro) (o := 0) r2.hb hfl OW.ln hkN hN1 (Or.inl e)
      · exact c.fr r2.hb hfl OW.ln hkN hN1 (Or.inr e)
    obtain ⟨s1, s2, s3', s4, s5, s6, s7, s8, s9⟩ := hR.2.1
    refine ⟨r2, ⟨?_, ?_, ?_, ?_, ?_, ?_, ?_, ?_, fun r c hr hc => ?_⟩, ⟨fun r c hr hc => ?_, fun g hg => ?_, ?_⟩, clw 1 sh (by omega) (by omega) cc, clw 2 st (by omega) (by omega) cc2, clw 3 [] (by omega) (by omega) n3, ⟨?_, ?_, hmy⟩, fun i a ha => ⟨?_, ?_⟩, fun i a ha => ⟨?_, ?_⟩, fun j a ha => by cases ha⟩
    · rw [hz 0 8 (by omega) (by omega), k1 0 8 (by omega), hM1 1 (by omega) (by omega)]; exact s1
    · rw [hz 0 9 (by omega) (by omega), k1 0 9 (by omega), hM1 2 (by omega) (by omega)]; exact s2
    · rw [hz 0 10 (by omega) (by omega), k1 0 10 (by omega), hM1 3 (by omega) (by omega)]; exact s3'
    · rw [hz 0 11 (by omega) (by omega), k1 0 11 (by omega), hM1 4 (by omega) (by omega)]; exact s4
    · rw [hz 0 12 (by omega) (by omega), k1 0 12 (by omega), hM1 5 (by omega) (by omega)]; exact s5
    · rw [hnx]
      show (if (0 : Nat) = 66 ∧ 13 = 2 then (0 : Int) else (sI B1 0 13 0).1 0 13) = 0
      rw [if_neg (by omega)]
      exact sI_eq rfl
    · rw [hz 0 14 (by omega) (by omega), k1 0 14 (by omega), hM1 31 (by omega) (by omega)]; exact s7
    · rw [hz 0 15 (by omega) (by omega), k1 0 15 (by omega), hM1 32 (by omega) (by omega)]; exact s8
    · rw [hM2 199 (by omega) (by omega), ← s9 r c hr hc]
      show (if 66 + 2 ≤ 5 + r ∧ 5 + r < 66 + 62 ∧ c < 12 then (-1 : Int) else if 5 + r = 66 + 62 ∧ c < 4 then -1 else B1.2.1 (5 + r) c) = _
      rw [if_neg (by omega), if_neg (by omega), k2]
    · rw [hcl]
      show (if 66 + 2 ≤ 66 + 2 + r ∧ 66 + 2 + r < 66 + 62 ∧ c < 12 then (-1 : Int) else _) = fill (B.2.1 215) (-1) 720 (12 * r + c)
      rw [if_pos (by omega)]
      exact (if_pos (by omega)).symm
    · show (if 66 + 2 ≤ 66 + 62 ∧ 66 + 62 < 66 + 62 ∧ g < 12 then (-1 : Int) else if 66 + 62 = 66 + 62 ∧ g < 4 then -1 else B1.2.1 (66 + 62) g) = if MM.2 217 g = 0 then -1 else MM.2 216 g
      rw [if_neg (by omega), if_pos (by omega), if_pos (hog g hg)]
    · show (if (66 : Nat) = 66 ∧ 2 = 2 then (0 : Int) else (sI B1 0 13 0).1 66 2) = lng (MM.2 215)
      rw [if_pos (by omega), hcl, lng_fill]
    · rw [hM1 7 (by omega) (by omega)]; exact hR.nn.1
    · rw [hM1 28 (by omega) (by omega)]; exact hR.nn.2.1
    · exact ((f1 i a ha (by omega)).fo r2.hb hfl OW.ln hkN hN1).se (SE.of (fun o h1 h2 => hM2 o (by omega) (by omega)))
    · rw [dl_e (hM2 202 (by omega) (by omega))]
      exact (hR.sp ha).2
    · exact ((f2 i a ha (by omega)).fo r2.hb hfl OW.ln hkN hN1).se (by rw [hM2 219 (by omega) (by omega)])
    · refine (hR.sy ha).2.se (fun s _ => by rw [hM2 218 (by omega) (by omega)]) ?_
      have := mw_shapes hw
      have := hR.nn.1
      dsimp only [tw] at this
      omega
end
