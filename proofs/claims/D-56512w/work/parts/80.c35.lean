/-! PURE 74: a piece laid into the marker, continued -/
set_option maxRecDepth 100000
section
variable {K : gK} {d N : Nat} {G G' : gH} {B B' B0 : gB} {M M' : gM} {ro : Nat → Nat} {sh st pc : List Nat} {cs : Nat → List Nat} {ps : Nat → List (Nat × Int)} {a s : Nat} {cl : List Nat} {t m r c : Int}
theorem CL.ln (hC : CB K N G) {o : Nat} {xs : List Nat} (h : CL K N G B ro o xs) (h1 : B'.1 o 1 = B.1 o 1) (h2 : B'.1 o 2 = B.1 o 2) : CL K N G B' ro o xs := by
  obtain ⟨a, b, c, r⟩ := h
  have hk := hC.2.2.2.1 3 (by omega)
  have hN := hC.2.2.1
  refine ⟨by rw [h1]; exact a, h2.trans b, ?_, by rw [h1]; exact r⟩
  rw [h1]
  rcases r with e | e
  · exact c.fr (ro := ro) (o := 0) hC.hb (FR.ln hC) OW.ln hk (by omega) (Or.inl e)
  · exact c.fr hC.hb (FR.ln hC) OW.ln hk (by omega) (Or.inr e)
theorem w_167 (hd : 9 ≤ d) (hw : MW B0) (hk0 : KP B0 B) (hR : CR K N G B ro (tw B0) sh st pc cs ps) (h : SPX K N G B (tw B0) ro a s cl t m r c) (hsa : sh[s]? = some a) (ht : 0 ≤ t ∧ t ≤ 3) (hi : ins (tw B0) cl t m r c) (h40 : (B0.1 198 17) < 40) (hnx : (B0.1 198 18) < 1000) : ∃ G' B' ro' p, gCa K d 167 [.ref N] (hH K N G B) = some (.inl (some (.int (I ((B0.1 198 18))))), hH K N G' B') ∧ KP B B' ∧ AL G G' 2 206 ∧ CR K N G' B' ro' (tw (putB B0 s (dl (tw B0) s) t r c m)) sh st (pc ++ [p]) cs ps := by
  obtain ⟨d, rfl, hd'⟩ := d_succ (show 8 + 1 ≤ d by omega)
  have hC := hR.1
  have hN := hC.2.2.1
  have hn := hR.nn
  have bn := mw_next hw
  have bm := mw_many hw
  have bsh := mw_shapes hw
  have e3 : (B0.1 198 17) = (pc.length : Int) := hn.2.2
  have e4 : (B0.1 198 7) = (sh.length : Int) := hn.1
  have enx : B.1 0 13 = (B0.1 198 18) := hR.2.1.2.2.2.2.2.1
  have hdyn : gnew (hH K N G B) (.inr (7, [.int (I 0), .null, .int (I 0), .int (I 0), .int (I 0), .int (I 0)])) 6 = hH K N (gnew G (.inr (7, [.int (I 0), .null, .int (I 0), .int (I 0), .int (I 0), .int (I 0)])) 6) B := gnew_dyn hN
  have w1 := w_207 (d := d) (by omega) h (v := (B0.1 198 18))
  have hp2 : (gnew G (.inr (7, [.int (I ((B0.1 198 18))), .ref a, .int (I t), .int (I m), .int (I r), .int (I c)])) 6).1 G.2.1 = some (.inr (7, [.int (I ((B0.1 198 18))), .ref a, .int (I t), .int (I m), .int (I r), .int (I c)])) := gn_eq
  have hC2 : CB K N (gnew G (.inr (7, [.int (I ((B0.1 198 18))), .ref a, .int (I t), .int (I m), .int (I r), .int (I c)])) 6) := hC.new
  have f02 : FR (LN N) 1 6 (hH K N G B) (hH K N (gnew G (.inr (7, [.int (I ((B0.1 198 18))), .ref a, .int (I t), .int (I m), .int (I r), .int (I c)])) 6) B) := by
    rw [← gnew_dyn hN]
    exact FR.new hC.hb
  have n2 : (gnew G (.inr (7, [.int (I ((B0.1 198 18))), .ref a, .int (I t), .int (I m), .int (I r), .int (I c)])) 6).2.1 = G.2.1 + 1 := rfl
  generalize hG2 : gnew G (.inr (7, [.int (I ((B0.1 198 18))), .ref a, .int (I t), .int (I m), .int (I r), .int (I c)])) 6 = G2 at *
  -- the number counted
  have f03 : FR (LN N) 1 6 (hH K N G B) (hH K N G2 (sI B 0 13 ((B0.1 198 18) + 1))) := (f02.tr (FR.ln hC2)).le (by omega) (by omega)
  obtain ⟨-, -, p3, l3⟩ := hR.fo (ro' := ro) (o1 := 1000) f03 (fun q hq => Or.inl hq) (fun _ _ => rfl)
  have L3 := l3 3 pc (by omega) hR.l3 (sI_ne (by omega)) (sI_ne (by omega))
  have b31 : (sI B 0 13 ((B0.1 198 18) + 1)).1 3 1 = B.1 3 1 := sI_ne (by omega)
  have hpn : (hH K N G2 (sI B 0 13 ((B0.1 198 18) + 1))).1 G.2.1 = some (.inr (7, [.int (I ((B0.1 198 18))), .ref a, .int (I t), .int (I m), .int (I r), .int (I c)])) := (hH_dyn hN).trans hp2
  obtain ⟨H4, mcv, e', g1, g2, g3, g4, g5⟩ := w_156 (K := K) (d := d) (by omega) (hC2.hb (B := sI B 0 13 ((B0.1 198 18) + 1))) (by have := hC.2.2.2.1 3 (by omega); show K.2 3 < G2.2.1; omega) L3.o3 L3.2.2.1 (by omega) (fun x hx => by
    obtain ⟨j, hj⟩ := List.mem_iff_getElem?.mp hx
    obtain ⟨b, -, hb⟩ := p3 j x hj
    exact ⟨7, cl_of hb, by omega⟩) (v := G.2.1) ⟨7, cl_of hpn, by omega⟩
  obtain ⟨r1, r2⟩ := relist (Or.inr (Or.inr rfl)) hC2 L3 g5 g2
  have hout : H4.1 G.2.1 = some (.inr (7, [.int (I ((B0.1 198 18))), .ref a, .int (I t), .int (I m), .int (I r), .int (I c)])) := by
    refine g5.at (hC2.hb) hpn ?_
    rintro (q | ⟨q, q0⟩)
    · omega
    · have := L3.arr hC2 q0
      rcases L3.2.2.1 with ⟨e1, e2, -⟩ | ⟨-, cap, f, e1, -⟩
      · exact q0 e2
      · rw [← q] at e1; cases e1.symm.trans hpn
  have f04 : FR (fun q => (N ≤ q ∧ q < N + 231) ∨ (q = (B.1 3 1).toNat ∧ (hH K N G B).1 q ≠ none)) 2 206 (hH K N G B) H4 := by
    refine ((f03.mono (fun q _ hq => Or.inl hq)).tr (g5.mono (fun q hq hq2 => ?_))).le (by omega) (by omega)
    rcases hq2 with q1 | ⟨q1, q2⟩
    · exact Or.inl (by omega)
    · rw [b31] at q1 q2
      refine Or.inr ⟨q1, ?_⟩
      rw [q1]
      intro z
      rcases hR.l3.2.2.1 with ⟨e1, e2, -⟩ | ⟨-, cap, f, e1, -⟩
      · rcases L3.2.2.1 with ⟨e5, e6, -⟩ | ⟨e5, -⟩
        · rw [b31] at e6; exact q2 e6
        · rw [b31] at e5; exact e5 e1
      · rw [e1] at z; cases z
  have hW : ∀ q, ((N ≤ q ∧ q < N + 231) ∨ (q = (B.1 3 1).toNat ∧ (hH K N G B).1 q ≠ none)) → (N ≤ q ∧ q < N + 231) ∨ (ro q = 3 ∧ ∃ e, (hH K N G B).1 q = some e ∧ mu e) := by
    rintro q (hq | ⟨rfl, h0⟩)
    · exact Or.inl hq
    · have := hR.l3.arr hC h0
      exact Or.inr ⟨this.2.1, this.2.2.1⟩
  have hcw := cl_of L3.o3
  rw [r1] at g1 f04 g3 hout
  have hAL := AL.of (K := K) (N := N) (G := G) (B := B) f04
  have hr0 : ∀ q, q < G.2.1 → roN (hH K N G B) ro 3 q = ro q := fun q hq => if_neg (show ¬ G.2.1 ≤ q by omega)
  obtain ⟨f1, f2, f3, f4⟩ := hR.fo (ro' := roN (hH K N G B) ro 3) (o1 := 3) f04 hW hr0
  have hla : (pc ++ [G.2.1]).length = pc.length + 1 := by rw [List.length_append]; rfl
  -- the spot, and the piece put on the sheet
  have k4 : ∀ o k, (o ≠ 0 ∨ k ≠ 13) → o ≠ 3 → (lB (sI B 0 13 ((B0.1 198 18) + 1)) 3 mcv e' (pc.length + 1)).1 o k = B.1 o k := fun o k h1 h2 => (lB_ne h2).trans (sI_ne (by omega))
  have k5 : ∀ o j, (lB (sI B 0 13 ((B0.1 198 18) + 1)) 3 mcv e' (pc.length + 1)).2.1 o j = B.2.1 o j := fun o j => rfl
  have k6 : (lB (sI B 0 13 ((B0.1 198 18) + 1)) 3 mcv e' (pc.length + 1)).1 0 13 = (B0.1 198 18) + 1 := (lB_ne (by omega)).trans (sI_eq rfl)
  have k7 : (lB (sI B 0 13 ((B0.1 198 18) + 1)) 3 mcv e' (pc.length + 1)).2.2 = B.2.2 := rfl
  have hnew3 : CL K N (dn N H4) (lB (sI B 0 13 ((B0.1 198 18) + 1)) 3 mcv e' (pc ++ [G.2.1]).length) (roN (hH K N G B) ro 3) 3 (pc ++ [G.2.1]) := by
    refine CL.new g3 (by rw [hla]) ?_
    rcases g4 with q | q
    · rw [b31] at q
      rcases hR.l3.2.2.1 with ⟨e1, -, -⟩ | ⟨-, cap, f, e1, -⟩
      · exact Or.inl (q.trans e1)
      · have := hR.l3.arr hC (by rw [e1]; exact fun z => by cases z)
        refine Or.inr ?_
        rw [q, hr0 _ this.2.2.2]
        exact this.2.1
    · refine Or.inr (if_pos ?_)
      have : (hH K N G2 (sI B 0 13 ((B0.1 198 18) + 1))).2.1 = G2.2.1 := rfl
      show G.2.1 ≤ e'
      omega
  rw [hla] at hnew3
  generalize hB4 : lB (sI B 0 13 ((B0.1 198 18) + 1)) 3 mcv e' (pc.length + 1) = B4 at *
  generalize hG4 : dn N H4 = G4 at *
  have h65 := h.2.2.2.2.1
  have hX4 : SPX K N G4 B4 (tw B0) (roN (hH K N G B) ro 3) a s cl t m r c := by
    obtain ⟨q1, q2, q3, ⟨q4, q5, q6, q7, q8⟩, -, q9, q10⟩ := h
    have hb := hC.hb (B := B)
    have hk := hC.2.2.2.1 3 (by omega)
    refine ⟨r2, (q2.ro hb hC.e hr0).fo hb f04 (fun q hq => (hW q hq).imp_right (fun ⟨z, e, e1, e2⟩ => ⟨by rw [hr0 q (hb.lt e1), z]; omega, e, e1, e2⟩)) hk (by omega), q3, ⟨(k4 0 8 (by omega) (by omega)).trans q4, (k4 0 9 (by omega) (by omega)).trans q5, (k4 0 10 (by omega) (by omega)).trans q6, (k4 0 11 (by omega) (by omega)).trans q7, fun R C h1 h2 => (k5 _ _).trans (q8 R C h1 h2)⟩, ⟨(k4 65 0 (by omega) (by omega)).trans h65.1, (k4 65 1 (by omega) (by omega)).trans h65.2.1, (k4 65 2 (by omega) (by omega)).trans h65.2.2.1, (k4 65 3 (by omega) (by omega)).trans h65.2.2.2.1, (k4 65 4 (by omega) (by omega)).trans h65.2.2.2.2⟩, q9, q10⟩
  have hS4 : SHT B4 66 (B0.2.1 215) (rmT (tw B0)) := by
    obtain ⟨q1, q2, q3⟩ := hR.2.2.1
    exact ⟨fun R C h1 h2 => (k5 _ _).trans (q1 R C h1 h2), fun g hg => (k5 _ _).trans (q2 g hg), (k4 66 2 (by omega) (by omega)).trans q3⟩
  obtain ⟨B5, w2, v1, v2⟩ := w_208 (d := d) (by omega) hw hX4 (Or.inl rfl) ht hi (show 0 ≤ (B0.1 198 18) ∧ (B0.1 198 18) ≤ 1000 by omega) hS4
  have hp4 : (hH K N G4 B4).1 G.2.1 = (hH K N G4 B5).1 G.2.1 := (hH_dyn hN).trans (hH_dyn hN).symm
  have hout5 := hp4.symm.trans hout
  have n4 := gf_of hout 0
  have n5 := gf_of hout5 0
  simp only [List.getElem?_cons_zero] at n4 n5
  refine ⟨G4, B5, roN (hH K N G B) ro 3, G.2.1, c_167 _ ?_, ?_, hAL, ?_⟩
  · unfold t_167_0
    simp (disch := omega) only [rI_d, rJ_d, rR_d, rN_d, wF_d, xI_d, xJ_d, xD_d, xQ_d, yI_d, yJ_d, yD_d, yQ_d, dI_s, dJ_s, dR_s, dN_s, dN_n, dH_s, dX_s, dL_s, dD_s, dQ_s, bC_r, bC_t, kI_s, kJ_s, kF_s, kD_s, kR_s, kV_s, I_lit, I_neg, I_add, I_sub, I_mul, I_ltT, I_ltF, I_leT, I_leF, I_eqT, I_eqF, c_int, c_long, c_obj, c_arr, c_bool, c_boolN, c_boolF, vn_bool, c_charN, vn_char, b2_f, b2_t, Int.toNat_natCast, ↓reduceIte, eq_self, and_self, and_true, true_and, not_false_eq_true, not_true_eq_false, L_0_0, L_0_1, L_0_2, L_0_3, L_0_4, L_0_5, L_0_6, L_0_7, L_0_8, L_0_9, L_0_10, L_0_11, L_0_12, L_0_13, L_0_14, L_0_15, C_0, L_1_0, L_1_1, L_1_2, C_1, L_2_0, L_2_1, L_2_2, C_2, L_3_0, L_3_1, L_3_2, C_3, L_65_0, L_65_1, L_65_2, L_65_3, L_65_4, C_65, L_66_0, L_66_1, L_66_2, L_66_3, C_66, L_129_0, L_129_1, L_129_2, L_129_3, C_129, L_198_0, L_198_1, L_198_2, L_198_3, L_198_4, L_198_5, L_198_6, L_198_7, L_198_8, L_198_9, L_198_10, L_198_11, L_198_12, L_198_13, L_198_14, L_198_15, L_198_16, L_198_17, L_198_18, L_198_19, L_198_20, L_198_21, L_198_22, L_198_23, L_198_24, L_198_25, L_198_26, L_198_27, L_198_28, L_198_29, L_198_30, L_198_31, L_198_32, L_198_33, L_198_34, L_198_35, L_198_36, L_198_37, L_198_38, L_198_39, L_198_40, L_198_41, L_198_42, L_198_43, L_198_44, L_198_45, L_198_46, L_198_47, L_198_48, C_198, A_199, A_200, A_201, A_202, A_203, A_204, A_205, A_206, A_207, A_208, A_209, A_210, A_211, A_212, A_213, A_214, A_215, A_216, A_217, A_218, A_219, A_220, A_221, A_222, A_223, A_224, A_225, A_226, A_227, A_228, A_128, A_191, A_rf, A_rs, A_rt, Q_4, Q_67, Q_130, t_167_0_1, t_167_0_2, t_167_0_3, t_167_0_4, t_167_0_5, t_167_0_6, t_167_0_7, t_167_0_8, t_167_0_9, t_167_0_10, t_167_0_11, M_0_8, M_0_9, M_0_10, M_0_11, M_0_12, M_0_13, M_0_14, M_0_15, M_1_0, M_1_1, M_1_2, M_2_0, M_2_1, M_2_2, M_3_0, M_3_1, M_3_2, M_65_0, M_65_1, M_65_2, M_65_3, M_65_4, M_66_2, M_129_2, M_198_0, M_198_1, M_198_2, M_198_3, M_198_4, M_198_5, M_198_7, M_198_17, M_198_18, M_198_28, M_198_31, M_198_32, M_198_33, M_198_36, M_198_37, M_198_38, M_198_39, M_198_41, M_198_48, S_199, S_200, S_201, S_202, S_203, S_204, S_205, S_206, S_207, S_208, S_209, S_210, S_211, S_212, S_213, S_214, S_215, S_216, S_217, S_218, S_219, S_220, S_221, S_222, S_223, S_224, S_225, S_226, S_227, S_228, S_128, S_191, S_rf, S_rs, S_rt, sI_eq, sI_ne, sI_21, sI_22, sA_eq, sA_ne, sA_1, sA_3, iltT, iltF, ileT, ileF, ieqT, ieqF, cif_T, cif_F, not_true_eq_false, not_false_eq_true, or_true, or_false, true_or, false_or, false_and, and_false, ne_eq, hH_n, hdyn, enx, w1, hcw, g1, n4, w2, n5]
  · refine KP.tr ⟨fun o k q => k4 o k (by omega) (by omega), fun o j _ => k5 o j, k7⟩ (v1.kp (Or.inl rfl))
  · have hNG : N ≤ G4.2.1 := by have := r2.2.2.1; omega
    have hkN := r2.2.2.2.1 3 (by omega)
    have hfl := FR.ln (B := B4) (B' := B5) r2
    have hb4 := r2.hb (B := B4)
    have kk : ∀ o k, o ≠ 66 → (o ≠ 0 ∨ k ≠ 13) → o ≠ 3 → B5.1 o k = B.1 o k := fun o k h0 h1 h2 => (v1.1 o k (Or.inl h0)).trans (k4 o k h1 h2)
    have m1 : ∀ k, k ≠ 17 → k ≠ 18 → (tw (putB B0 s (dl (tw B0) s) t r c m)).1 k = (tw B0).1 k := fun k h1 h2 => putB_f (Or.inr ⟨h1, h2⟩)
    have m2 : ∀ o, (o < 209 ∨ 217 < o) → (tw (putB B0 s (dl (tw B0) s) t r c m)).2 o = (tw B0).2 o := fun o h => putB_a h
    have m3 : ∀ o j, 209 ≤ o → o ≤ 214 → j ≠ ((B0.1 198 17)).toNat → (tw (putB B0 s (dl (tw B0) s) t r c m)).2 o j = (tw B0).2 o j := fun o j h1 h2 h3 => putB_row h1 h2 h3
    have m4 : (tw (putB B0 s (dl (tw B0) s) t r c m)).2 215 = putC (B0.2.1 215) (dl (tw B0) s) t m r c ((B0.1 198 18)) (dl (tw B0) s) := putB_cl
    have m5 : ∀ g, rmT (tw (putB B0 s (dl (tw B0) s) t r c m)) g = rmP (tw B0) (rmT (tw B0)) s cl t m r g := fun g => by
      have o1 := putB_og (B := B0) (s := s) (l := dl (tw B0) s) (t := t) (r := r) (c := c) (m := m) (g := g)
      have o2 := putB_ph (B := B0) (s := s) (l := dl (tw B0) s) (t := t) (r := r) (c := c) (m := m) (g := g)
      have og := mw_ofGroup hw g
      rw [rmT_e, o1, o2]
      unfold rmP
      rw [rmT_e, mb_p h.2.2.1]
      by_cases e : marked (tw B0) s ∧ g = (B0.2.1 204 s).toNat
      · have e' : marked (tw B0) s ∧ g = ((tw B0).2 204 s).toNat := e
        rw [cifT e, cifT e, cifT e', if_neg (by omega)]
      · have e' : ¬ (marked (tw B0) s ∧ g = ((tw B0).2 204 s).toNat) := e
        rw [cifF e, cifF e, cifF e']
    have m6 : (tw (putB B0 s (dl (tw B0) s) t r c m)).1 17 = (B0.1 198 17) + 1 := putB_many
    have m7 : (tw (putB B0 s (dl (tw B0) s) t r c m)).1 18 = (B0.1 198 18) + 1 := putB_next
    obtain ⟨x1, x2, x3, x4, x5, x6⟩ := putB_new (B := B0) (s := s) (l := dl (tw B0) s) (t := t) (r := r) (c := c) (m := m)
    generalize hMM : tw (putB B0 s (dl (tw B0) s) t r c m) = MM at *
    have x1' : MM.2 209 ((B0.1 198 17)).toNat = (B0.1 198 18) := by rw [← hMM]; exact x1
    have x2' : MM.2 210 ((B0.1 198 17)).toNat = s := by rw [← hMM]; exact x2
    have x3' : MM.2 211 ((B0.1 198 17)).toNat = r := by rw [← hMM]; exact x3
    have x4' : MM.2 212 ((B0.1 198 17)).toNat = c := by rw [← hMM]; exact x4
    have x5' : MM.2 213 ((B0.1 198 17)).toNat = t := by rw [← hMM]; exact x5
    have x6' : MM.2 214 ((B0.1 198 17)).toNat = m := by rw [← hMM]; exact x6
    have eM : ((B0.1 198 17)).toNat = pc.length := by omega
    rw [eM] at x1' x2' x3' x4' x5' x6'
    obtain ⟨s1, s2, s3, s4, s5, s6, s7, s8, s9⟩ := hR.2.1
    refine ⟨r2, ⟨?_, ?_, ?_, ?_, ?_, ?_, ?_, ?_, fun R C h1 h2 => ?_⟩, ⟨fun R C h1 h2 => ?_, fun g hg => ?_, ?_⟩, CL.ln r2 (f4 1 sh (by omega) hR.l1 (k4 _ _ (by omega) (by omega)) (k4 _ _ (by omega) (by omega))) (v1.1 _ _ (by omega)) (v1.1 _ _ (by omega)), CL.ln r2 (f4 2 st (by omega) hR.l2 (k4 _ _ (by omega) (by omega)) (k4 _ _ (by omega) (by omega))) (v1.1 _ _ (by omega)) (v1.1 _ _ (by omega)), CL.ln r2 hnew3 (v1.1 _ _ (by omega)) (v1.1 _ _ (by omega)), ⟨?_, ?_, ?_⟩, fun i x hx => ⟨?_, ?_⟩, fun i x hx => ⟨?_, ?_⟩, fun j x hx => ?_⟩
    · rw [kk 0 8 (by omega) (by omega) (by omega), m1 1 (by omega) (by omega)]; exact s1
    · rw [kk 0 9 (by omega) (by omega) (by omega), m1 2 (by omega) (by omega)]; exact s2
    · rw [kk 0 10 (by omega) (by omega) (by omega), m1 3 (by omega) (by omega)]; exact s3
    · rw [kk 0 11 (by omega) (by omega) (by omega), m1 4 (by omega) (by omega)]; exact s4
    · rw [kk 0 12 (by omega) (by omega) (by omega), m1 5 (by omega) (by omega)]; exact s5
    · rw [v1.1 0 13 (by omega), k6, m7]
    · rw [kk 0 14 (by omega) (by omega) (by omega), m1 31 (by omega) (by omega)]; exact s7
    · rw [kk 0 15 (by omega) (by omega) (by omega), m1 32 (by omega) (by omega)]; exact s8
    · rw [v1.2.1 _ _ (by omega), k5, m2 199 (by omega)]; exact s9 R C h1 h2
    · rw [m4, ← putC_p h.2.2.1]; exact v2.1 R C h1 h2
    · rw [m5]; exact v2.2.1 g hg
    · rw [m4, ← putC_p h.2.2.1]; exact v2.2.2
    · rw [m1 7 (by omega) (by omega)]; exact hn.1
    · rw [m1 28 (by omega) (by omega)]; exact hn.2.1
    · rw [m6, hla]; omega
    · exact ((f1 i x hx (by omega)).fo hb4 hfl OW.ln hkN hNG).se (SE.of (fun o h1 h2 => m2 o (by omega)))
    · rw [dl_e (m2 202 (by omega))]; exact (hR.sp hx).2
    · exact ((f2 i x hx (by omega)).fo hb4 hfl OW.ln hkN hNG).se (by rw [m2 219 (by omega)])
    · exact (hR.sy hx).2.se (fun z _ => by rw [m2 218 (by omega)]) (by omega)
    · rcases get_app hx with ⟨z1, z2⟩ | ⟨z1, z2⟩
      · refine ((f3 j x z2).fo (ro := ro) (o := 0) hb4 hfl OW.ln).se ⟨?_, ?_, ?_, ?_, ?_, ?_⟩
        all_goals exact m3 _ _ (by omega) (by omega) (by omega)
      · subst z1
        rw [z2]
        refine ⟨a, by rw [x2', Int.toNat_natCast]; exact hsa, ?_⟩
        rw [x1', x3', x4', x5', x6']
        exact hout5
end
