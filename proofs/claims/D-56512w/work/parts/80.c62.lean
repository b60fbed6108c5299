/-! PURE 101: the least length in the room -/
set_option maxRecDepth 100000
section
variable {K : gK} {d N : Nat} {G G' G1 : gH} {B B' B0 B1 : gB} {M : gM} {ro : Nat → Nat} {sh st pc : List Nat} {cs : Nat → List Nat} {ps : Nat → List (Nat × Int)} {l n m sl base : Nat} {gv : Int} {L : List Int}
theorem w_221 (hd : 2 ≤ d) (hC : CB K N G) (hb : N + 231 ≤ base) (hS : SLI K G base sh l L) (hL : L.length ≤ 4) (hgv : 0 ≤ gv ∧ gv ≤ 1) : ∃ G', gCa K d 221 [.ref G.2.1, .ref N, .ref l, .int (I gv)] (gnew (hH K N G B) (.inr (11, [.null, .int (I 0), .null, .int (I 0), .null])) 5) = some (.inl none, hH K N G' B) ∧ FR noW 2 9 G G' ∧ ORD G' N G.2.1 l (G.2.1 + 1) gv 61 L.length (fun _ => 0) := by
  obtain ⟨d, rfl, hd'⟩ := d_succ (show 1 + 1 ≤ d by omega)
  obtain ⟨mc, e, ca, c1, c2, c3, c4, c5, c6⟩ := hS.rd (B := B) hC hb
  have hN := hC.2.2.1
  have hHB := hC.hb (B := B)
  have hG : (hH K N G B).2.1 = G.2.1 := rfl
  have lp := hHB.lt c1
  have n1 : ∀ {v w x y z : Value}, (gnew (hH K N G B) (.inr (11, [v, w, x, y, z])) 5).1 G.2.1 = some (.inr (11, [v, w, x, y, z])) := gn_eq
  have s4 : ∀ {v w x y z u : Value}, g_pf (gnew (hH K N G B) (.inr (11, [v, w, x, y, z])) 5) G.2.1 11 4 u = some (gnew (hH K N G B) (.inr (11, [v, w, x, y, u])) 5) := fun {v w x y z u} => by rw [pf_of n1 (by decide : 4 < 5), ← hG, gs_gn]; rfl
  have s3 : ∀ {v w x y z u : Value}, g_pf (gnew (hH K N G B) (.inr (11, [v, w, x, y, z])) 5) G.2.1 11 3 u = some (gnew (hH K N G B) (.inr (11, [v, w, x, u, z])) 5) := fun {v w x y z u} => by rw [pf_of n1 (by decide : 3 < 5), ← hG, gs_gn]; rfl
  have s0 : ∀ {v w x y z u : Value}, g_pf (gnew (hH K N G B) (.inr (11, [v, w, x, y, z])) 5) G.2.1 11 0 u = some (gnew (hH K N G B) (.inr (11, [u, w, x, y, z])) 5) := fun {v w x y z u} => by rw [pf_of n1 (by decide : 0 < 5), ← hG, gs_gn]; rfl
  have s1 : ∀ {v w x y z u : Value}, g_pf (gnew (hH K N G B) (.inr (11, [v, w, x, y, z])) 5) G.2.1 11 1 u = some (gnew (hH K N G B) (.inr (11, [v, u, x, y, z])) 5) := fun {v w x y z u} => by rw [pf_of n1 (by decide : 1 < 5), ← hG, gs_gn]; rfl
  have f1 : FR noW 1 5 (hH K N G B) (gnew (hH K N G B) (.inr (11, [.ref l, .int (I gv), .null, .int (I 61), .ref N])) 5) := FR.new hHB
  have hl : ALo (gnew (hH K N G B) (.inr (11, [.ref l, .int (I gv), .null, .int (I 61), .ref N])) 5) l mc e ca.length := (gn_lt lp).trans c1
  have cl12 := cl_of hl
  have sz := w_110 (K := K) (d := d) (by omega) hl
  rw [c5] at sz
  have k1 : (gnew (hH K N G B) (.inr (11, [.ref l, .int (I gv), .null, .int (I 61), .ref N])) 5).2.1 = G.2.1 + 1 := rfl
  have x1 : (gnew (hH K N G B) (.inr (11, [.ref l, .int (I gv), .null, .int (I 61), .ref N])) 5).1 G.2.1 = some (.inr (11, [.ref l, .int (I gv), .null, .int (I 61), .ref N])) := gn_eq
  generalize hH1 : gnew (hH K N G B) (.inr (11, [.ref l, .int (I gv), .null, .int (I 61), .ref N])) 5 = H1 at *
  have f2 : FR noW 1 L.length H1 (gnew H1 (.inl (0, L.length, .inl (fun _ => I 0))) L.length) := FR.new f1.hb
  have x2 : (gnew H1 (.inl (0, L.length, .inl (fun _ => I 0))) L.length).1 G.2.1 = _ := (gn_lt (by omega)).trans x1
  have y2 : (gnew H1 (.inl (0, L.length, .inl (fun _ => I 0))) L.length).1 (G.2.1 + 1) = some (.inl (0, L.length, .inl (fun _ => I 0))) := by rw [← k1]; exact gn_eq
  have s2 : g_pf (gnew H1 (.inl (0, L.length, .inl (fun _ => I 0))) L.length) G.2.1 11 2 (.ref (G.2.1 + 1)) = some (gset (gnew H1 (.inl (0, L.length, .inl (fun _ => I 0))) L.length) G.2.1 (.inr (11, [.ref l, .int (I gv), .ref (G.2.1 + 1), .int (I 61), .ref N]))) := pf_of x2 (by decide : 2 < 5)
  have f3 : FR noW 2 9 (hH K N G B) (gset (gnew H1 (.inl (0, L.length, .inl (fun _ => I 0))) L.length) G.2.1 (.inr (11, [.ref l, .int (I gv), .ref (G.2.1 + 1), .int (I 61), .ref N]))) := ((f1.tr f2).sn (Nat.le_refl _) x2).le (by omega) (by omega)
  obtain ⟨r1, r2, r3⟩ := FR.lower hC f3 (fun q h _ => h.elim)
  have hcn : (I (L.length : Int)).toNatClampNeg = L.length := (I_cn (by omega) (by omega)).trans (Int.toNat_natCast _)
  have hle : (100000 < L.length) = False := eq_false (by omega)
  refine ⟨_, c_221 _ ?_, r3, (if_neg (by omega)).trans gs_eq, (if_neg (by omega)).trans ((gs_ne (by omega)).trans y2)⟩
  rw [← r1]
  unfold t_221_0
  simp (disch := omega) only [rI_d, rJ_d, rR_d, rN_d, wF_d, xI_d, xJ_d, xD_d, xQ_d, yI_d, yJ_d, yD_d, yQ_d, dI_s, dJ_s, dR_s, dN_s, dN_n, dH_s, dX_s, dL_s, dD_s, dQ_s, bC_r, bC_t, kI_s, kJ_s, kF_s, kD_s, kR_s, kV_s, I_lit, I_neg, I_add, I_sub, I_mul, I_ltT, I_ltF, I_leT, I_leF, I_eqT, I_eqF, c_int, c_long, c_obj, c_arr, c_bool, c_boolN, c_boolF, vn_bool, c_charN, vn_char, b2_f, b2_t, Int.toNat_natCast, ↓reduceIte, eq_self, and_self, and_true, true_and, not_false_eq_true, not_true_eq_false, L_0_0, L_0_1, L_0_2, L_0_3, L_0_4, L_0_5, L_0_6, L_0_7, L_0_8, L_0_9, L_0_10, L_0_11, L_0_12, L_0_13, L_0_14, L_0_15, C_0, L_1_0, L_1_1, L_1_2, C_1, L_2_0, L_2_1, L_2_2, C_2, L_3_0, L_3_1, L_3_2, C_3, L_65_0, L_65_1, L_65_2, L_65_3, L_65_4, C_65, L_66_0, L_66_1, L_66_2, L_66_3, C_66, L_129_0, L_129_1, L_129_2, L_129_3, C_129, L_198_0, L_198_1, L_198_2, L_198_3, L_198_4, L_198_5, L_198_6, L_198_7, L_198_8, L_198_9, L_198_10, L_198_11, L_198_12, L_198_13, L_198_14, L_198_15, L_198_16, L_198_17, L_198_18, L_198_19, L_198_20, L_198_21, L_198_22, L_198_23, L_198_24, L_198_25, L_198_26, L_198_27, L_198_28, L_198_29, L_198_30, L_198_31, L_198_32, L_198_33, L_198_34, L_198_35, L_198_36, L_198_37, L_198_38, L_198_39, L_198_40, L_198_41, L_198_42, L_198_43, L_198_44, L_198_45, L_198_46, L_198_47, L_198_48, C_198, A_199, A_200, A_201, A_202, A_203, A_204, A_205, A_206, A_207, A_208, A_209, A_210, A_211, A_212, A_213, A_214, A_215, A_216, A_217, A_218, A_219, A_220, A_221, A_222, A_223, A_224, A_225, A_226, A_227, A_228, A_128, A_191, A_rf, A_rs, A_rt, Q_4, Q_67, Q_130, t_221_0_1, t_221_0_2, t_221_0_3, t_221_0_4, t_221_0_5, t_221_0_6, iltT, iltF, ileT, ileF, ieqT, ieqF, cif_T, cif_F, not_true_eq_false, not_false_eq_true, or_true, or_false, true_or, false_or, false_and, and_false, ne_eq, s4, s3, s0, s1, hH1, cl12, sz, hcn, hle, k1, s2]
def exF (k : Int) : Nat := if k = 1 then 3 else if k = 2 then 2 else 1
theorem w_185 (hd : 17 ≤ d) (hw : MW B) (hru : RU (tw B)) (hR : CR K N G B ro (tw B) sh st pc cs ps) {s g a : Int} (h1 : R32 s) (hg : 0 ≤ g ∧ g ≤ 1) (hNB : (0 ≤ s ∧ s ≤ (B.1 198 28) - 1) → (1 ≤ (qQ (tw B) s).length ∧ (qQ (tw B) s).length ≤ 4) → NB (tw B) (qQ (tw B) s) a) :
    ∃ G' B', gCa K d 185 [.ref N, .int (I s), .int (I g)] (hH K N G B) = some (cif (k_nested B s a = 0) (.inl (some (.int (I a)))) (.inr (exF (k_nested B s a))), hH K N G' B') ∧ KP B B' ∧ AL G G' 140 14000 ∧ RM K N G' B' (tw B) := by
  obtain ⟨d, rfl, hd'⟩ := d_succ (show 16 + 1 ≤ d by omega)
  have e4 : (B.1 198 28) = (st.length : Int) := hR.nn.2.1
  have h8 := h8_of hw hR
  have hC := hR.1
  have hN := hC.2.2.1
  by_cases c0 : 0 ≤ s ∧ s ≤ (B.1 198 28) - 1
  · obtain ⟨a0, ha⟩ := at_lt (show s.toNat < st.length by omega)
    have w := w_181 (d := d) (by omega) hR (by omega) c0.1 ha
    have hs : ((s.toNat : Nat) : Int) = s := by omega
    obtain ⟨G1, v1, v2, v3⟩ := w_220 (d := d) (by omega) hw hR ha
    have hperm := sqL_perm hw hR ha
    rw [hs] at hperm
    have hlen := hperm.length_eq
    have hR1 := hR.gr v2
    have hC1 := hR1.1
    have hN1 := hC1.2.2.1
    obtain ⟨mc, e, ca, k1, k2, k3, k4, k5, k6⟩ := v3.rd (B := B) hC1 hN
    have bq := qP_len hw (s := s) ((B.1 198 7)).toNat
    have b3 := mw_shapes hw
    have bq' : ((qQ (tw B) s).length : Int) ≤ 64 := by
      show ((qP (tw B) s ((B.1 198 7)).toNat).length : Int) ≤ 64
      omega
    have cc := cl_of k1
    have sz := w_110 (K := K) (d := d) (by omega) k1
    rw [k5, hlen] at sz
    have wb := w_148 (K := K) (d := d) (H := hH K N G1 B) (a := ((qQ (tw B) s).length : Int)) (b := 1) (c := 4) (by omega) (by omega) (by omega) (by omega)
    by_cases c1 : 1 ≤ (qQ (tw B) s).length ∧ (qQ (tw B) s).length ≤ 4
    · rw [b2T (by omega)] at wb
      have T2 := w_153T (K := K) (d := d) (H := hH K N G1 B) (by omega)
      have hNB := (hNB c0 c1)
      obtain ⟨G2, u1, u2, u3⟩ := w_221 (B := B) (d := d) (gv := g) (by omega) hC1 hN v3 (by omega) hg
      generalize hLL : sqL (tw B) s.toNat (ps s.toNat) = LL at *
      have cl11 := (u3.rd (K := K) (B := B) (by omega)).1
      obtain ⟨G3, B3, lv, f3, t1, ⟨t2, t3, t4, t5⟩, t6, t7⟩ := w_222 hw hru hR1 hN v3 rfl (by omega) (Nat.le_refl _) (Nat.le_succ _) hg (o := G1.2.1) (oa := G1.2.1 + 1) (m := 2) (sl := 9) LL.length d [] (by rw [List.length_nil]; omega) (by omega) PX.nil G2 B 61 (fun _ => 0) (fun j x hx => by cases hx) ⟨u2, TL.rf, u3, by omega⟩
      have ea : lv = a := by
        have := BC.nb t7
        exact (this.perm hperm).uniq hNB
      subst ea
      have hR3 : CR K N G3 B3 ro (tw B) sh st pc cs ps := (hR1.gr t2).tl t3
      have r3 := (t4.rd (K := K) (B := B3) (by omega)).2.2.2.2.1
      have t1' : gCa K d 222 [.ref G1.2.1, .int (I 0)] (hH K N G2 B) = some (.inl none, hH K N G3 B3) := t1
      have hG1 : (hH K N G1 B).2.1 = G1.2.1 := rfl
      have hAL : AL G G3 131 12940 := by
        obtain ⟨z1, z2, z3, z4, -⟩ := v2
        obtain ⟨y1, y2, y3, y4, -⟩ := t2
        unfold AL
        omega
      by_cases c2 : 60 < lv
      · have hk : k_nested B s lv = 3 := by
          unfold k_nested
          rw [cifF (fun h => h c0), cifF (fun h => h c1), cifT c2]
        have F1 := w_151F (K := K) (d := d) (H := hH K N G3 B3) (by omega)
        refine ⟨gjunk G3 6, B3, c_185 _ ?_, t3.kp, (hAL.tr (AL.jk (n := 6) (Nat.le_refl _) (Nat.le_refl _))).le (by omega) (by omega), ⟨_, _, _, _, _, _, hR3.jk⟩⟩
        rw [hk]
        unfold t_185_0
        simp (disch := omega) only [rI_d, rJ_d, rR_d, rN_d, wF_d, xI_d, xJ_d, xD_d, xQ_d, yI_d, yJ_d, yD_d, yQ_d, dI_s, dJ_s, dR_s, dN_s, dN_n, dH_s, dX_s, dL_s, dD_s, dQ_s, bC_r, bC_t, kI_s, kJ_s, kF_s, kD_s, kR_s, kV_s, I_lit, I_neg, I_add, I_sub, I_mul, I_ltT, I_ltF, I_leT, I_leF, I_eqT, I_eqF, c_int, c_long, c_obj, c_arr, c_bool, c_boolN, c_boolF, vn_bool, c_charN, vn_char, b2_f, b2_t, Int.toNat_natCast, ↓reduceIte, eq_self, and_self, and_true, true_and, not_false_eq_true, not_true_eq_false, L_0_0, L_0_1, L_0_2, L_0_3, L_0_4, L_0_5, L_0_6, L_0_7, L_0_8, L_0_9, L_0_10, L_0_11, L_0_12, L_0_13, L_0_14, L_0_15, C_0, L_1_0, L_1_1, L_1_2, C_1, L_2_0, L_2_1, L_2_2, C_2, L_3_0, L_3_1, L_3_2, C_3, L_65_0, L_65_1, L_65_2, L_65_3, L_65_4, C_65, L_66_0, L_66_1, L_66_2, L_66_3, C_66, L_129_0, L_129_1, L_129_2, L_129_3, C_129, L_198_0, L_198_1, L_198_2, L_198_3, L_198_4, L_198_5, L_198_6, L_198_7, L_198_8, L_198_9, L_198_10, L_198_11, L_198_12, L_198_13, L_198_14, L_198_15, L_198_16, L_198_17, L_198_18, L_198_19, L_198_20, L_198_21, L_198_22, L_198_23, L_198_24, L_198_25, L_198_26, L_198_27, L_198_28, L_198_29, L_198_30, L_198_31, L_198_32, L_198_33, L_198_34, L_198_35, L_198_36, L_198_37, L_198_38, L_198_39, L_198_40, L_198_41, L_198_42, L_198_43, L_198_44, L_198_45, L_198_46, L_198_47, L_198_48, C_198, A_199, A_200, A_201, A_202, A_203, A_204, A_205, A_206, A_207, A_208, A_209, A_210, A_211, A_212, A_213, A_214, A_215, A_216, A_217, A_218, A_219, A_220, A_221, A_222, A_223, A_224, A_225, A_226, A_227, A_228, A_128, A_191, A_rf, A_rs, A_rt, Q_4, Q_67, Q_130, t_185_0_1, t_185_0_2, t_185_0_3, t_185_0_4, t_185_0_5, t_185_0_6, t_185_0_7, t_185_0_8, t_185_0_9, t_185_0_10, t_185_0_11, t_185_0_12, iltT, iltF, ileT, ileF, ieqT, ieqF, cif_T, cif_F, not_true_eq_false, not_false_eq_true, or_true, or_false, true_or, false_or, false_and, and_false, ne_eq, w, v1, cc, sz, wb, T2, hG1, u1, cl11, t1', r3, F1, gjunk_hH]
        rfl
      · have hk : k_nested B s lv = 0 := by
          unfold k_nested
          rw [cifF (fun h => h c0), cifF (fun h => h c1), cifF c2]
        have T1 := w_151T (K := K) (d := d) (H := hH K N G3 B3) (by omega)
        refine ⟨G3, B3, c_185 _ ?_, t3.kp, hAL.le (by omega) (by omega), ⟨_, _, _, _, _, _, hR3⟩⟩
        rw [hk]
        unfold t_185_0
        simp (disch := omega) only [rI_d, rJ_d, rR_d, rN_d, wF_d, xI_d, xJ_d, xD_d, xQ_d, yI_d, yJ_d, yD_d, yQ_d, dI_s, dJ_s, dR_s, dN_s, dN_n, dH_s, dX_s, dL_s, dD_s, dQ_s, bC_r, bC_t, kI_s, kJ_s, kF_s, kD_s, kR_s, kV_s, I_lit, I_neg, I_add, I_sub, I_mul, I_ltT, I_ltF, I_leT, I_leF, I_eqT, I_eqF, c_int, c_long, c_obj, c_arr, c_bool, c_boolN, c_boolF, vn_bool, c_charN, vn_char, b2_f, b2_t, Int.toNat_natCast, ↓reduceIte, eq_self, and_self, and_true, true_and, not_false_eq_true, not_true_eq_false, L_0_0, L_0_1, L_0_2, L_0_3, L_0_4, L_0_5, L_0_6, L_0_7, L_0_8, L_0_9, L_0_10, L_0_11, L_0_12, L_0_13, L_0_14, L_0_15, C_0, L_1_0, L_1_1, L_1_2, C_1, L_2_0, L_2_1, L_2_2, C_2, L_3_0, L_3_1, L_3_2, C_3, L_65_0, L_65_1, L_65_2, L_65_3, L_65_4, C_65, L_66_0, L_66_1, L_66_2, L_66_3, C_66, L_129_0, L_129_1, L_129_2, L_129_3, C_129, L_198_0, L_198_1, L_198_2, L_198_3, L_198_4, L_198_5, L_198_6, L_198_7, L_198_8, L_198_9, L_198_10, L_198_11, L_198_12, L_198_13, L_198_14, L_198_15, L_198_16, L_198_17, L_198_18, L_198_19, L_198_20, L_198_21, L_198_22, L_198_23, L_198_24, L_198_25, L_198_26, L_198_27, L_198_28, L_198_29, L_198_30, L_198_31, L_198_32, L_198_33, L_198_34, L_198_35, L_198_36, L_198_37, L_198_38, L_198_39, L_198_40, L_198_41, L_198_42, L_198_43, L_198_44, L_198_45, L_198_46, L_198_47, L_198_48, C_198, A_199, A_200, A_201, A_202, A_203, A_204, A_205, A_206, A_207, A_208, A_209, A_210, A_211, A_212, A_213, A_214, A_215, A_216, A_217, A_218, A_219, A_220, A_221, A_222, A_223, A_224, A_225, A_226, A_227, A_228, A_128, A_191, A_rf, A_rs, A_rt, Q_4, Q_67, Q_130, t_185_0_1, t_185_0_2, t_185_0_3, t_185_0_4, t_185_0_5, t_185_0_6, t_185_0_7, t_185_0_8, t_185_0_9, t_185_0_10, t_185_0_11, t_185_0_12, iltT, iltF, ileT, ileF, ieqT, ieqF, cif_T, cif_F, not_true_eq_false, not_false_eq_true, or_true, or_false, true_or, false_or, false_and, and_false, ne_eq, w, v1, cc, sz, wb, T2, hG1, u1, cl11, t1', r3, T1]
    · rw [b2F (by omega)] at wb
      have F2 := w_153F (K := K) (d := d) (H := hH K N G1 B) (by omega)
      have hk : k_nested B s a = 2 := by
        unfold k_nested
        rw [cifF (fun h => h c0), cifT c1]
      refine ⟨gjunk G1 6, B, c_185 _ ?_, KP.rf, ?_, ⟨_, _, _, _, _, _, hR1.jk⟩⟩
      · rw [hk]
        unfold t_185_0
        simp (disch := omega) only [rI_d, rJ_d, rR_d, rN_d, wF_d, xI_d, xJ_d, xD_d, xQ_d, yI_d, yJ_d, yD_d, yQ_d, dI_s, dJ_s, dR_s, dN_s, dN_n, dH_s, dX_s, dL_s, dD_s, dQ_s, bC_r, bC_t, kI_s, kJ_s, kF_s, kD_s, kR_s, kV_s, I_lit, I_neg, I_add, I_sub, I_mul, I_ltT, I_ltF, I_leT, I_leF, I_eqT, I_eqF, c_int, c_long, c_obj, c_arr, c_bool, c_boolN, c_boolF, vn_bool, c_charN, vn_char, b2_f, b2_t, Int.toNat_natCast, ↓reduceIte, eq_self, and_self, and_true, true_and, not_false_eq_true, not_true_eq_false, L_0_0, L_0_1, L_0_2, L_0_3, L_0_4, L_0_5, L_0_6, L_0_7, L_0_8, L_0_9, L_0_10, L_0_11, L_0_12, L_0_13, L_0_14, L_0_15, C_0, L_1_0, L_1_1, L_1_2, C_1, L_2_0, L_2_1, L_2_2, C_2, L_3_0, L_3_1, L_3_2, C_3, L_65_0, L_65_1, L_65_2, L_65_3, L_65_4, C_65, L_66_0, L_66_1, L_66_2, L_66_3, C_66, L_129_0, L_129_1, L_129_2, L_129_3, C_129, L_198_0, L_198_1, L_198_2, L_198_3, L_198_4, L_198_5, L_198_6, L_198_7, L_198_8, L_198_9, L_198_10, L_198_11, L_198_12, L_198_13, L_198_14, L_198_15, L_198_16, L_198_17, L_198_18, L_198_19, L_198_20, L_198_21, L_198_22, L_198_23, L_198_24, L_198_25, L_198_26, L_198_27, L_198_28, L_198_29, L_198_30, L_198_31, L_198_32, L_198_33, L_198_34, L_198_35, L_198_36, L_198_37, L_198_38, L_198_39, L_198_40, L_198_41, L_198_42, L_198_43, L_198_44, L_198_45, L_198_46, L_198_47, L_198_48, C_198, A_199, A_200, A_201, A_202, A_203, A_204, A_205, A_206, A_207, A_208, A_209, A_210, A_211, A_212, A_213, A_214, A_215, A_216, A_217, A_218, A_219, A_220, A_221, A_222, A_223, A_224, A_225, A_226, A_227, A_228, A_128, A_191, A_rf, A_rs, A_rt, Q_4, Q_67, Q_130, t_185_0_1, t_185_0_2, t_185_0_3, t_185_0_4, t_185_0_5, t_185_0_6, t_185_0_7, t_185_0_8, t_185_0_9, t_185_0_10, t_185_0_11, t_185_0_12, iltT, iltF, ileT, ileF, ieqT, ieqF, cif_T, cif_F, not_true_eq_false, not_false_eq_true, or_true, or_false, true_or, false_or, false_and, and_false, ne_eq, w, v1, cc, sz, wb, F2, gjunk_hH]
        rfl
      · obtain ⟨z1, z2, z3, z4, -⟩ := v2
        have : AL G G1 129 12931 := ⟨z1, z2, z3, z4⟩
        exact (this.tr (AL.jk (n := 6) (Nat.le_refl _) (Nat.le_refl _))).le (by omega) (by omega)
  · have hk : k_nested B s a = 1 := by
      unfold k_nested
      rw [cifT c0]
    have w := w_181F (d := d) (by omega) hR (by omega) h1 (by omega)
    refine ⟨gjunk G 6, B, c_185 _ ?_, KP.rf, AL.jk (by omega) (by omega), ⟨_, _, _, _, _, _, hR.jk⟩⟩
    rw [hk]
    unfold t_185_0
    simp (disch := omega) only [rI_d, rJ_d, rR_d, rN_d, wF_d, xI_d, xJ_d, xD_d, xQ_d, yI_d, yJ_d, yD_d, yQ_d, dI_s, dJ_s, dR_s, dN_s, dN_n, dH_s, dX_s, dL_s, dD_s, dQ_s, bC_r, bC_t, kI_s, kJ_s, kF_s, kD_s, kR_s, kV_s, I_lit, I_neg, I_add, I_sub, I_mul, I_ltT, I_ltF, I_leT, I_leF, I_eqT, I_eqF, c_int, c_long, c_obj, c_arr, c_bool, c_boolN, c_boolF, vn_bool, c_charN, vn_char, b2_f, b2_t, Int.toNat_natCast, ↓reduceIte, eq_self, and_self, and_true, true_and, not_false_eq_true, not_true_eq_false, L_0_0, L_0_1, L_0_2, L_0_3, L_0_4, L_0_5, L_0_6, L_0_7, L_0_8, L_0_9, L_0_10, L_0_11, L_0_12, L_0_13, L_0_14, L_0_15, C_0, L_1_0, L_1_1, L_1_2, C_1, L_2_0, L_2_1, L_2_2, C_2, L_3_0, L_3_1, L_3_2, C_3, L_65_0, L_65_1, L_65_2, L_65_3, L_65_4, C_65, L_66_0, L_66_1, L_66_2, L_66_3, C_66, L_129_0, L_129_1, L_129_2, L_129_3, C_129, L_198_0, L_198_1, L_198_2, L_198_3, L_198_4, L_198_5, L_198_6, L_198_7, L_198_8, L_198_9, L_198_10, L_198_11, L_198_12, L_198_13, L_198_14, L_198_15, L_198_16, L_198_17, L_198_18, L_198_19, L_198_20, L_198_21, L_198_22, L_198_23, L_198_24, L_198_25, L_198_26, L_198_27, L_198_28, L_198_29, L_198_30, L_198_31, L_198_32, L_198_33, L_198_34, L_198_35, L_198_36, L_198_37, L_198_38, L_198_39, L_198_40, L_198_41, L_198_42, L_198_43, L_198_44, L_198_45, L_198_46, L_198_47, L_198_48, C_198, A_199, A_200, A_201, A_202, A_203, A_204, A_205, A_206, A_207, A_208, A_209, A_210, A_211, A_212, A_213, A_214, A_215, A_216, A_217, A_218, A_219, A_220, A_221, A_222, A_223, A_224, A_225, A_226, A_227, A_228, A_128, A_191, A_rf, A_rs, A_rt, Q_4, Q_67, Q_130, t_185_0_1, t_185_0_2, t_185_0_3, t_185_0_4, t_185_0_5, t_185_0_6, t_185_0_7, t_185_0_8, t_185_0_9, t_185_0_10, t_185_0_11, t_185_0_12, iltT, iltF, ileT, ileF, ieqT, ieqF, cif_T, cif_F, not_true_eq_false, not_false_eq_true, or_true, or_false, true_or, false_or, false_and, and_false, ne_eq, w]
    rfl
theorem w_126 (hd : 18 ≤ d) (hw : MW B) (hru : RU (tw B)) (hR : CR K N G B ro (tw B) sh st pc cs ps) {s a : Int} (h1 : R32 s) (hNB : (0 ≤ s ∧ s ≤ (B.1 198 28) - 1) → (1 ≤ (qQ (tw B) s).length ∧ (qQ (tw B) s).length ≤ 4) → NB (tw B) (qQ (tw B) s) a) :
    ∃ G' B', gCa K d 126 [.ref N, .int (I s)] (hH K N G B) = some (cif (k_nested B s a = 0) (.inl (some (.int (I a)))) (.inr (exF (k_nested B s a))), hH K N G' B') ∧ KP B B' ∧ AL G G' 140 14000 ∧ RM K N G' B' (tw B) := by
  obtain ⟨d, rfl, hd'⟩ := d_succ (show 17 + 1 ≤ d by omega)
  obtain ⟨G', B', v1, v2⟩ := w_185 (d := d) (by omega) hw hru hR h1 (g := 1) (by omega) hNB
  refine ⟨G', B', c_126 _ ?_, v2⟩
  unfold t_126_0
  by_cases k : k_nested B s a = 0
  · rw [cifT k] at v1 ⊢
    simp (disch := omega) only [rI_d, rJ_d, rR_d, rN_d, wF_d, xI_d, xJ_d, xD_d, xQ_d, yI_d, yJ_d, yD_d, yQ_d, dI_s, dJ_s, dR_s, dN_s, dN_n, dH_s, dX_s, dL_s, dD_s, dQ_s, bC_r, bC_t, kI_s, kJ_s, kF_s, kD_s, kR_s, kV_s, I_lit, I_neg, I_add, I_sub, I_mul, I_ltT, I_ltF, I_leT, I_leF, I_eqT, I_eqF, c_int, c_long, c_obj, c_arr, c_bool, c_boolN, c_boolF, vn_bool, c_charN, vn_char, b2_f, b2_t, Int.toNat_natCast, ↓reduceIte, eq_self, and_self, and_true, true_and, not_false_eq_true, not_true_eq_false, L_0_0, L_0_1, L_0_2, L_0_3, L_0_4, L_0_5, L_0_6, L_0_7, L_0_8, L_0_9, L_0_10, L_0_11, L_0_12, L_0_13, L_0_14, L_0_15, C_0, L_1_0, L_1_1, L_1_2, C_1, L_2_0, L_2_1, L_2_2, C_2, L_3_0, L_3_1, L_3_2, C_3, L_65_0, L_65_1, L_65_2, L_65_3, L_65_4, C_65, L_66_0, L_66_1, L_66_2, L_66_3, C_66, L_129_0, L_129_1, L_129_2, L_129_3, C_129, L_198_0, L_198_1, L_198_2, L_198_3, L_198_4, L_198_5, L_198_6, L_198_7, L_198_8, L_198_9, L_198_10, L_198_11, L_198_12, L_198_13, L_198_14, L_198_15, L_198_16, L_198_17, L_198_18, L_198_19, L_198_20, L_198_21, L_198_22, L_198_23, L_198_24, L_198_25, L_198_26, L_198_27, L_198_28, L_198_29, L_198_30, L_198_31, L_198_32, L_198_33, L_198_34, L_198_35, L_198_36, L_198_37, L_198_38, L_198_39, L_198_40, L_198_41, L_198_42, L_198_43, L_198_44, L_198_45, L_198_46, L_198_47, L_198_48, C_198, A_199, A_200, A_201, A_202, A_203, A_204, A_205, A_206, A_207, A_208, A_209, A_210, A_211, A_212, A_213, A_214, A_215, A_216, A_217, A_218, A_219, A_220, A_221, A_222, A_223, A_224, A_225, A_226, A_227, A_228, A_128, A_191, A_rf, A_rs, A_rt, Q_4, Q_67, Q_130, t_126_0_1, v1]
  · rw [cifF k] at v1 ⊢
    simp (disch := omega) only [rI_d, rJ_d, rR_d, rN_d, wF_d, xI_d, xJ_d, xD_d, xQ_d, yI_d, yJ_d, yD_d, yQ_d, dI_s, dJ_s, dR_s, dN_s, dN_n, dH_s, dX_s, dL_s, dD_s, dQ_s, bC_r, bC_t, kI_s, kJ_s, kF_s, kD_s, kR_s, kV_s, I_lit, I_neg, I_add, I_sub, I_mul, I_ltT, I_ltF, I_leT, I_leF, I_eqT, I_eqF, c_int, c_long, c_obj, c_arr, c_bool, c_boolN, c_boolF, vn_bool, c_charN, vn_char, b2_f, b2_t, Int.toNat_natCast, ↓reduceIte, eq_self, and_self, and_true, true_and, not_false_eq_true, not_true_eq_false, L_0_0, L_0_1, L_0_2, L_0_3, L_0_4, L_0_5, L_0_6, L_0_7, L_0_8, L_0_9, L_0_10, L_0_11, L_0_12, L_0_13, L_0_14, L_0_15, C_0, L_1_0, L_1_1, L_1_2, C_1, L_2_0, L_2_1, L_2_2, C_2, L_3_0, L_3_1, L_3_2, C_3, L_65_0, L_65_1, L_65_2, L_65_3, L_65_4, C_65, L_66_0, L_66_1, L_66_2, L_66_3, C_66, L_129_0, L_129_1, L_129_2, L_129_3, C_129, L_198_0, L_198_1, L_198_2, L_198_3, L_198_4, L_198_5, L_198_6, L_198_7, L_198_8, L_198_9, L_198_10, L_198_11, L_198_12, L_198_13, L_198_14, L_198_15, L_198_16, L_198_17, L_198_18, L_198_19, L_198_20, L_198_21, L_198_22, L_198_23, L_198_24, L_198_25, L_198_26, L_198_27, L_198_28, L_198_29, L_198_30, L_198_31, L_198_32, L_198_33, L_198_34, L_198_35, L_198_36, L_198_37, L_198_38, L_198_39, L_198_40, L_198_41, L_198_42, L_198_43, L_198_44, L_198_45, L_198_46, L_198_47, L_198_48, C_198, A_199, A_200, A_201, A_202, A_203, A_204, A_205, A_206, A_207, A_208, A_209, A_210, A_211, A_212, A_213, A_214, A_215, A_216, A_217, A_218, A_219, A_220, A_221, A_222, A_223, A_224, A_225, A_226, A_227, A_228, A_128, A_191, A_rf, A_rs, A_rt, Q_4, Q_67, Q_130, t_126_0_1, v1]
theorem w_129 (hd : 18 ≤ d) (hw : MW B) (hru : RU (tw B)) (hR : CR K N G B ro (tw B) sh st pc cs ps) {s a : Int} (h1 : R32 s) (hNB : (0 ≤ s ∧ s ≤ (B.1 198 28) - 1) → (1 ≤ (qQ (tw B) s).length ∧ (qQ (tw B) s).length ≤ 4) → NB (tw B) (qQ (tw B) s) a) :
    ∃ G' B', gCa K d 129 [.ref N, .int (I s)] (hH K N G B) = some (cif (k_nested B s a = 0) (.inl (some (.int (I a)))) (.inr (exF (k_nested B s a))), hH K N G' B') ∧ KP B B' ∧ AL G G' 140 14000 ∧ RM K N G' B' (tw B) := by
  obtain ⟨d, rfl, hd'⟩ := d_succ (show 17 + 1 ≤ d by omega)
  obtain ⟨G', B', v1, v2⟩ := w_185 (d := d) (by omega) hw hru hR h1 (g := 0) (by omega) hNB
  refine ⟨G', B', c_129 _ ?_, v2⟩
  unfold t_129_0
  by_cases k : k_nested B s a = 0
  · rw [cifT k] at v1 ⊢
    simp (disch := omega) only [rI_d, rJ_d, rR_d, rN_d, wF_d, xI_d, xJ_d, xD_d, xQ_d, yI_d, yJ_d, yD_d, yQ_d, dI_s, dJ_s, dR_s, dN_s, dN_n, dH_s, dX_s, dL_s, dD_s, dQ_s, bC_r, bC_t, kI_s, kJ_s, kF_s, kD_s, kR_s, kV_s, I_lit, I_neg, I_add, I_sub, I_mul, I_ltT, I_ltF, I_leT, I_leF, I_eqT, I_eqF, c_int, c_long, c_obj, c_arr, c_bool, c_boolN, c_boolF, vn_bool, c_charN, vn_char, b2_f, b2_t, Int.toNat_natCast, ↓reduceIte, eq_self, and_self, and_true, true_and, not_false_eq_true, not_true_eq_false, L_0_0, L_0_1, L_0_2, L_0_3, L_0_4, L_0_5, L_0_6, L_0_7, L_0_8, L_0_9, L_0_10, L_0_11, L_0_12, L_0_13, L_0_14, L_0_15, C_0, L_1_0, L_1_1, L_1_2, C_1, L_2_0, L_2_1, L_2_2, C_2, L_3_0, L_3_1, L_3_2, C_3, L_65_0, L_65_1, L_65_2, L_65_3, L_65_4, C_65, L_66_0, L_66_1, L_66_2, L_66_3, C_66, L_129_0, L_129_1, L_129_2, L_129_3, C_129, L_198_0, L_198_1, L_198_2, L_198_3, L_198_4, L_198_5, L_198_6, L_198_7, L_198_8, L_198_9, L_198_10, L_198_11, L_198_12, L_198_13, L_198_14, L_198_15, L_198_16, L_198_17, L_198_18, L_198_19, L_198_20, L_198_21, L_198_22, L_198_23, L_198_24, L_198_25, L_198_26, L_198_27, L_198_28, L_198_29, L_198_30, L_198_31, L_198_32, L_198_33, L_198_34, L_198_35, L_198_36, L_198_37, L_198_38, L_198_39, L_198_40, L_198_41, L_198_42, L_198_43, L_198_44, L_198_45, L_198_46, L_198_47, L_198_48, C_198, A_199, A_200, A_201, A_202, A_203, A_204, A_205, A_206, A_207, A_208, A_209, A_210, A_211, A_212, A_213, A_214, A_215, A_216, A_217, A_218, A_219, A_220, A_221, A_222, A_223, A_224, A_225, A_226, A_227, A_228, A_128, A_191, A_rf, A_rs, A_rt, Q_4, Q_67, Q_130, t_129_0_1, v1]
  · rw [cifF k] at v1 ⊢
    simp (disch := omega) only [rI_d, rJ_d, rR_d, rN_d, wF_d, xI_d, xJ_d, xD_d, xQ_d, yI_d, yJ_d, yD_d, yQ_d, dI_s, dJ_s, dR_s, dN_s, dN_n, dH_s, dX_s, dL_s, dD_s, dQ_s, bC_r, bC_t, kI_s, kJ_s, kF_s, kD_s, kR_s, kV_s, I_lit, I_neg, I_add, I_sub, I_mul, I_ltT, I_ltF, I_leT, I_leF, I_eqT, I_eqF, c_int, c_long, c_obj, c_arr, c_bool, c_boolN, c_boolF, vn_bool, c_charN, vn_char, b2_f, b2_t, Int.toNat_natCast, ↓reduceIte, eq_self, and_self, and_true, true_and, not_false_eq_true, not_true_eq_false, L_0_0, L_0_1, L_0_2, L_0_3, L_0_4, L_0_5, L_0_6, L_0_7, L_0_8, L_0_9, L_0_10, L_0_11, L_0_12, L_0_13, L_0_14, L_0_15, C_0, L_1_0, L_1_1, L_1_2, C_1, L_2_0, L_2_1, L_2_2, C_2, L_3_0, L_3_1, L_3_2, C_3, L_65_0, L_65_1, L_65_2, L_65_3, L_65_4, C_65, L_66_0, L_66_1, L_66_2, L_66_3, C_66, L_129_0, L_129_1, L_129_2, L_129_3, C_129, L_198_0, L_198_1, L_198_2, L_198_3, L_198_4, L_198_5, L_198_6, L_198_7, L_198_8, L_198_9, L_198_10, L_198_11, L_198_12, L_198_13, L_198_14, L_198_15, L_198_16, L_198_17, L_198_18, L_198_19, L_198_20, L_198_21, L_198_22, L_198_23, L_198_24, L_198_25, L_198_26, L_198_27, L_198_28, L_198_29, L_198_30, L_198_31, L_198_32, L_198_33, L_198_34, L_198_35, L_198_36, L_198_37, L_198_38, L_198_39, L_198_40, L_198_41, L_198_42, L_198_43, L_198_44, L_198_45, L_198_46, L_198_47, L_198_48, C_198, A_199, A_200, A_201, A_202, A_203, A_204, A_205, A_206, A_207, A_208, A_209, A_210, A_211, A_212, A_213, A_214, A_215, A_216, A_217, A_218, A_219, A_220, A_221, A_222, A_223, A_224, A_225, A_226, A_227, A_228, A_128, A_191, A_rf, A_rs, A_rt, Q_4, Q_67, Q_130, t_129_0_1, v1]
end
