/-! PURE 48: a shape is made -/
set_option maxRecDepth 100000
section
variable {K : gK} {P : Nat → Prop} {d : Nat} {H : gH} {s rr : Nat} {pd : Int}
theorem nc8 : (I 8).toNatClampNeg = 8 := by decide
theorem mkList (hd : 3 ≤ d) (hb : HB H) : ∃ H', gCa K d 84 [.ref H.2.1] (gnew H (.inr (12, [.int (I 0), .null, .int (I 0)])) 3) = some (.inl none, H') ∧ ALo H' H.2.1 0 (K.2 3) 0 ∧ FR noW 1 3 H H' := by
  obtain ⟨H', k1, k2, k3⟩ := w_84 (K := K) (d := d) hd hb.new (gn_eq (H := H) (e := .inr (12, [.int (I 0), .null, .int (I 0)])) (n := 3))
  refine ⟨H', k1, k2, ?_⟩
  have f1 : FR noW 1 3 H (gnew H (.inr (12, [.int (I 0), .null, .int (I 0)])) 3) := FR.new hb
  refine ⟨Nat.le_trans f1.1 k3.1, by have := f1.2.1; have := k3.2.1; omega, Nat.le_trans f1.2.2.1 k3.2.2.1, by have := f1.2.2.2.1; have := k3.2.2.2.1; omega, k3.hb, fun a q1 q2 => ?_⟩
  rw [k3.2.2.2.2.2 a (Nat.lt_of_lt_of_le q1 f1.1) (by omega)]
  exact f1.2.2.2.2.2 a q1 q2
theorem w_155 (hd : 7 ≤ d) (hP : ∀ a, H.2.1 ≤ a → P a) (hb : HB H) (hk3 : K.2 3 < H.2.1) (hk3n : H.1 (K.2 3) = none) (h : H.1 s = some (.inr (4, [.null, .int (I 0), .null, .int (I 0), .null, .int (I 0), .int (I 0), .int (I 0), .null]))) (hpd : 0 ≤ pd ∧ pd ≤ 1) :
    ∃ H' p mk vr, gCa K d 155 [.ref s, .ref rr, .int (I pd)] H = some (.inl none, H') ∧ H'.1 s = some (.inr (4, [.ref rr, .int (I pd), .ref p, .int (I (-1)), .ref mk, .int (I 0), .int (I 0), .int (I 0), .ref vr])) ∧ CLS K H' (fun e => e = K.2 3) p [] ∧ CE H' mk 0 0 ∧ VAS P H' vr [] 0 0 4 ∧ FR (fun q => q = s) 900 2600 H H' ∧ H.2.1 ≤ p ∧ H.2.1 ≤ vr := by
  obtain ⟨d, rfl, hd'⟩ := d_succ (show 6 + 1 ≤ d by omega)
  -- the list of cells
  obtain ⟨H1, l1, l2, l3⟩ := mkList (K := K) (d := d) (by omega) hb
  have ls := hb.lt h
  have s1 : H1.1 s = _ := l3.at hb h (fun q => q)
  have n1 : H1.1 (K.2 3) = none := (l3.2.2.2.2.2 _ hk3 (fun q => q)).trans hk3n
  have pf2 := pf_of (k := 2) (v := .ref H.2.1) s1 (Nat.le_of_ble_eq_true rfl)
  have a2 : (gset H1 s (.inr (4, [.null, .int (I 0), .ref H.2.1, .int (I 0), .null, .int (I 0), .int (I 0), .int (I 0), .null]))).1 s = some (.inr (4, [.null, .int (I 0), .ref H.2.1, .int (I 0), .null, .int (I 0), .int (I 0), .int (I 0), .null])) := gs_eq
  have pf3 := pf_of (k := 3) (v := .int (I (-1))) a2 (Nat.le_of_ble_eq_true rfl)
  simp only [List.set_cons_succ, List.set_cons_zero, gs_gs] at pf2 pf3
  have l4 := FR.set (e := .inr (4, [.null, .int (I 0), .ref H.2.1, .int (I (-1)), .null, .int (I 0), .int (I 0), .int (I 0), .null])) l3.hb s1
  have s3 : (gset H1 s (.inr (4, [.null, .int (I 0), .ref H.2.1, .int (I (-1)), .null, .int (I 0), .int (I 0), .int (I 0), .null]))).1 s = some (.inr (4, [.null, .int (I 0), .ref H.2.1, .int (I (-1)), .null, .int (I 0), .int (I 0), .int (I 0), .null])) := gs_eq
  have p3 : ALo (gset H1 s (.inr (4, [.null, .int (I 0), .ref H.2.1, .int (I (-1)), .null, .int (I 0), .int (I 0), .int (I 0), .null]))) H.2.1 0 (K.2 3) 0 := (gs_ne (by omega)).trans l2
  have n3 : (gset H1 s (.inr (4, [.null, .int (I 0), .ref H.2.1, .int (I (-1)), .null, .int (I 0), .int (I 0), .int (I 0), .null]))).1 (K.2 3) = none := (gs_ne (by rintro e; rw [e] at n1; cases s1.symm.trans n1)).trans n1
  have f3 : FR (fun q => q = s) 1 3 H (gset H1 s (.inr (4, [.null, .int (I 0), .ref H.2.1, .int (I (-1)), .null, .int (I 0), .int (I 0), .int (I 0), .null]))) := ((l3.mono (W' := fun q => q = s) (fun _ _ q => q.elim)).tr l4).le (by omega) (by omega)
  generalize hH3 : gset H1 s (.inr (4, [.null, .int (I 0), .ref H.2.1, .int (I (-1)), .null, .int (I 0), .int (I 0), .int (I 0), .null])) = H3 at *
  have ls3 := f3.hb.lt s3
  have hn3 := f3.1
  -- the mark
  have wc := mkCell (K := K) (d := d) (H := H3) (r := 0) (c := 0) (by omega)
  have f4 : FR (fun q => q = s) 1 2 H3 (gnew H3 (.inr (5, [.int (I 0), .int (I 0)])) 2) := FR.new f3.hb
  have s4 : (gnew H3 (.inr (5, [.int (I 0), .int (I 0)])) 2).1 s = _ := (gn_lt ls3).trans s3
  have p4 : ALo (gnew H3 (.inr (5, [.int (I 0), .int (I 0)])) 2) H.2.1 0 (K.2 3) 0 := (gn_lt (f3.hb.lt p3)).trans p3
  have m4 : CE (gnew H3 (.inr (5, [.int (I 0), .int (I 0)])) 2) H3.2.1 0 0 := gn_eq
  have n4 : (gnew H3 (.inr (5, [.int (I 0), .int (I 0)])) 2).1 (K.2 3) = none := (gn_lt (by omega)).trans n3
  have pf4 := pf_of (k := 4) (v := .ref H3.2.1) s4 (Nat.le_of_ble_eq_true rfl)
  simp only [List.set_cons_succ, List.set_cons_zero] at pf4
  have hmks : H3.2.1 ≠ s := by omega
  have f5 := f4.tr (FR.set (e := .inr (4, [.null, .int (I 0), .ref H.2.1, .int (I (-1)), .ref H3.2.1, .int (I 0), .int (I 0), .int (I 0), .null])) f4.hb s4)
  have s5 : (gset (gnew H3 (.inr (5, [.int (I 0), .int (I 0)])) 2) s (.inr (4, [.null, .int (I 0), .ref H.2.1, .int (I (-1)), .ref H3.2.1, .int (I 0), .int (I 0), .int (I 0), .null]))).1 s = some (.inr (4, [.null, .int (I 0), .ref H.2.1, .int (I (-1)), .ref H3.2.1, .int (I 0), .int (I 0), .int (I 0), .null])) := gs_eq
  have p5 : ALo (gset (gnew H3 (.inr (5, [.int (I 0), .int (I 0)])) 2) s (.inr (4, [.null, .int (I 0), .ref H.2.1, .int (I (-1)), .ref H3.2.1, .int (I 0), .int (I 0), .int (I 0), .null]))) H.2.1 0 (K.2 3) 0 := (gs_ne (by omega)).trans p4
  have m5 : CE (gset (gnew H3 (.inr (5, [.int (I 0), .int (I 0)])) 2) s (.inr (4, [.null, .int (I 0), .ref H.2.1, .int (I (-1)), .ref H3.2.1, .int (I 0), .int (I 0), .int (I 0), .null]))) H3.2.1 0 0 := (gs_ne hmks).trans m4
  have n5 : (gset (gnew H3 (.inr (5, [.int (I 0), .int (I 0)])) 2) s (.inr (4, [.null, .int (I 0), .ref H.2.1, .int (I (-1)), .ref H3.2.1, .int (I 0), .int (I 0), .int (I 0), .null]))).1 (K.2 3) = none := (gs_ne (by rintro e; rw [e] at n4; cases s4.symm.trans n4)).trans n4
  have q5 : (gset (gnew H3 (.inr (5, [.int (I 0), .int (I 0)])) 2) s (.inr (4, [.null, .int (I 0), .ref H.2.1, .int (I (-1)), .ref H3.2.1, .int (I 0), .int (I 0), .int (I 0), .null]))).2.1 = H3.2.1 + 1 := rfl
  have g5 := f3.tr f5
  generalize hH5 : gset (gnew H3 (.inr (5, [.int (I 0), .int (I 0)])) 2) s (.inr (4, [.null, .int (I 0), .ref H.2.1, .int (I (-1)), .ref H3.2.1, .int (I 0), .int (I 0), .int (I 0), .null])) = H5 at *
  have ls5 := g5.hb.lt s5
  -- the array of variants; rule, paired
  have f6 : FR (fun q => q = s) 1 8 H5 (gnew H5 (.inl (7, 8, gQ (fun _ => none))) 8) := FR.new g5.hb
  have s6 : (gnew H5 (.inl (7, 8, gQ (fun _ => none))) 8).1 s = _ := (gn_lt ls5).trans s5
  have pf8 := pf_of (k := 8) (v := .ref H5.2.1) s6 (Nat.le_of_ble_eq_true rfl)
  have a8 : (gset (gnew H5 (.inl (7, 8, gQ (fun _ => none))) 8) s (.inr (4, [.null, .int (I 0), .ref H.2.1, .int (I (-1)), .ref H3.2.1, .int (I 0), .int (I 0), .int (I 0), .ref H5.2.1]))).1 s = some (.inr (4, [.null, .int (I 0), .ref H.2.1, .int (I (-1)), .ref H3.2.1, .int (I 0), .int (I 0), .int (I 0), .ref H5.2.1])) := gs_eq
  have pf0 := pf_of (k := 0) (v := .ref rr) a8 (Nat.le_of_ble_eq_true rfl)
  have a0 : (gset (gnew H5 (.inl (7, 8, gQ (fun _ => none))) 8) s (.inr (4, [.ref rr, .int (I 0), .ref H.2.1, .int (I (-1)), .ref H3.2.1, .int (I 0), .int (I 0), .int (I 0), .ref H5.2.1]))).1 s = some (.inr (4, [.ref rr, .int (I 0), .ref H.2.1, .int (I (-1)), .ref H3.2.1, .int (I 0), .int (I 0), .int (I 0), .ref H5.2.1])) := gs_eq
  have pf1 := pf_of (k := 1) (v := .int (I pd)) a0 (Nat.le_of_ble_eq_true rfl)
  simp only [List.set_cons_succ, List.set_cons_zero, gs_gs] at pf8 pf0 pf1
  have f7 := f6.tr (FR.set (e := .inr (4, [.ref rr, .int (I pd), .ref H.2.1, .int (I (-1)), .ref H3.2.1, .int (I 0), .int (I 0), .int (I 0), .ref H5.2.1])) f6.hb s6)
  have s7 : (gset (gnew H5 (.inl (7, 8, gQ (fun _ => none))) 8) s (.inr (4, [.ref rr, .int (I pd), .ref H.2.1, .int (I (-1)), .ref H3.2.1, .int (I 0), .int (I 0), .int (I 0), .ref H5.2.1]))).1 s = some (.inr (4, [.ref rr, .int (I pd), .ref H.2.1, .int (I (-1)), .ref H3.2.1, .int (I 0), .int (I 0), .int (I 0), .ref H5.2.1])) := gs_eq
  have p7 : ALo (gset (gnew H5 (.inl (7, 8, gQ (fun _ => none))) 8) s (.inr (4, [.ref rr, .int (I pd), .ref H.2.1, .int (I (-1)), .ref H3.2.1, .int (I 0), .int (I 0), .int (I 0), .ref H5.2.1]))) H.2.1 0 (K.2 3) 0 := (gs_ne (by omega)).trans ((gn_lt (g5.hb.lt p5)).trans p5)
  have m7 : CE (gset (gnew H5 (.inl (7, 8, gQ (fun _ => none))) 8) s (.inr (4, [.ref rr, .int (I pd), .ref H.2.1, .int (I (-1)), .ref H3.2.1, .int (I 0), .int (I 0), .int (I 0), .ref H5.2.1]))) H3.2.1 0 0 := (gs_ne hmks).trans ((gn_lt (g5.hb.lt m5)).trans m5)
  have n7 : (gset (gnew H5 (.inl (7, 8, gQ (fun _ => none))) 8) s (.inr (4, [.ref rr, .int (I pd), .ref H.2.1, .int (I (-1)), .ref H3.2.1, .int (I 0), .int (I 0), .int (I 0), .ref H5.2.1]))).1 (K.2 3) = none := (gs_ne (by rintro e; rw [e] at n5; cases s5.symm.trans n5)).trans ((gn_lt (by omega)).trans n5)
  have v7 : (gset (gnew H5 (.inl (7, 8, gQ (fun _ => none))) 8) s (.inr (4, [.ref rr, .int (I pd), .ref H.2.1, .int (I (-1)), .ref H3.2.1, .int (I 0), .int (I 0), .int (I 0), .ref H5.2.1]))).1 H5.2.1 = some (.inl (7, 8, gQ (fun _ => none))) := (gs_ne (by omega)).trans gn_eq
  have g7 := g5.tr f7
  generalize hH7 : gset (gnew H5 (.inl (7, 8, gQ (fun _ => none))) 8) s (.inr (4, [.ref rr, .int (I pd), .ref H.2.1, .int (I (-1)), .ref H3.2.1, .int (I 0), .int (I 0), .int (I 0), .ref H5.2.1])) = H7 at *
  have hk7 : K.2 3 < H7.2.1 := Nat.lt_of_lt_of_le hk3 g7.1
  have hC : CLS K H7 (fun e => e = K.2 3) H.2.1 [] := ⟨0, K.2 3, [], p7, Or.inl ⟨rfl, n7, rfl⟩, rfl, rfl, fun j c k q => by cases q⟩
  have hS : SX K H7 (fun e => e = K.2 3) P s H.2.1 H3.2.1 [] 0 0 := ⟨fun a q => hP a (Nat.le_trans g7.1 q), g7.hb, hk7, n7, ⟨_, s7, rfl, rfl⟩, hC, m7, Nat.zero_le _, fun k q => by cases q⟩
  obtain ⟨H8, w1, w2, w3⟩ := w_162 (K := K) (d := d) (by omega) hS ⟨_, s7, rfl⟩ ⟨_, v7⟩
  have hsv : s ≠ H5.2.1 := ne_ca s7 v7
  have c7 := cl_of s7
  have hS8 := hS.fr w3 (fun q w => by subst w; exact ⟨_, v7⟩)
  refine ⟨H8, H.2.1, H3.2.1, H5.2.1, c_155 _ ?_, w3.at g7.hb s7 hsv, hS8.2.2.2.2.2.1, hS8.2.2.2.2.2.2.1, w2, ?_, Nat.le_refl _, by omega⟩
  · unfold t_155_0
    simp (disch := omega) only [rI_d, rJ_d, rR_d, rN_d, wF_d, xI_d, xJ_d, xD_d, xQ_d, yI_d, yJ_d, yD_d, yQ_d, dI_s, dJ_s, dR_s, dN_s, dN_n, dH_s, dX_s, dL_s, dD_s, dQ_s, bC_r, bC_t, kI_s, kJ_s, kF_s, kD_s, kR_s, kV_s, I_lit, I_neg, I_add, I_sub, I_mul, I_ltT, I_ltF, I_leT, I_leF, I_eqT, I_eqF, c_int, c_long, c_obj, c_arr, c_bool, c_boolN, c_boolF, vn_bool, c_charN, vn_char, b2_f, b2_t, Int.toNat_natCast, ↓reduceIte, eq_self, and_self, and_true, true_and, not_false_eq_true, not_true_eq_false, L_0_0, L_0_1, L_0_2, L_0_3, L_0_4, L_0_5, L_0_6, L_0_7, L_0_8, L_0_9, L_0_10, L_0_11, L_0_12, L_0_13, L_0_14, L_0_15, C_0, L_1_0, L_1_1, L_1_2, C_1, L_2_0, L_2_1, L_2_2, C_2, L_3_0, L_3_1, L_3_2, C_3, L_65_0, L_65_1, L_65_2, L_65_3, L_65_4, C_65, L_66_0, L_66_1, L_66_2, L_66_3, C_66, L_129_0, L_129_1, L_129_2, L_129_3, C_129, L_198_0, L_198_1, L_198_2, L_198_3, L_198_4, L_198_5, L_198_6, L_198_7, L_198_8, L_198_9, L_198_10, L_198_11, L_198_12, L_198_13, L_198_14, L_198_15, L_198_16, L_198_17, L_198_18, L_198_19, L_198_20, L_198_21, L_198_22, L_198_23, L_198_24, L_198_25, L_198_26, L_198_27, L_198_28, L_198_29, L_198_30, L_198_31, L_198_32, L_198_33, L_198_34, L_198_35, L_198_36, L_198_37, L_198_38, L_198_39, L_198_40, L_198_41, L_198_42, L_198_43, L_198_44, L_198_45, L_198_46, L_198_47, L_198_48, C_198, A_199, A_200, A_201, A_202, A_203, A_204, A_205, A_206, A_207, A_208, A_209, A_210, A_211, A_212, A_213, A_214, A_215, A_216, A_217, A_218, A_219, A_220, A_221, A_222, A_223, A_224, A_225, A_226, A_227, A_228, A_128, A_191, A_rf, A_rs, A_rt, Q_4, Q_67, Q_130, t_155_0_1, t_155_0_2, t_155_0_3, t_155_0_4, t_155_0_5, t_155_0_6, t_155_0_7, t_155_0_8, t_155_0_9, nc8, or_self, show ¬ (100000 < 8) by decide, l1, pf2, pf3, hH3, wc, pf4, hH5, pf8, pf0, pf1, hH7, c7, w1]
  · refine ⟨Nat.le_trans g7.1 w3.1, by have := g7.2.1; have := w3.2.1; omega, Nat.le_trans g7.2.2.1 w3.2.2.1, by have := g7.2.2.2.1; have := w3.2.2.2.1; omega, w3.hb, fun a q1 q2 => ?_⟩
    rw [w3.2.2.2.2.2 a (Nat.lt_of_lt_of_le q1 g7.1) (by omega)]
    exact g7.2.2.2.2.2 a q1 q2
end
