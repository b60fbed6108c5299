/-! PURE 87: a shape's fields changed -/
set_option maxRecDepth 100000
section
variable {K : gK} {P : Nat → Prop} {d : Nat} {H : gH} {ro : Nat → Nat} {a i : Nat} {M M' : gM} {cl : List Nat}
theorem SHP.upd (hb : HB H) (hkn : H.1 (K.2 3) = none) (h : SHP K P H ro a i M cl) (hM : M'.2 200 i = M.2 200 i ∧ M'.2 201 i = M.2 201 i ∧ M'.2 204 i = M.2 204 i ∧ M'.2 205 i = M.2 205 i ∧ M'.2 206 i = M.2 206 i) : ∃ p mk vr, H.1 a = some (.inr (4, shF K M i p mk vr)) ∧ FR (WO H ro (10 + i)) 0 0 H (gset H a (.inr (4, shF K M' i p mk vr))) ∧ SHP K P (gset H a (.inr (4, shF K M' i p mk vr))) (roN H ro (10 + i)) a i M' cl := by
  obtain ⟨e1, e2, e3, e4, e5⟩ := hM
  obtain ⟨p, mk, vr, h1, ⟨lmc, le, ca, c1, c2, hQ, c4, c5⟩, h3, ⟨vf, v1, v2⟩, r1, r2, r3, r4⟩ := h
  have f1 : FR (WO H ro (10 + i)) 0 0 H (gset H a (.inr (4, shF K M' i p mk vr))) := (FR.set hb h1).mono (fun q _ hq => by subst hq; exact ⟨r1, _, h1, Or.inl rfl⟩)
  have o1 : ∀ {x : Nat} {en : gE}, H.1 x = some en → (∀ fs, en ≠ .inr (4, fs)) → (gset H a (.inr (4, shF K M' i p mk vr))).1 x = some en := fun {x en} hx h4 => by
    rw [gs_ne]
    · exact hx
    · rintro rfl; exact h4 _ (Option.some.inj (hx.symm.trans h1))
  have n1 : (gset H a (.inr (4, shF K M' i p mk vr))).1 (K.2 3) = none := by
    rw [gs_ne]
    · exact hkn
    · rintro e; rw [e] at hkn; cases hkn.symm.trans h1
  have rl : ∀ {x : Nat} {en : gE}, H.1 x = some en → roN H ro (10 + i) x = ro x := fun {x en} hx => if_neg (Nat.not_le.mpr (hb.lt hx))
  refine ⟨p, mk, vr, h1, f1, p, mk, vr, gs_eq, ⟨lmc, le, ca, o1 c1 (fun fs e => by cases e), ?_, ?_, c4, fun j c k q1 q2 => o1 (c5 j c k q1 q2) (fun fs e => by cases e)⟩, ?_, ⟨vf, o1 v1 (fun fs e => by cases e), fun t m t1 t2 m1 m2 => ?_⟩, (rl h1).trans r1, (rl c1).trans r2, (rl v1).trans r3, r4⟩
  · rcases c2 with ⟨q1, q2, q3⟩ | ⟨q0, cap, f, q1, q2⟩
    · exact Or.inl ⟨q1, by rw [q1]; exact n1, q3⟩
    · exact Or.inr ⟨q0, cap, f, o1 q1 (fun fs e => by cases e), q2⟩
  · rcases hQ with q | q
    · exact Or.inl q
    · refine Or.inr ?_
      show (if H.2.1 ≤ le then 10 + i else ro le) = 10 + i
      split <;> first | rfl | exact q
  · rw [e4, e5]
    exact o1 h3 (fun fs e => by cases e)
  · obtain ⟨va, k1, ra, cb, fr, fc, k2, k3, k4, k5, k6⟩ := v2 t m t1 t2 m1 m2
    refine ⟨va, k1, ?_⟩
    rw [e4, e5]
    exact ⟨ra, cb, fr, fc, o1 k2 (fun fs e => by cases e), k3, o1 k4 (fun fs e => by cases e), o1 k5 (fun fs e => by cases e), k6⟩
end
section
variable {B : gB}
theorem spB_k {p : Int} {z k : Nat} (h : k ≠ 32) : (spB B p z).1 198 k = B.1 198 k := sI_ne (Or.inr h)
theorem spB_ct {p : Int} {z : Nat} : (spB B p z).1 198 32 = (B.1 198 32) + spS (tw B) p z := sI_eq rfl
theorem spB_o {p : Int} {z o : Nat} (h1 : o ≠ 207) (h2 : o ≠ 208) : (spB B p z).2.1 o = B.2.1 o := (if_neg h1).trans (if_neg h2)
theorem spB_st {p : Int} {z j : Nat} : (spB B p z).2.1 208 j = if j < z then B.2.1 208 j + p * gv (tw B) ((j : Int) / 2) ((j : Int) % 2) else B.2.1 208 j := rfl
theorem spB_ec {p : Int} {z j : Nat} : (spB B p z).2.1 207 j = cif (2 * j < z ∧ (B.2.1 207 j ≠ 0 ∨ 0 < p * gv (tw B) j 0 ∨ (2 * j + 1 < z ∧ 0 < p * gv (tw B) j 1))) 1 (B.2.1 207 j) := rfl
theorem spS_2 {M : gM} {p : Int} {y : Nat} : spS M p (2 * (y + 1)) = spS M p (2 * y) + p * gv M (y : Int) 0 + p * gv M (y : Int) 1 := by
  show spS M p (2 * y + 1) + p * gv M (((2 * y + 1 : Nat) : Int) / 2) (((2 * y + 1 : Nat) : Int) % 2) = _
  rw [show (((2 * y + 1 : Nat) : Int) / 2) = (y : Int) by omega, show (((2 * y + 1 : Nat) : Int) % 2) = 1 by omega]
  show spS M p (2 * y) + p * gv M (((2 * y : Nat) : Int) / 2) (((2 * y : Nat) : Int) % 2) + _ = _
  rw [show (((2 * y : Nat) : Int) / 2) = (y : Int) by omega, show (((2 * y : Nat) : Int) % 2) = 0 by omega]
theorem I_or0 {e : Int} (h : 0 ≤ e ∧ e ≤ 1) : I e ||| I 0 = I e := by
  obtain rfl | rfl : e = 0 ∨ e = 1 := by omega
  · decide
  · decide
theorem I_or1 {e : Int} (h : 0 ≤ e ∧ e ≤ 1) : I e ||| I 1 = I 1 := by
  obtain rfl | rfl : e = 0 ∨ e = 1 := by omega
  · decide
  · decide
end
section
variable {K : gK} {d N : Nat} {G G' : gH} {B B' Br : gB} {M M' : gM} {ro : Nat → Nat} {sh st pc : List Nat} {cs : Nat → List Nat} {ps : Nat → List (Nat × Int)}
theorem CR.cut (h : CR K N G B ro M sh st pc cs ps) {v : Int} (h1 : ∀ k, k ≠ 0 → k ≠ 32 → M'.1 k = M.1 k) (h2 : (M'.1 32) = v) (h3 : ∀ o, 199 ≤ o → M'.2 o = M.2 o) : CR K N G (sI B 0 15 v) ro M' sh st pc cs ps := by
  have e1 : ∀ o k, (o ≠ 0 ∨ k ≠ 15) → (sI B 0 15 v).1 o k = B.1 o k := fun o k h => sI_ne h
  refine h.ln (m := 0) (s := 0) (FR.ln h.1) h.1 ⟨e1 _ _ (by omega), e1 _ _ (by omega)⟩ ⟨e1 _ _ (by omega), e1 _ _ (by omega)⟩ ⟨e1 _ _ (by omega), e1 _ _ (by omega)⟩ ⟨fun o ho => h3 o (by omega), h1 7 (by omega) (by omega), h1 28 (by omega) (by omega), h1 17 (by omega) (by omega)⟩ ?_ ?_
  · obtain ⟨s1, s2, s3, s4, s5, s6, s7, s8, s9⟩ := h.2.1
    refine ⟨?_, ?_, ?_, ?_, ?_, ?_, ?_, ?_, fun r c hr hc => ?_⟩
    · rw [e1 _ _ (by omega), h1 1 (by omega) (by omega)]; exact s1
    · rw [e1 _ _ (by omega), h1 2 (by omega) (by omega)]; exact s2
    · rw [e1 _ _ (by omega), h1 3 (by omega) (by omega)]; exact s3
    · rw [e1 _ _ (by omega), h1 4 (by omega) (by omega)]; exact s4
    · rw [e1 _ _ (by omega), h1 5 (by omega) (by omega)]; exact s5
    · rw [e1 _ _ (by omega), h1 18 (by omega) (by omega)]; exact s6
    · rw [e1 _ _ (by omega), h1 31 (by omega) (by omega)]; exact s7
    · rw [sI_eq rfl, h2]
    · rw [h3 199 (by omega)]; exact s9 r c hr hc
  · obtain ⟨t1, t2, t3⟩ := h.2.2.1
    have er : rmT M' = rmT M := by
      unfold rmT
      rw [h3 217 (by omega), h3 216 (by omega)]
    rw [h3 215 (by omega), er]
    exact ⟨t1, t2, (e1 _ _ (by omega)).trans t3⟩
theorem l_131 (hd : 5 ≤ d) (hw : MW Br) {p : Int} (hp : 1 ≤ p ∧ p ≤ 50) (hk : ∀ j : Nat, (j : Int) < 2 * (Br.1 198 7) → Br.2.1 208 j + p * gv (tw Br) ((j : Int) / 2) ((j : Int) % 2) ≤ 9999) (hc : (Br.1 198 32) ≤ 900000000) {q : Int} : ∀ (n y : Nat) (G : gH) (B : gB) (ro : Nat → Nat) (o4 o5 o6 : Option Value), y + n = sh.length → CR K N G B ro (tw (spB Br p (2 * y))) sh st pc cs ps →
    ∃ G' B' ro', gRn K d 131 89 [some (.ref N), some (.int (I p)), some (.int (I q)), some (.int (I (y : Int))), o4, o5, o6] [] (hH K N G B) = some (.inl (some (.int (I ((Br.1 198 31))))), hH K N G' B') ∧ KP B B' ∧ G'.2 = G.2 ∧ CR K N G' B' ro' (tw (spB Br p (2 * sh.length))) sh st pc cs ps := by
  intro n
  induction n with
  | zero =>
    intro y G B ro o4 o5 o6 hn hR
    have e : y = sh.length := by omega
    have hR' := hR
    rw [e] at hR'
    refine ⟨G, B, ro, ?_, KP.rf, rfl, hR'⟩
    have s1 := hR.s1 (d := d) (by omega)
    have c1 := cl_of hR.l1.o1
    have hr : B.1 0 14 = (Br.1 198 31) := hR.2.1.2.2.2.2.2.2.1.trans (spB_k (B := Br) (p := p) (z := 2 * y) (k := 31) (by decide))
    have h8 : sh.length ≤ 8 := by
      have e3 : (spB Br p (2 * y)).1 198 7 = (sh.length : Int) := hR.nn.1
      rw [spB_k (by decide)] at e3
      have := mw_shapes hw
      omega
    refine e_131_89 _ ?_
    unfold t_131_89
    simp (disch := omega) only [rI_d, rJ_d, rR_d, rN_d, wF_d, xI_d, xJ_d, xD_d, xQ_d, yI_d, yJ_d, yD_d, yQ_d, dI_s, dJ_s, dR_s, dN_s, dN_n, dH_s, dX_s, dL_s, dD_s, dQ_s, bC_r, bC_t, kI_s, kJ_s, kF_s, kD_s, kR_s, kV_s, I_lit, I_neg, I_add, I_sub, I_mul, I_ltT, I_ltF, I_leT, I_leF, I_eqT, I_eqF, c_int, c_long, c_obj, c_arr, c_bool, c_boolN, c_boolF, vn_bool, c_charN, vn_char, b2_f, b2_t, Int.toNat_natCast, ↓reduceIte, eq_self, and_self, and_true, true_and, not_false_eq_true, not_true_eq_false, L_0_0, L_0_1, L_0_2, L_0_3, L_0_4, L_0_5, L_0_6, L_0_7, L_0_8, L_0_9, L_0_10, L_0_11, L_0_12, L_0_13, L_0_14, L_0_15, C_0, L_1_0, L_1_1, L_1_2, C_1, L_2_0, L_2_1, L_2_2, C_2, L_3_0, L_3_1, L_3_2, C_3, L_65_0, L_65_1, L_65_2, L_65_3, L_65_4, C_65, L_66_0, L_66_1, L_66_2, L_66_3, C_66, L_129_0, L_129_1, L_129_2, L_129_3, C_129, L_198_0, L_198_1, L_198_2, L_198_3, L_198_4, L_198_5, L_198_6, L_198_7, L_198_8, L_198_9, L_198_10, L_198_11, L_198_12, L_198_13, L_198_14, L_198_15, L_198_16, L_198_17, L_198_18, L_198_19, L_198_20, L_198_21, L_198_22, L_198_23, L_198_24, L_198_25, L_198_26, L_198_27, L_198_28, L_198_29, L_198_30, L_198_31, L_198_32, L_198_33, L_198_34, L_198_35, L_198_36, L_198_37, L_198_38, L_198_39, L_198_40, L_198_41, L_198_42, L_198_43, L_198_44, L_198_45, L_198_46, L_198_47, L_198_48, C_198, A_199, A_200, A_201, A_202, A_203, A_204, A_205, A_206, A_207, A_208, A_209, A_210, A_211, A_212, A_213, A_214, A_215, A_216, A_217, A_218, A_219, A_220, A_221, A_222, A_223, A_224, A_225, A_226, A_227, A_228, A_128, A_191, A_rf, A_rs, A_rt, Q_4, Q_67, Q_130, t_131_0_1, t_131_0_2, t_131_0_3, t_131_0_4, t_131_0_5, t_131_0_6, t_131_0_7, t_131_0_8, t_131_0_9, t_131_0_10, t_131_0_11, t_131_0_12, t_131_0_13, t_131_0_14, t_131_0_15, t_131_0_16, t_131_0_17, t_131_0_18, t_131_0_19, t_131_0_20, t_131_0_21, t_131_0_22, t_131_0_23, t_131_0_24, t_131_0_25, t_131_0_26, t_131_0_27, t_131_0_28, t_131_0_29, t_131_0_30, t_131_0_31, t_131_0_32, t_131_0_33, t_131_0_34, t_131_0_35, t_131_0_36, t_131_0_37, t_131_0_38, t_131_0_39, t_131_0_40, t_131_0_41, t_131_0_42, t_131_0_43, t_131_0_44, t_131_0_45, t_131_0_46, t_131_0_47, t_131_0_48, t_131_0_49, t_131_0_50, t_131_0_51, t_131_0_52, t_131_0_53, t_131_0_54, t_131_0_55, t_131_0_56, t_131_89_1, t_131_89_2, t_131_89_3, t_131_89_4, t_131_89_5, t_131_89_6, t_131_89_7, t_131_89_8, t_131_89_9, t_131_89_10, t_131_89_11, t_131_89_12, t_131_89_13, t_131_89_14, t_131_89_15, t_131_89_16, t_131_89_17, t_131_89_18, c1, s1, hr]
  | succ n ih =>
    intro y G B ro o4 o5 o6 hn hR
    have hR := hR.z
    have e3 : (Br.1 198 7) = (sh.length : Int) := (spB_k (B := Br) (p := p) (z := 2 * y) (k := 7) (by decide)).symm.trans hR.nn.1
    have h8 : sh.length ≤ 8 := by
      have := mw_shapes hw
      omega
    have hC := hR.1
    have s1 := hR.s1 (d := d) (by omega)
    have c1 := cl_of hR.l1.o1
    obtain ⟨a, ha⟩ := at_lt (show y < sh.length by omega)
    have g1 := hR.g1 (d := d) (by omega) (by omega) (y := (y : Int)) (by omega) (by rw [Int.toNat_natCast]; exact ha)
    have hwy : MW (spB Br p (2 * y)) := spB_mw hw (by omega) (by omega) (fun j hj => hk j (by omega)) hc
    have w0 := w_188 (d := d) (by omega) hwy hR ha (m := 0) (by omega)
    have w1 := w_188 (d := d) (by omega) hwy hR ha (m := 1) (by omega)
    rw [gv_spB] at w0 w1
    have p0 := pgv_b hw (s := (y : Int)) (m := 0) (p := p) (by omega)
    have p1 := pgv_b hw (s := (y : Int)) (m := 1) (p := p) (by omega)
    have k0 := hk (2 * y) (by omega)
    have k1 := hk (2 * y + 1) (by omega)
    rw [show (((2 * y : Nat) : Int) / 2) = (y : Int) by omega, show (((2 * y : Nat) : Int) % 2) = 0 by omega] at k0
    rw [show (((2 * y + 1 : Nat) : Int) / 2) = (y : Int) by omega, show (((2 * y + 1 : Nat) : Int) % 2) = 1 by omega] at k1
    have t0 := mw_stock hw (2 * y)
    have t1 := mw_stock hw (2 * y + 1)
    have t2 := mw_everCut hw y
    have ss := spS_b hw (p := p) (by omega) (2 * y)
    have bc := mw_cutAll hw
    have E0 : (spB Br p (2 * y)).2.1 208 (2 * y) = Br.2.1 208 (2 * y) := by rw [spB_st, if_neg (by omega)]
    have E1 : (spB Br p (2 * y)).2.1 208 (2 * y + 1) = Br.2.1 208 (2 * y + 1) := by rw [spB_st, if_neg (by omega)]
    have E2 : (spB Br p (2 * y)).2.1 207 y = Br.2.1 207 y := by rw [spB_ec, cifF (by omega)]
    have F0 : (spB Br p (2 * (y + 1))).2.1 208 (2 * y) = Br.2.1 208 (2 * y) + p * gv (tw Br) (y : Int) 0 := by rw [spB_st, if_pos (by omega), show (((2 * y : Nat) : Int) / 2) = (y : Int) by omega, show (((2 * y : Nat) : Int) % 2) = 0 by omega]
    have F1 : (spB Br p (2 * (y + 1))).2.1 208 (2 * y + 1) = Br.2.1 208 (2 * y + 1) + p * gv (tw Br) (y : Int) 1 := by rw [spB_st, if_pos (by omega), show (((2 * y + 1 : Nat) : Int) / 2) = (y : Int) by omega, show (((2 * y + 1 : Nat) : Int) % 2) = 1 by omega]
    have F2 : (spB Br p (2 * (y + 1))).2.1 207 y = if p * gv (tw Br) (y : Int) 0 + p * gv (tw Br) (y : Int) 1 ≤ 0 then Br.2.1 207 y else 1 := by
      rw [spB_ec]
      by_cases z : p * gv (tw Br) (y : Int) 0 + p * gv (tw Br) (y : Int) 1 ≤ 0
      · rw [if_pos z]
        by_cases z2 : Br.2.1 207 y = 0
        · rw [cifF (by rintro ⟨-, h | h | ⟨-, h⟩⟩ <;> omega)]
        · rw [cifT ⟨by omega, Or.inl z2⟩]; omega
      · rw [if_neg z]
        by_cases z2 : 0 < p * gv (tw Br) (y : Int) 0
        · rw [cifT ⟨by omega, Or.inr (Or.inl z2)⟩]
        · rw [cifT ⟨by omega, Or.inr (Or.inr ⟨by omega, by omega⟩)⟩]
    have hSE : ∀ i, i ≠ y → SE (tw (spB Br p (2 * y))) ((tw (spB Br p (2 * y))).1, (tw (spB Br p (2 * (y + 1)))).2) i := fun i hi => by
      refine ⟨rfl, rfl, rfl, ?_, ?_, ?_, rfl, rfl⟩
      · show (spB Br p (2 * (y + 1))).2.1 208 (2 * i) = (spB Br p (2 * y)).2.1 208 (2 * i)
        rw [spB_st, spB_st]
        by_cases z : 2 * i < 2 * y
        · rw [if_pos z, if_pos (by omega)]
        · rw [if_neg z, if_neg (by omega)]
      · show (spB Br p (2 * (y + 1))).2.1 208 (2 * i + 1) = (spB Br p (2 * y)).2.1 208 (2 * i + 1)
        rw [spB_st, spB_st]
        by_cases z : 2 * i + 1 < 2 * y
        · rw [if_pos z, if_pos (by omega)]
        · rw [if_neg z, if_neg (by omega)]
      · show (spB Br p (2 * (y + 1))).2.1 207 i = (spB Br p (2 * y)).2.1 207 i
        rw [spB_ec, spB_ec]
        exact cif_of ⟨fun ⟨h1, h2⟩ => ⟨by omega, h2.imp_right (Or.imp_right (fun h => ⟨by omega, h.2⟩))⟩, fun ⟨h1, h2⟩ => ⟨by omega, h2.imp_right (Or.imp_right (fun h => ⟨by omega, h.2⟩))⟩⟩ (fun _ => rfl) (fun _ => rfl)
    obtain ⟨p', mk, vr, h1, f1, f2⟩ := (hR.sp ha).1.upd (hC.hb (B := B)) hC.e (M' := ((tw (spB Br p (2 * y))).1, (tw (spB Br p (2 * (y + 1)))).2)) ⟨rfl, rfl, rfl, rfl, rfl⟩
    obtain ⟨r1, r2⟩ := hR.shp ha f1 f2 (hR.sp ha).2 (fun _ _ => rfl) (fun o h1 h2 => (spB_o (by omega) (by omega)).trans (spB_o (by omega) (by omega)).symm) hSE (fun _ _ => rfl) h8
    obtain ⟨u1, -, -, -, -, -, u7, u8, u9, -⟩ := sh_rd h1
    have u7' : g_gf (hH K N G B) a 4 5 = some (.int (I (Br.2.1 208 (2 * y)))) := by rw [u7]; exact congrArg (fun z => some (Value.int (I z))) E0
    have s5 := pf_of (k := 5) (v := .int (I (Br.2.1 208 (2 * y) + p * gv (tw Br) (y : Int) 0))) h1 (Nat.le_of_ble_eq_true rfl)
    have g6 := gf_of (gs_eq (H := hH K N G B) (a := a) (e := .inr (4, (shF K (tw (spB Br p (2 * y))) y p' mk vr).set 5 (.int (I (Br.2.1 208 (2 * y) + p * gv (tw Br) (y : Int) 0)))))) 6
    have g6' : g_gf (gset (hH K N G B) a (.inr (4, (shF K (tw (spB Br p (2 * y))) y p' mk vr).set 5 (.int (I (Br.2.1 208 (2 * y) + p * gv (tw Br) (y : Int) 0)))))) a 4 6 = some (.int (I (Br.2.1 208 (2 * y + 1)))) := by rw [g6]; exact congrArg (fun z => some (Value.int (I z))) E1
    have s6 := pf_of (k := 6) (v := .int (I (Br.2.1 208 (2 * y + 1) + p * gv (tw Br) (y : Int) 1))) (gs_eq (H := hH K N G B) (a := a) (e := .inr (4, (shF K (tw (spB Br p (2 * y))) y p' mk vr).set 5 (.int (I (Br.2.1 208 (2 * y) + p * gv (tw Br) (y : Int) 0)))))) (Nat.le_of_ble_eq_true rfl)
    rw [gs_gs] at s6
    have g7 := gf_of (gs_eq (H := hH K N G B) (a := a) (e := .inr (4, ((shF K (tw (spB Br p (2 * y))) y p' mk vr).set 5 (.int (I (Br.2.1 208 (2 * y) + p * gv (tw Br) (y : Int) 0)))).set 6 (.int (I (Br.2.1 208 (2 * y + 1) + p * gv (tw Br) (y : Int) 1)))))) 7
    have g7' : g_gf (gset (hH K N G B) a (.inr (4, ((shF K (tw (spB Br p (2 * y))) y p' mk vr).set 5 (.int (I (Br.2.1 208 (2 * y) + p * gv (tw Br) (y : Int) 0)))).set 6 (.int (I (Br.2.1 208 (2 * y + 1) + p * gv (tw Br) (y : Int) 1)))))) a 4 7 = some (.int (I (Br.2.1 207 y))) := by rw [g7]; exact congrArg (fun z => some (Value.int (I z))) E2
    have s7 : ∀ z, z = (spB Br p (2 * (y + 1))).2.1 207 y → g_pf (gset (hH K N G B) a (.inr (4, ((shF K (tw (spB Br p (2 * y))) y p' mk vr).set 5 (.int (I (Br.2.1 208 (2 * y) + p * gv (tw Br) (y : Int) 0)))).set 6 (.int (I (Br.2.1 208 (2 * y + 1) + p * gv (tw Br) (y : Int) 1)))))) a 4 7 (.int (I z)) = some (hH K N (dn N (gset (hH K N G B) a (.inr (4, shF K ((tw (spB Br p (2 * y))).1, (tw (spB Br p (2 * (y + 1)))).2) y p' mk vr)))) B) := fun z hz => by
      rw [pf_of (gs_eq (H := hH K N G B) (a := a)) (Nat.le_of_ble_eq_true rfl), gs_gs, ← r1, hz, ← F0, ← F1]
      rfl
    have hdn : (dn N (gset (hH K N G B) a (.inr (4, shF K ((tw (spB Br p (2 * y))).1, (tw (spB Br p (2 * (y + 1)))).2) y p' mk vr)))).2 = G.2 := rfl
    generalize dn N (gset (hH K N G B) a (.inr (4, shF K ((tw (spB Br p (2 * y))).1, (tw (spB Br p (2 * (y + 1)))).2) y p' mk vr))) = G2 at *
    have hct : B.1 0 15 = (Br.1 198 32) + spS (tw Br) p (2 * y) := hR.2.1.2.2.2.2.2.2.2.1.trans spB_ct
    have r3 := r2.cut (M' := tw (spB Br p (2 * (y + 1)))) (v := (Br.1 198 32) + spS (tw Br) p (2 * y) + (p * gv (tw Br) (y : Int) 0 + p * gv (tw Br) (y : Int) 1)) (fun k hk1 hk2 => (spB_k hk2).trans (spB_k hk2).symm) (by
      show (spB Br p (2 * (y + 1))).1 198 32 = _
      rw [spB_ct, spS_2]; omega) (fun _ _ => rfl)
    have hcs : (fun j => if j = y then cs y else cs j) = cs := funext fun j => by
      by_cases e : j = y
      · rw [if_pos e, e]
      · rw [if_neg e]
    rw [hcs] at r3
    obtain ⟨G', B', ro', i1, i2, i3, i4⟩ := ih (y + 1) G2 _ _ (some (.ref a)) (some (.int (I (p * gv (tw Br) (y : Int) 0)))) (some (.int (I (p * gv (tw Br) (y : Int) 1)))) (by omega) r3
    refine ⟨G', B', ro', ?_, (KP.sI (by omega)).tr i2, i3.trans hdn, i4⟩
    rw [show ((y + 1 : Nat) : Int) = (y : Int) + 1 by omega] at i1
    rw [F2] at s7
    refine e_131_89 _ ?_
    unfold t_131_89
    by_cases z : p * gv (tw Br) (y : Int) 0 + p * gv (tw Br) (y : Int) 1 ≤ 0
    · have s7 := s7 (Br.2.1 207 y) (by rw [if_pos z])
      generalize hz0 : p * gv (tw Br) (y : Int) 0 = z0 at *
      generalize hz1 : p * gv (tw Br) (y : Int) 1 = z1 at *
      simp (disch := omega) only [rI_d, rJ_d, rR_d, rN_d, wF_d, xI_d, xJ_d, xD_d, xQ_d, yI_d, yJ_d, yD_d, yQ_d, dI_s, dJ_s, dR_s, dN_s, dN_n, dH_s, dX_s, dL_s, dD_s, dQ_s, bC_r, bC_t, kI_s, kJ_s, kF_s, kD_s, kR_s, kV_s, I_lit, I_neg, I_add, I_sub, I_mul, I_ltT, I_ltF, I_leT, I_leF, I_eqT, I_eqF, c_int, c_long, c_obj, c_arr, c_bool, c_boolN, c_boolF, vn_bool, c_charN, vn_char, b2_f, b2_t, Int.toNat_natCast, ↓reduceIte, eq_self, and_self, and_true, true_and, not_false_eq_true, not_true_eq_false, L_0_0, L_0_1, L_0_2, L_0_3, L_0_4, L_0_5, L_0_6, L_0_7, L_0_8, L_0_9, L_0_10, L_0_11, L_0_12, L_0_13, L_0_14, L_0_15, C_0, L_1_0, L_1_1, L_1_2, C_1, L_2_0, L_2_1, L_2_2, C_2, L_3_0, L_3_1, L_3_2, C_3, L_65_0, L_65_1, L_65_2, L_65_3, L_65_4, C_65, L_66_0, L_66_1, L_66_2, L_66_3, C_66, L_129_0, L_129_1, L_129_2, L_129_3, C_129, L_198_0, L_198_1, L_198_2, L_198_3, L_198_4, L_198_5, L_198_6, L_198_7, L_198_8, L_198_9, L_198_10, L_198_11, L_198_12, L_198_13, L_198_14, L_198_15, L_198_16, L_198_17, L_198_18, L_198_19, L_198_20, L_198_21, L_198_22, L_198_23, L_198_24, L_198_25, L_198_26, L_198_27, L_198_28, L_198_29, L_198_30, L_198_31, L_198_32, L_198_33, L_198_34, L_198_35, L_198_36, L_198_37, L_198_38, L_198_39, L_198_40, L_198_41, L_198_42, L_198_43, L_198_44, L_198_45, L_198_46, L_198_47, L_198_48, C_198, A_199, A_200, A_201, A_202, A_203, A_204, A_205, A_206, A_207, A_208, A_209, A_210, A_211, A_212, A_213, A_214, A_215, A_216, A_217, A_218, A_219, A_220, A_221, A_222, A_223, A_224, A_225, A_226, A_227, A_228, A_128, A_191, A_rf, A_rs, A_rt, Q_4, Q_67, Q_130, t_131_0_1, t_131_0_2, t_131_0_3, t_131_0_4, t_131_0_5, t_131_0_6, t_131_0_7, t_131_0_8, t_131_0_9, t_131_0_10, t_131_0_11, t_131_0_12, t_131_0_13, t_131_0_14, t_131_0_15, t_131_0_16, t_131_0_17, t_131_0_18, t_131_0_19, t_131_0_20, t_131_0_21, t_131_0_22, t_131_0_23, t_131_0_24, t_131_0_25, t_131_0_26, t_131_0_27, t_131_0_28, t_131_0_29, t_131_0_30, t_131_0_31, t_131_0_32, t_131_0_33, t_131_0_34, t_131_0_35, t_131_0_36, t_131_0_37, t_131_0_38, t_131_0_39, t_131_0_40, t_131_0_41, t_131_0_42, t_131_0_43, t_131_0_44, t_131_0_45, t_131_0_46, t_131_0_47, t_131_0_48, t_131_0_49, t_131_0_50, t_131_0_51, t_131_0_52, t_131_0_53, t_131_0_54, t_131_0_55, t_131_0_56, t_131_89_1, t_131_89_2, t_131_89_3, t_131_89_4, t_131_89_5, t_131_89_6, t_131_89_7, t_131_89_8, t_131_89_9, t_131_89_10, t_131_89_11, t_131_89_12, t_131_89_13, t_131_89_14, t_131_89_15, t_131_89_16, t_131_89_17, t_131_89_18, M_0_8, M_0_9, M_0_10, M_0_11, M_0_12, M_0_13, M_0_14, M_0_15, M_1_0, M_1_1, M_1_2, M_2_0, M_2_1, M_2_2, M_3_0, M_3_1, M_3_2, M_65_0, M_65_1, M_65_2, M_65_3, M_65_4, M_66_2, M_129_2, M_198_0, M_198_1, M_198_2, M_198_3, M_198_4, M_198_5, M_198_7, M_198_17, M_198_18, M_198_28, M_198_31, M_198_32, M_198_33, M_198_36, M_198_37, M_198_38, M_198_39, M_198_41, M_198_48, S_199, S_200, S_201, S_202, S_203, S_204, S_205, S_206, S_207, S_208, S_209, S_210, S_211, S_212, S_213, S_214, S_215, S_216, S_217, S_218, S_219, S_220, S_221, S_222, S_223, S_224, S_225, S_226, S_227, S_228, S_128, S_191, S_rf, S_rs, S_rt, c1, s1, g1, u1, w0, w1, hz0, hz1, u7', s5, g6', s6, g7', I_or0, s7, hct, IJ, J_add, i1]
    · have s7 := s7 1 (by rw [if_neg z])
      generalize hz0 : p * gv (tw Br) (y : Int) 0 = z0 at *
      generalize hz1 : p * gv (tw Br) (y : Int) 1 = z1 at *
      simp (disch := omega) only [rI_d, rJ_d, rR_d, rN_d, wF_d, xI_d, xJ_d, xD_d, xQ_d, yI_d, yJ_d, yD_d, yQ_d, dI_s, dJ_s, dR_s, dN_s, dN_n, dH_s, dX_s, dL_s, dD_s, dQ_s, bC_r, bC_t, kI_s, kJ_s, kF_s, kD_s, kR_s, kV_s, I_lit, I_neg, I_add, I_sub, I_mul, I_ltT, I_ltF, I_leT, I_leF, I_eqT, I_eqF, c_int, c_long, c_obj, c_arr, c_bool, c_boolN, c_boolF, vn_bool, c_charN, vn_char, b2_f, b2_t, Int.toNat_natCast, ↓reduceIte, eq_self, and_self, and_true, true_and, not_false_eq_true, not_true_eq_false, L_0_0, L_0_1, L_0_2, L_0_3, L_0_4, L_0_5, L_0_6, L_0_7, L_0_8, L_0_9, L_0_10, L_0_11, L_0_12, L_0_13, L_0_14, L_0_15, C_0, L_1_0, L_1_1, L_1_2, C_1, L_2_0, L_2_1, L_2_2, C_2, L_3_0, L_3_1, L_3_2, C_3, L_65_0, L_65_1, L_65_2, L_65_3, L_65_4, C_65, L_66_0, L_66_1, L_66_2, L_66_3, C_66, L_129_0, L_129_1, L_129_2, L_129_3, C_129, L_198_0, L_198_1, L_198_2, L_198_3, L_198_4, L_198_5, L_198_6, L_198_7, L_198_8, L_198_9, L_198_10, L_198_11, L_198_12, L_198_13, L_198_14, L_198_15, L_198_16, L_198_17, L_198_18, L_198_19, L_198_20, L_198_21, L_198_22, L_198_23, L_198_24, L_198_25, L_198_26, L_198_27, L_198_28, L_198_29, L_198_30, L_198_31, L_198_32, L_198_33, L_198_34, L_198_35, L_198_36, L_198_37, L_198_38, L_198_39, L_198_40, L_198_41, L_198_42, L_198_43, L_198_44, L_198_45, L_198_46, L_198_47, L_198_48, C_198, A_199, A_200, A_201, A_202, A_203, A_204, A_205, A_206, A_207, A_208, A_209, A_210, A_211, A_212, A_213, A_214, A_215, A_216, A_217, A_218, A_219, A_220, A_221, A_222, A_223, A_224, A_225, A_226, A_227, A_228, A_128, A_191, A_rf, A_rs, A_rt, Q_4, Q_67, Q_130, t_131_0_1, t_131_0_2, t_131_0_3, t_131_0_4, t_131_0_5, t_131_0_6, t_131_0_7, t_131_0_8, t_131_0_9, t_131_0_10, t_131_0_11, t_131_0_12, t_131_0_13, t_131_0_14, t_131_0_15, t_131_0_16, t_131_0_17, t_131_0_18, t_131_0_19, t_131_0_20, t_131_0_21, t_131_0_22, t_131_0_23, t_131_0_24, t_131_0_25, t_131_0_26, t_131_0_27, t_131_0_28, t_131_0_29, t_131_0_30, t_131_0_31, t_131_0_32, t_131_0_33, t_131_0_34, t_131_0_35, t_131_0_36, t_131_0_37, t_131_0_38, t_131_0_39, t_131_0_40, t_131_0_41, t_131_0_42, t_131_0_43, t_131_0_44, t_131_0_45, t_131_0_46, t_131_0_47, t_131_0_48, t_131_0_49, t_131_0_50, t_131_0_51, t_131_0_52, t_131_0_53, t_131_0_54, t_131_0_55, t_131_0_56, t_131_89_1, t_131_89_2, t_131_89_3, t_131_89_4, t_131_89_5, t_131_89_6, t_131_89_7, t_131_89_8, t_131_89_9, t_131_89_10, t_131_89_11, t_131_89_12, t_131_89_13, t_131_89_14, t_131_89_15, t_131_89_16, t_131_89_17, t_131_89_18, M_0_8, M_0_9, M_0_10, M_0_11, M_0_12, M_0_13, M_0_14, M_0_15, M_1_0, M_1_1, M_1_2, M_2_0, M_2_1, M_2_2, M_3_0, M_3_1, M_3_2, M_65_0, M_65_1, M_65_2, M_65_3, M_65_4, M_66_2, M_129_2, M_198_0, M_198_1, M_198_2, M_198_3, M_198_4, M_198_5, M_198_7, M_198_17, M_198_18, M_198_28, M_198_31, M_198_32, M_198_33, M_198_36, M_198_37, M_198_38, M_198_39, M_198_41, M_198_48, S_199, S_200, S_201, S_202, S_203, S_204, S_205, S_206, S_207, S_208, S_209, S_210, S_211, S_212, S_213, S_214, S_215, S_216, S_217, S_218, S_219, S_220, S_221, S_222, S_223, S_224, S_225, S_226, S_227, S_228, S_128, S_191, S_rf, S_rs, S_rt, c1, s1, g1, u1, w0, w1, hz0, hz1, u7', s5, g6', s6, g7', I_or1, s7, hct, IJ, J_add, i1]
end
