/-! PURE 82: addStyle -/
set_option maxRecDepth 100000
section
variable {K : gK} {d N : Nat} {G G' : gH} {B B' B0 : gB} {M M' : gM} {ro : Nat → Nat} {sh st pc : List Nat} {cs : Nat → List Nat} {ps : Nat → List (Nat × Int)} {H H' : gH} {m sl s : Nat}
theorem w_180 (hd : 4 ≤ d) (hb : HB H) (hk3 : K.2 3 < H.2.1) (hkn : H.1 (K.2 3) = none) (h : H.1 s = some (.inr (8, [.null, .int (I 0)]))) : ∃ H', gCa K d 180 [.ref s] H = some (.inl none, H') ∧ H'.1 s = some (.inr (8, [.ref H.2.1, .int (I 0)])) ∧ ALo H' H.2.1 0 (K.2 3) 0 ∧ H'.1 (K.2 3) = none ∧ FR (fun q => q = s) 1 3 H H' := by
  obtain ⟨d, rfl, hd'⟩ := d_succ (show 3 + 1 ≤ d by omega)
  obtain ⟨H1, l1, l2, l3⟩ := mkList (K := K) (d := d) (by omega) hb
  have ls := hb.lt h
  have s1 : H1.1 s = _ := l3.at hb h (fun q => q)
  have n1 : H1.1 (K.2 3) = none := (l3.2.2.2.2.2 _ hk3 (fun q => q)).trans hkn
  have pf := pf_of (k := 0) (v := .ref H.2.1) s1 (Nat.le_of_ble_eq_true rfl)
  rw [List.set_cons_zero] at pf
  refine ⟨gset H1 s (.inr (8, [.ref H.2.1, .int (I 0)])), c_180 _ ?_, gs_eq, (gs_ne (by omega)).trans l2, (gs_ne (by rintro e; rw [e] at n1; cases s1.symm.trans n1)).trans n1, ((l3.mono (W' := fun q => q = s) (fun _ _ q => q.elim)).tr (FR.set l3.hb s1)).le (by omega) (by omega)⟩
  unfold t_180_0
  simp (disch := omega) only [rI_d, rJ_d, rR_d, rN_d, wF_d, xI_d, xJ_d, xD_d, xQ_d, yI_d, yJ_d, yD_d, yQ_d, dI_s, dJ_s, dR_s, dN_s, dN_n, dH_s, dX_s, dL_s, dD_s, dQ_s, bC_r, bC_t, kI_s, kJ_s, kF_s, kD_s, kR_s, kV_s, I_lit, I_neg, I_add, I_sub, I_mul, I_ltT, I_ltF, I_leT, I_leF, I_eqT, I_eqF, c_int, c_long, c_obj, c_arr, c_bool, c_boolN, c_boolF, vn_bool, c_charN, vn_char, b2_f, b2_t, Int.toNat_natCast, ↓reduceIte, eq_self, and_self, and_true, true_and, not_false_eq_true, not_true_eq_false, L_0_0, L_0_1, L_0_2, L_0_3, L_0_4, L_0_5, L_0_6, L_0_7, L_0_8, L_0_9, L_0_10, L_0_11, L_0_12, L_0_13, L_0_14, L_0_15, C_0, L_1_0, L_1_1, L_1_2, C_1, L_2_0, L_2_1, L_2_2, C_2, L_3_0, L_3_1, L_3_2, C_3, L_65_0, L_65_1, L_65_2, L_65_3, L_65_4, C_65, L_66_0, L_66_1, L_66_2, L_66_3, C_66, L_129_0, L_129_1, L_129_2, L_129_3, C_129, L_198_0, L_198_1, L_198_2, L_198_3, L_198_4, L_198_5, L_198_6, L_198_7, L_198_8, L_198_9, L_198_10, L_198_11, L_198_12, L_198_13, L_198_14, L_198_15, L_198_16, L_198_17, L_198_18, L_198_19, L_198_20, L_198_21, L_198_22, L_198_23, L_198_24, L_198_25, L_198_26, L_198_27, L_198_28, L_198_29, L_198_30, L_198_31, L_198_32, L_198_33, L_198_34, L_198_35, L_198_36, L_198_37, L_198_38, L_198_39, L_198_40, L_198_41, L_198_42, L_198_43, L_198_44, L_198_45, L_198_46, L_198_47, L_198_48, C_198, A_199, A_200, A_201, A_202, A_203, A_204, A_205, A_206, A_207, A_208, A_209, A_210, A_211, A_212, A_213, A_214, A_215, A_216, A_217, A_218, A_219, A_220, A_221, A_222, A_223, A_224, A_225, A_226, A_227, A_228, A_128, A_191, A_rf, A_rs, A_rt, Q_4, Q_67, Q_130, t_180_0_1, t_180_0_2, l1, pf]
/-- the room with one more style -/
theorem CR.stN {p mc' e' : Nat} {M' : gM} {mcv lmc : Int} (h : CR K N G B ro M sh st pc cs ps) (hf : FR (LW (hH K N G B) (N + 2) (B.1 2 1).toNat) m sl (hH K N G B) H') (hA : ALo H' (N + 2) mcv e' (st.length + 1)) (hR : ARR K H' e' (st ++ [G.2.1])) (he : e' = (B.1 2 1).toNat ∨ (G.2.1 < e' ∧ e' ≠ p))
    (hs : H'.1 G.2.1 = some (.inr (8, [.ref p, .int (I (M'.2 219 st.length))]))) (hp0 : ALo H' p lmc (K.2 3) 0) (hn : H'.1 (K.2 3) = none) (hp : G.2.1 < p) (h4 : st.length < 4) (h8 : sh.length ≤ 8)
    (hM1 : ∀ k, k ≠ 0 → k ≠ 28 → M'.1 k = M.1 k) (hM1' : (M'.1 28) = (st.length + 1 : Nat)) (hM2 : ∀ o, 199 ≤ o → M'.2 o = M.2 o) (hct : ∀ s, s < 8 → M.2 218 (8 * st.length + s) = 0) :
    H' = hH K N (dn N H') (lB B 2 mcv e' (st.length + 1)) ∧ CR K N (dn N H') (lB B 2 mcv e' (st.length + 1)) (fun q => if q = e' ∧ G.2.1 ≤ q then 2 else if G.2.1 ≤ q then 20 + st.length else ro q) M' sh (st ++ [G.2.1]) pc cs (fun j => if j = st.length then [] else ps j) := by
  have hC := h.1
  have hL := h.l2
  have hN := hC.2.2.1
  obtain ⟨r1, r2⟩ := relist (Or.inr (Or.inl rfl)) hC hL hf hA
  have hf' := hf
  rw [r1] at hf'
  obtain ⟨f1, f2, f3, f4⟩ := h.fo (ro' := fun q => if q = e' ∧ G.2.1 ≤ q then 2 else if G.2.1 ≤ q then 20 + st.length else ro q) (o1 := 2) hf' (fun q hq => by
    rcases hq with rfl | ⟨rfl, h0⟩
    · exact Or.inl (by omega)
    · have := hL.arr hC h0
      exact Or.inr ⟨this.2.1, this.2.2.1⟩) (fun q hq => by
    show (if q = e' ∧ G.2.1 ≤ q then 2 else if G.2.1 ≤ q then 20 + st.length else ro q) = ro q
    rw [if_neg (by omega), if_neg (by omega)])
  rw [← r1] at f1 f2 f3
  have hla : (st ++ [G.2.1]).length = st.length + 1 := by rw [List.length_append]; rfl
  have hle : e' = (B.1 2 1).toNat → e' < G.2.1 := fun he => by
    by_cases e0 : (hH K N G B).1 (B.1 2 1).toNat = none
    · rcases hL.2.2.1 with ⟨e2, -, -⟩ | ⟨-, cap, f, e2, -⟩
      · have := hC.2.2.2.1 3 (by omega)
        omega
      · rw [e2] at e0; cases e0
    · have := hL.arr hC e0
      omega
  have n1 : CL K N (dn N H') (lB B 2 mcv e' (st ++ [G.2.1]).length) (fun q => if q = e' ∧ G.2.1 ≤ q then 2 else if G.2.1 ≤ q then 20 + st.length else ro q) 2 (st ++ [G.2.1]) := by
    refine CL.new hR (by rw [hla]; exact r1) ?_
    rcases he with he | he
    · by_cases e0 : (hH K N G B).1 (B.1 2 1).toNat = none
      · rcases hL.2.2.1 with ⟨e1, -, -⟩ | ⟨-, cap, f, e1, -⟩
        · exact Or.inl (he.trans e1)
        · rw [e1] at e0; cases e0
      · have := hL.arr hC e0
        refine Or.inr ?_
        show (if e' = e' ∧ G.2.1 ≤ e' then 2 else if G.2.1 ≤ e' then 20 + st.length else ro e') = 2
        rw [if_neg (by omega), if_neg (by omega), he]
        exact this.2.1
    · refine Or.inr ?_
      show (if e' = e' ∧ G.2.1 ≤ e' then 2 else _) = 2
      exact if_pos ⟨rfl, by omega⟩
  rw [hla] at n1
  obtain ⟨q1, q2, q3, q4, q5, q6, q7, q8, q9, q10⟩ := h
  refine ⟨r1, r2, ?_, ?_, f4 1 sh (by omega) q4 (lB_ne (by omega)) (lB_ne (by omega)), n1, f4 3 pc (by omega) q6 (lB_ne (by omega)) (lB_ne (by omega)), ?_, fun i a hi => ?_, fun i a hi => ?_, fun j a hj => ?_⟩
  · unfold CS at q2 ⊢
    rw [hM1 1 (by decide) (by decide), hM1 2 (by decide) (by decide), hM1 3 (by decide) (by decide), hM1 4 (by decide) (by decide), hM1 5 (by decide) (by decide), hM1 18 (by decide) (by decide), hM1 31 (by decide) (by decide), hM1 32 (by decide) (by decide), hM2 199 (by decide)]
    exact q2
  · have e : rmT M' = rmT M := by
      unfold rmT
      rw [hM2 217 (by decide), hM2 216 (by decide)]
    rw [hM2 215 (by decide), e]
    exact q3
  · rw [hM1', hM1 7 (by decide) (by decide), hM1 17 (by decide) (by decide), hla]; exact ⟨q7.1, rfl, q7.2.2⟩
  · rw [← r1, dl_e (hM2 202 (by decide))]
    exact ⟨(f1 i a hi (by omega)).se (SE.of (fun o h1 h2 => hM2 o (by omega))), (q8 i a hi).2⟩
  · rw [← r1]
    dsimp only
    rcases get_app hi with ⟨k1, k2⟩ | ⟨k1, k2⟩
    · rw [if_neg (by omega)]
      exact ⟨(f2 i a k2 (by omega)).se (by rw [hM2 219 (by decide)]), (q9 i a k2).2.se (fun s _ => by rw [hM2 218 (by decide)]) h8⟩
    · subst k1
      rw [if_pos rfl, k2]
      refine ⟨⟨p, lmc, K.2 3, [], hs, hp0, Or.inl ⟨rfl, hn, rfl⟩, rfl, fun j c q z _ => (by cases z), Or.inl rfl, ?_, ?_, show N + 231 ≤ p by omega⟩, List.nodup_nil, fun q hq => (by cases hq), fun s hs h0 => ?_⟩
      · show (if G.2.1 = e' ∧ G.2.1 ≤ G.2.1 then 2 else if G.2.1 ≤ G.2.1 then 20 + st.length else ro G.2.1) = _
        rw [if_neg, if_pos (Nat.le_refl _)]
        rintro ⟨e1, -⟩
        rcases he with he | he
        · have := hle he; omega
        · omega
      · show (if p = e' ∧ G.2.1 ≤ p then 2 else if G.2.1 ≤ p then 20 + st.length else ro p) = _
        rw [if_neg, if_pos (by omega)]
        rintro ⟨e1, -⟩
        rcases he with he | he
        · have := hle he; omega
        · exact he.2 e1.symm
      · rw [hM2 218 (by decide)] at h0
        exact absurd (hct s hs) h0
  · rw [← r1]
    exact (f3 j a hj).se (PE.of (fun o h1 h2 => hM2 o (by omega)))
end
