/-! PURE 45: a variant is made -/
set_option maxRecDepth 100000
theorem FR.sn {W : Nat → Prop} {m s : Nat} {H0 H : gH} (h : FR W m s H0 H) {a : Nat} {e e' : gE} (ha : H0.2.1 ≤ a) (he : H.1 a = some e') : FR W m s H0 (gset H a e) := ⟨h.1, h.2.1, h.2.2.1, h.2.2.2.1, h.2.2.2.2.1.set he, fun b q1 q2 => (gs_ne (by omega)).trans (h.2.2.2.2.2 b q1 q2)⟩
theorem CLS.v {K : gK} {Q : Nat → Prop} {H H' : gH} {m s p v : Nat} {cl : List Nat} (h : CLS K H Q p cl) (hb : HB H) (hk3 : K.2 3 < H.2.1) (hf : FR (fun q => q = v) m s H H') {fs : List Value} (hv : H.1 v = some (.inr (6, fs))) (hk : H.1 (K.2 3) = none) : CLS K H' Q p cl :=
  h.fr hb hk3 hf (fun a q ⟨fs', h1⟩ => by subst q; cases hv.symm.trans h1) (fun a x q h1 => by subst q; cases hv.symm.trans h1) (fun a fs' q h1 => by subst q; cases hv.symm.trans h1) (fun q => by rw [q] at hk; cases hv.symm.trans hk)
theorem topL_app {l : List Nat} {k : Nat} {t m : Int} : topL (l ++ [k]) t m = if zR t m k < topL l t m then zR t m k else topL l t m := fmin_app _ _ _ _
theorem leftL_app {l : List Nat} {k : Nat} {t m : Int} : leftL (l ++ [k]) t m = if zC t m k < leftL l t m then zC t m k else leftL l t m := fmin_app _ _ _ _
/-- what is known while a variant v of the shape s is made -/
def VX (K : gK) (H : gH) (Q P : Nat → Prop) (v s p mk : Nat) (cl : List Nat) (mr mc : Int) : Prop := (∀ a, H.2.1 ≤ a → P a) ∧ HB H ∧ K.2 3 < H.2.1 ∧ H.1 (K.2 3) = none ∧ (∃ fs, H.1 v = some (.inr (6, fs))) ∧ (∃ fs, H.1 s = some (.inr (4, fs)) ∧ fs[2]? = some (.ref p) ∧ fs[4]? = some (.ref mk)) ∧ CLS K H Q p cl ∧ CE H mk mr mc ∧ cl.length ≤ 25 ∧ ∀ k ∈ cl, k < 25
theorem VX.fr {K : gK} {Q P : Nat → Prop} {H H' : gH} {v s p mk m n : Nat} {cl : List Nat} {mr mc : Int} (h : VX K H Q P v s p mk cl mr mc) (hf : FR (fun q => q = v) m n H H') (hv : ∃ fs, H'.1 v = some (.inr (6, fs))) : VX K H' Q P v s p mk cl mr mc := by
  obtain ⟨hP, h1, h2, h3, ⟨fs, h4⟩, ⟨fs2, h5, h6⟩, h7, h8, h9⟩ := h
  refine ⟨fun a q => hP a (Nat.le_trans hf.1 q), hf.hb, Nat.lt_of_lt_of_le h2 hf.1, ?_, hv, ⟨fs2, hf.at h1 h5 (fun q => ?_), h6⟩, h7.v h1 h2 hf h4 h3, hf.at h1 h8 (fun q => ?_), h9⟩
  · rw [hf.2.2.2.2.2 _ h2 (fun q => by rw [q] at h3; cases h4.symm.trans h3)]
    exact h3
  · subst q; cases h4.symm.trans h5
  · subst q; cases h4.symm.trans h8
section
variable {K : gK} {Q P : Nat → Prop} {d : Nat} {H0 : gH} {v s p mk ra ca : Nat} {cl : List Nat} {mr mc t m : Int}
theorem l_199_2 (hd : 2 ≤ d) (hX : VX K H0 Q P v s p mk cl mr mc) (ht : 0 ≤ t ∧ t ≤ 3) (hm : 0 ≤ m ∧ m ≤ 1) (hra : H0.2.1 ≤ ra) (hca : H0.2.1 ≤ ca) (hne : ra ≠ ca) {A S : Nat} : ∀ (n : Nat) (z : Int) (H : gH) (fr fc : Nat → Int32) (o7 : Option Value), FR (fun q => q = v) A S H0 H → 0 ≤ z → z + n = cl.length → H.1 v = some (.inr (6, [.ref ra, .ref ca, .int (I 0)])) → H.1 ra = some (.inl (0, cl.length, .inl fr)) → H.1 ca = some (.inl (0, cl.length, .inl fc)) →
    (∀ (j k : Nat), cl[j]? = some k → fr j = I (if (j : Int) < z then oR cl t m k else zR t m k) ∧ fc j = I (if (j : Int) < z then oC cl t m k else zC t m k)) →
    ∃ H', gRn K d 199 131 [some (.ref v), some (.ref s), some (.int (I m)), some (.int (I t)), some (.int (I (topL cl t m))), some (.int (I (leftL cl t m))), some (.int (I z)), o7] [] H = some (.inl none, H') ∧ VA P H' v cl t m (tR t mr (mC m mc) - topL cl t m) ∧ FR (fun q => q = v) (A + 4) (S + 8) H0 H' := by
  intro n
  have ⟨hP, hb0, hk3, hk3n, _, _, _, _, hl, hl2⟩ := hX
  have hxl : ∀ (H : gH) (fr : Nat → Int32) (g : Int32 → Option gO), H.1 ra = some (.inl (0, cl.length, .inl fr)) → xL K H ra g = g (I (cl.length : Int)) := fun H fr g h => by
    unfold xL
    rw [h]
    show g (Int32.ofNat cl.length) = _
    rw [I_nat]
  induction n with
  | zero =>
    intro z H fr fc o7 hf hz hn hv hr hc hcell
    have hX1 := hX.fr hf ⟨_, hv⟩
    obtain ⟨-, hb, -, -, -, ⟨fs, hs, hs2, hs4⟩, -, hmk, -, -⟩ := hX1
    have g0 := gf_of hv 0
    have gs4 := gf_of hs 4
    rw [hs4] at gs4
    simp only [List.getElem?_cons_succ, List.getElem?_cons_zero] at g0
    have cmk := cl_of hmk
    obtain ⟨H1, b, k1, k2, k3⟩ := w_227 (K := K) (d := d) (by omega) hb hmk hm ht
    have hv1 : H1.1 v = some (.inr (6, [.ref ra, .ref ca, .int (I 0)])) := k3.at hb hv (fun q => q)
    have b0 := gf_of k2 0
    simp only [List.getElem?_cons_zero] at b0
    have pf := pf_of (k := 2) (v := .int (I (tR t mr (mC m mc) - topL cl t m))) hv1 (Nat.le_of_ble_eq_true rfl)
    rw [List.set_cons_succ, List.set_cons_succ, List.set_cons_zero] at pf
    have hvr : v ≠ ra := ne_ca hv hr
    have hvc : v ≠ ca := ne_ca hv hc
    refine ⟨_, e_199_131 _ ?_, ⟨ra, ca, fr, fc, gs_eq, ⟨hP ra hra, hP ca hca⟩, (gs_ne (Ne.symm hvr)).trans (k3.at hb hr (fun q => q)), (gs_ne (Ne.symm hvc)).trans (k3.at hb hc (fun q => q)), fun j k hj => ?_⟩, ?_⟩
    rotate_left
    · have := hcell j k hj
      have hjl := (List.getElem?_eq_some_iff.mp hj).1
      rw [if_pos (by omega), if_pos (by omega)] at this
      exact this
    · exact ((hf.tr (k3.mono (fun _ _ q => q.elim))).tr (FR.set k3.hb hv1)).le (by omega) (by omega)
    · unfold t_199_131
      simp (disch := omega) only [rI_d, rJ_d, rR_d, rN_d, wF_d, xI_d, xJ_d, xD_d, xQ_d, yI_d, yJ_d, yD_d, yQ_d, dI_s, dJ_s, dR_s, dN_s, dN_n, dH_s, dX_s, dL_s, dD_s, dQ_s, bC_r, bC_t, kI_s, kJ_s, kF_s, kD_s, kR_s, kV_s, I_lit, I_neg, I_add, I_sub, I_mul, I_ltT, I_ltF, I_leT, I_leF, I_eqT, I_eqF, c_int, c_long, c_obj, c_arr, c_bool, c_boolN, c_boolF, vn_bool, c_charN, vn_char, b2_f, b2_t, Int.toNat_natCast, ↓reduceIte, eq_self, and_self, and_true, true_and, not_false_eq_true, not_true_eq_false, L_0_0, L_0_1, L_0_2, L_0_3, L_0_4, L_0_5, L_0_6, L_0_7, L_0_8, L_0_9, L_0_10, L_0_11, L_0_12, L_0_13, L_0_14, L_0_15, C_0, L_1_0, L_1_1, L_1_2, C_1, L_2_0, L_2_1, L_2_2, C_2, L_3_0, L_3_1, L_3_2, C_3, L_65_0, L_65_1, L_65_2, L_65_3, L_65_4, C_65, L_66_0, L_66_1, L_66_2, L_66_3, C_66, L_129_0, L_129_1, L_129_2, L_129_3, C_129, L_198_0, L_198_1, L_198_2, L_198_3, L_198_4, L_198_5, L_198_6, L_198_7, L_198_8, L_198_9, L_198_10, L_198_11, L_198_12, L_198_13, L_198_14, L_198_15, L_198_16, L_198_17, L_198_18, L_198_19, L_198_20, L_198_21, L_198_22, L_198_23, L_198_24, L_198_25, L_198_26, L_198_27, L_198_28, L_198_29, L_198_30, L_198_31, L_198_32, L_198_33, L_198_34, L_198_35, L_198_36, L_198_37, L_198_38, L_198_39, L_198_40, L_198_41, L_198_42, L_198_43, L_198_44, L_198_45, L_198_46, L_198_47, L_198_48, C_198, A_199, A_200, A_201, A_202, A_203, A_204, A_205, A_206, A_207, A_208, A_209, A_210, A_211, A_212, A_213, A_214, A_215, A_216, A_217, A_218, A_219, A_220, A_221, A_222, A_223, A_224, A_225, A_226, A_227, A_228, A_128, A_191, A_rf, A_rs, A_rt, Q_4, Q_67, Q_130, t_199_0_1, t_199_0_2, t_199_0_3, t_199_0_4, t_199_0_5, t_199_0_6, t_199_43_1, t_199_43_2, t_199_43_3, t_199_43_4, t_199_43_5, t_199_43_6, t_199_43_7, t_199_43_8, t_199_43_9, t_199_43_10, t_199_43_11, t_199_43_12, t_199_43_13, t_199_43_14, t_199_43_15, t_199_131_1, t_199_131_2, t_199_131_3, t_199_131_4, t_199_131_5, t_199_131_6, t_199_131_7, t_199_131_8, t_199_131_9, t_199_131_10, t_199_131_11, t_199_131_12, t_199_0_1, t_199_0_2, t_199_0_3, t_199_0_4, t_199_0_5, t_199_0_6, t_199_43_1, t_199_43_2, t_199_43_3, t_199_43_4, t_199_43_5, t_199_43_6, t_199_43_7, t_199_43_8, t_199_43_9, t_199_43_10, t_199_43_11, t_199_43_12, t_199_43_13, t_199_43_14, t_199_43_15, t_199_131_1, t_199_131_2, t_199_131_3, t_199_131_4, t_199_131_5, t_199_131_6, t_199_131_7, t_199_131_8, t_199_131_9, t_199_131_10, t_199_131_11, t_199_131_12, g0, hxl H fr _ hr, gs4, cmk, k1, b0, pf]
  | succ n ih =>
    intro z H fr fc o7 hf hz hn hv hr hc hcell
    have hb := hf.hb
    obtain ⟨k, hk⟩ : ∃ k, cl[z.toNat]? = some k := ⟨_, List.getElem?_eq_getElem (by omega)⟩
    have hc1 := hcell _ _ hk
    rw [if_neg (by omega), if_neg (by omega)] at hc1
    have g0 := gf_of hv 0
    have g1 := gf_of hv 1
    simp only [List.getElem?_cons_succ, List.getElem?_cons_zero] at g0 g1
    have ia := ia_of hr (z := z) (by omega) (by omega)
    rw [hc1.1] at ia
    have hvr : v ≠ ra := ne_ca hv hr
    have hvc : v ≠ ca := ne_ca hv hc
    have is := is_of hr (z := z) (v := oR cl t m k) (by omega) (by omega)
    have hv1 : (gset H ra (.inl (0, cl.length, .inl (upd fr z.toNat (I (oR cl t m k)))))).1 v = some (.inr (6, [.ref ra, .ref ca, .int (I 0)])) := (gs_ne hvr).trans hv
    have hr1 : (gset H ra (.inl (0, cl.length, .inl (upd fr z.toNat (I (oR cl t m k)))))).1 ra = some (.inl (0, cl.length, .inl (upd fr z.toNat (I (oR cl t m k))))) := gs_eq
    have hca1 : (gset H ra (.inl (0, cl.length, .inl (upd fr z.toNat (I (oR cl t m k)))))).1 ca = some (.inl (0, cl.length, .inl fc)) := (gs_ne (Ne.symm hne)).trans hc
    have hf1 : FR (fun q => q = v) A S H0 (gset H ra (.inl (0, cl.length, .inl (upd fr z.toNat (I (oR cl t m k)))))) := hf.sn hra hr
    generalize hH1 : gset H ra (.inl (0, cl.length, .inl (upd fr z.toNat (I (oR cl t m k))))) = H1 at *
    have g1' := gf_of hv1 1
    simp only [List.getElem?_cons_succ, List.getElem?_cons_zero] at g1'
    have ia2 := ia_of hca1 (z := z) (by omega) (by omega)
    rw [hc1.2] at ia2
    have is2 := is_of hca1 (z := z) (v := oC cl t m k) (by omega) (by omega)
    obtain ⟨H', w1, w2, w3⟩ := ih (z + 1) (gset H1 ca (.inl (0, cl.length, .inl (upd fc z.toNat (I (oC cl t m k)))))) (upd fr z.toNat (I (oR cl t m k))) (upd fc z.toNat (I (oC cl t m k))) o7 (hf1.sn hca hca1) (by omega) (by omega) ((gs_ne hvc).trans hv1) ((gs_ne hne).trans hr1) gs_eq (fun j k' hj => by
      by_cases e : j = z.toNat
      · subst e
        cases hk.symm.trans hj
        rw [if_pos (by omega), if_pos (by omega)]
        exact ⟨if_pos rfl, if_pos rfl⟩
      · have e1 : upd fr z.toNat (I (oR cl t m k)) j = fr j := if_neg e
        have e2 : upd fc z.toNat (I (oC cl t m k)) j = fc j := if_neg e
        rw [e1, e2]
        have := hcell j k' hj
        by_cases q : (j : Int) < z
        · rw [if_pos q, if_pos q] at this
          rw [if_pos (by omega), if_pos (by omega)]
          exact this
        · rw [if_neg q, if_neg q] at this
          rw [if_neg (by omega), if_neg (by omega)]
          exact this)
    refine ⟨H', e_199_131 _ ?_, w2, w3⟩
    have o1 : zR t m k - topL cl t m = oR cl t m k := rfl
    have o2 : zC t m k - leftL cl t m = oC cl t m k := rfl
    unfold t_199_131
    simp (disch := omega) only [rI_d, rJ_d, rR_d, rN_d, wF_d, xI_d, xJ_d, xD_d, xQ_d, yI_d, yJ_d, yD_d, yQ_d, dI_s, dJ_s, dR_s, dN_s, dN_n, dH_s, dX_s, dL_s, dD_s, dQ_s, bC_r, bC_t, kI_s, kJ_s, kF_s, kD_s, kR_s, kV_s, I_lit, I_neg, I_add, I_sub, I_mul, I_ltT, I_ltF, I_leT, I_leF, I_eqT, I_eqF, c_int, c_long, c_obj, c_arr, c_bool, c_boolN, c_boolF, vn_bool, c_charN, vn_char, b2_f, b2_t, Int.toNat_natCast, ↓reduceIte, eq_self, and_self, and_true, true_and, not_false_eq_true, not_true_eq_false, L_0_0, L_0_1, L_0_2, L_0_3, L_0_4, L_0_5, L_0_6, L_0_7, L_0_8, L_0_9, L_0_10, L_0_11, L_0_12, L_0_13, L_0_14, L_0_15, C_0, L_1_0, L_1_1, L_1_2, C_1, L_2_0, L_2_1, L_2_2, C_2, L_3_0, L_3_1, L_3_2, C_3, L_65_0, L_65_1, L_65_2, L_65_3, L_65_4, C_65, L_66_0, L_66_1, L_66_2, L_66_3, C_66, L_129_0, L_129_1, L_129_2, L_129_3, C_129, L_198_0, L_198_1, L_198_2, L_198_3, L_198_4, L_198_5, L_198_6, L_198_7, L_198_8, L_198_9, L_198_10, L_198_11, L_198_12, L_198_13, L_198_14, L_198_15, L_198_16, L_198_17, L_198_18, L_198_19, L_198_20, L_198_21, L_198_22, L_198_23, L_198_24, L_198_25, L_198_26, L_198_27, L_198_28, L_198_29, L_198_30, L_198_31, L_198_32, L_198_33, L_198_34, L_198_35, L_198_36, L_198_37, L_198_38, L_198_39, L_198_40, L_198_41, L_198_42, L_198_43, L_198_44, L_198_45, L_198_46, L_198_47, L_198_48, C_198, A_199, A_200, A_201, A_202, A_203, A_204, A_205, A_206, A_207, A_208, A_209, A_210, A_211, A_212, A_213, A_214, A_215, A_216, A_217, A_218, A_219, A_220, A_221, A_222, A_223, A_224, A_225, A_226, A_227, A_228, A_128, A_191, A_rf, A_rs, A_rt, Q_4, Q_67, Q_130, t_199_0_1, t_199_0_2, t_199_0_3, t_199_0_4, t_199_0_5, t_199_0_6, t_199_43_1, t_199_43_2, t_199_43_3, t_199_43_4, t_199_43_5, t_199_43_6, t_199_43_7, t_199_43_8, t_199_43_9, t_199_43_10, t_199_43_11, t_199_43_12, t_199_43_13, t_199_43_14, t_199_43_15, t_199_131_1, t_199_131_2, t_199_131_3, t_199_131_4, t_199_131_5, t_199_131_6, t_199_131_7, t_199_131_8, t_199_131_9, t_199_131_10, t_199_131_11, t_199_131_12, t_199_0_1, t_199_0_2, t_199_0_3, t_199_0_4, t_199_0_5, t_199_0_6, t_199_43_1, t_199_43_2, t_199_43_3, t_199_43_4, t_199_43_5, t_199_43_6, t_199_43_7, t_199_43_8, t_199_43_9, t_199_43_10, t_199_43_11, t_199_43_12, t_199_43_13, t_199_43_14, t_199_43_15, t_199_131_1, t_199_131_2, t_199_131_3, t_199_131_4, t_199_131_5, t_199_131_6, t_199_131_7, t_199_131_8, t_199_131_9, t_199_131_10, t_199_131_11, t_199_131_12, g0, hxl H fr _ hr, ia, o1, is, g1', ia2, o2, is2, w1]
theorem l_199_1 (hd : 4 ≤ d) (hX : VX K H0 Q P v s p mk cl mr mc) (ht : 0 ≤ t ∧ t ≤ 3) (hm : 0 ≤ m ∧ m ≤ 1) (hra : H0.2.1 ≤ ra) (hca : H0.2.1 ≤ ca) (hne : ra ≠ ca) {A S : Nat} : ∀ (n : Nat) (z : Int) (H : gH) (fr fc : Nat → Int32) (o7 : Option Value), FR (fun q => q = v) (A + 4 * z.toNat) (S + 8 * z.toNat) H0 H → 0 ≤ z → z + n = cl.length → H.1 v = some (.inr (6, [.ref ra, .ref ca, .int (I 0)])) → H.1 ra = some (.inl (0, cl.length, .inl fr)) → H.1 ca = some (.inl (0, cl.length, .inl fc)) →
    (∀ (j k : Nat), cl[j]? = some k → (j : Int) < z → fr j = I (zR t m k) ∧ fc j = I (zC t m k)) →
    ∃ H', gRn K d 199 43 [some (.ref v), some (.ref s), some (.int (I m)), some (.int (I t)), some (.int (I (topL (cl.take z.toNat) t m))), some (.int (I (leftL (cl.take z.toNat) t m))), some (.int (I z)), o7] [] H = some (.inl none, H') ∧ VA P H' v cl t m (tR t mr (mC m mc) - topL cl t m) ∧ FR (fun q => q = v) (A + 104) (S + 208) H0 H' := by
  intro n
  have ⟨hP, hb0, hk3, hk3n, _, _, _, _, hl, hl2⟩ := hX
  have hxl : ∀ (H : gH) (fr : Nat → Int32) (g : Int32 → Option gO), H.1 ra = some (.inl (0, cl.length, .inl fr)) → xL K H ra g = g (I (cl.length : Int)) := fun H fr g h => by
    unfold xL
    rw [h]
    show g (Int32.ofNat cl.length) = _
    rw [I_nat]
  induction n with
  | zero =>
    intro z H fr fc o7 hf hz hn hv hr hc hcell
    rw [List.take_of_length_le (by omega)]
    obtain ⟨H', w1, w2, w3⟩ := l_199_2 (K := K) (d := d) (by omega) hX ht hm hra hca hne cl.length 0 H fr fc o7 hf (by omega) (by omega) hv hr hc (fun j k hj => by
      have hjl := (List.getElem?_eq_some_iff.mp hj).1
      rw [if_neg (by omega), if_neg (by omega)]
      exact hcell j k hj (by omega))
    have g0 := gf_of hv 0
    simp only [List.getElem?_cons_zero] at g0
    refine ⟨H', e_199_43 _ ?_, w2, w3.le (by omega) (by omega)⟩
    unfold t_199_43
    simp (disch := omega) only [rI_d, rJ_d, rR_d, rN_d, wF_d, xI_d, xJ_d, xD_d, xQ_d, yI_d, yJ_d, yD_d, yQ_d, dI_s, dJ_s, dR_s, dN_s, dN_n, dH_s, dX_s, dL_s, dD_s, dQ_s, bC_r, bC_t, kI_s, kJ_s, kF_s, kD_s, kR_s, kV_s, I_lit, I_neg, I_add, I_sub, I_mul, I_ltT, I_ltF, I_leT, I_leF, I_eqT, I_eqF, c_int, c_long, c_obj, c_arr, c_bool, c_boolN, c_boolF, vn_bool, c_charN, vn_char, b2_f, b2_t, Int.toNat_natCast, ↓reduceIte, eq_self, and_self, and_true, true_and, not_false_eq_true, not_true_eq_false, L_0_0, L_0_1, L_0_2, L_0_3, L_0_4, L_0_5, L_0_6, L_0_7, L_0_8, L_0_9, L_0_10, L_0_11, L_0_12, L_0_13, L_0_14, L_0_15, C_0, L_1_0, L_1_1, L_1_2, C_1, L_2_0, L_2_1, L_2_2, C_2, L_3_0, L_3_1, L_3_2, C_3, L_65_0, L_65_1, L_65_2, L_65_3, L_65_4, C_65, L_66_0, L_66_1, L_66_2, L_66_3, C_66, L_129_0, L_129_1, L_129_2, L_129_3, C_129, L_198_0, L_198_1, L_198_2, L_198_3, L_198_4, L_198_5, L_198_6, L_198_7, L_198_8, L_198_9, L_198_10, L_198_11, L_198_12, L_198_13, L_198_14, L_198_15, L_198_16, L_198_17, L_198_18, L_198_19, L_198_20, L_198_21, L_198_22, L_198_23, L_198_24, L_198_25, L_198_26, L_198_27, L_198_28, L_198_29, L_198_30, L_198_31, L_198_32, L_198_33, L_198_34, L_198_35, L_198_36, L_198_37, L_198_38, L_198_39, L_198_40, L_198_41, L_198_42, L_198_43, L_198_44, L_198_45, L_198_46, L_198_47, L_198_48, C_198, A_199, A_200, A_201, A_202, A_203, A_204, A_205, A_206, A_207, A_208, A_209, A_210, A_211, A_212, A_213, A_214, A_215, A_216, A_217, A_218, A_219, A_220, A_221, A_222, A_223, A_224, A_225, A_226, A_227, A_228, A_128, A_191, A_rf, A_rs, A_rt, Q_4, Q_67, Q_130, t_199_0_1, t_199_0_2, t_199_0_3, t_199_0_4, t_199_0_5, t_199_0_6, t_199_43_1, t_199_43_2, t_199_43_3, t_199_43_4, t_199_43_5, t_199_43_6, t_199_43_7, t_199_43_8, t_199_43_9, t_199_43_10, t_199_43_11, t_199_43_12, t_199_43_13, t_199_43_14, t_199_43_15, t_199_131_1, t_199_131_2, t_199_131_3, t_199_131_4, t_199_131_5, t_199_131_6, t_199_131_7, t_199_131_8, t_199_131_9, t_199_131_10, t_199_131_11, t_199_131_12, t_199_0_1, t_199_0_2, t_199_0_3, t_199_0_4, t_199_0_5, t_199_0_6, t_199_43_1, t_199_43_2, t_199_43_3, t_199_43_4, t_199_43_5, t_199_43_6, t_199_43_7, t_199_43_8, t_199_43_9, t_199_43_10, t_199_43_11, t_199_43_12, t_199_43_13, t_199_43_14, t_199_43_15, t_199_131_1, t_199_131_2, t_199_131_3, t_199_131_4, t_199_131_5, t_199_131_6, t_199_131_7, t_199_131_8, t_199_131_9, t_199_131_10, t_199_131_11, t_199_131_12, g0, hxl H fr _ hr, w1]
  | succ n ih =>
    intro z H fr fc o7 hf hz hn hv hr hc hcell
    have hX1 := hX.fr hf ⟨_, hv⟩
    obtain ⟨-, hb, -, -, -, ⟨fs, hs, hs2, hs4⟩, ⟨lmc, le, lca, c1, c2, hQe, c3, c4⟩, hmk, -, -⟩ := hX1
    obtain ⟨k, hk⟩ : ∃ k, cl[z.toNat]? = some k := ⟨_, List.getElem?_eq_getElem (by omega)⟩
    have hk25 := hl2 k (List.mem_of_getElem? hk)
    obtain ⟨x, hx⟩ : ∃ x, lca[z.toNat]? = some x := ⟨_, List.getElem?_eq_getElem (by omega)⟩
    have hxc := c4 _ _ _ hx hk
    have wg := w_178 (K := K) (d := d) (by omega) c1 c2 hz hx (by omega)
    have clp := cl_of c1
    have clx := cl_of hxc
    have g0 := gf_of hv 0
    have gs2 := gf_of hs 2
    rw [hs2] at gs2
    simp only [List.getElem?_cons_zero] at g0
    obtain ⟨H1, b, k1, k2, k3⟩ := w_227 (K := K) (d := d) (by omega) hb hxc hm ht
    have zr : tR t ((k / 5 : Nat) : Int) (mC m ((k % 5 : Nat) : Int)) = zR t m k := rfl
    have zc : tC t ((k / 5 : Nat) : Int) (mC m ((k % 5 : Nat) : Int)) = zC t m k := rfl
    rw [zr, zc] at k2
    have b1 := zR_b (t := t) (m := m) hk25
    have b2 := zC_b (t := t) (m := m) hk25
    have hf1 := hf.tr (k3.mono (W' := fun q => q = v) (fun _ _ q => q.elim))
    have hv1 : H1.1 v = some (.inr (6, [.ref ra, .ref ca, .int (I 0)])) := k3.at hb hv (fun q => q)
    have hr1 : H1.1 ra = some (.inl (0, cl.length, .inl fr)) := k3.at hb hr (fun q => q)
    have hc1 : H1.1 ca = some (.inl (0, cl.length, .inl fc)) := k3.at hb hc (fun q => q)
    have hvr : v ≠ ra := ne_ca hv hr
    have hvc : v ≠ ca := ne_ca hv hc
    have hbr : b ≠ ra := ne_ca k2 hr1
    have hbc : b ≠ ca := ne_ca k2 hc1
    have a0 := gf_of hv1 0
    have r0 := gf_of k2 0
    simp only [List.getElem?_cons_zero] at a0 r0
    have is1 := is_of hr1 (z := z) (v := zR t m k) (by omega) (by omega)
    have hv2 : (gset H1 ra (.inl (0, cl.length, .inl (upd fr z.toNat (I (zR t m k)))))).1 v = some (.inr (6, [.ref ra, .ref ca, .int (I 0)])) := (gs_ne hvr).trans hv1
    have hr2 : (gset H1 ra (.inl (0, cl.length, .inl (upd fr z.toNat (I (zR t m k)))))).1 ra = some (.inl (0, cl.length, .inl (upd fr z.toNat (I (zR t m k))))) := gs_eq
    have hc2 : (gset H1 ra (.inl (0, cl.length, .inl (upd fr z.toNat (I (zR t m k)))))).1 ca = some (.inl (0, cl.length, .inl fc)) := (gs_ne (Ne.symm hne)).trans hc1
    have hb2 : CE (gset H1 ra (.inl (0, cl.length, .inl (upd fr z.toNat (I (zR t m k)))))) b (zR t m k) (zC t m k) := (gs_ne hbr).trans k2
    have hf2 := hf1.sn (e := .inl (0, cl.length, .inl (upd fr z.toNat (I (zR t m k))))) hra hr1
    generalize hH2 : gset H1 ra (.inl (0, cl.length, .inl (upd fr z.toNat (I (zR t m k))))) = H2 at *
    have a1 := gf_of hv2 1
    have r1 := gf_of hb2 1
    simp only [List.getElem?_cons_succ, List.getElem?_cons_zero] at a1 r1
    have is2 := is_of hc2 (z := z) (v := zC t m k) (by omega) (by omega)
    have hv3 : (gset H2 ca (.inl (0, cl.length, .inl (upd fc z.toNat (I (zC t m k)))))).1 v = some (.inr (6, [.ref ra, .ref ca, .int (I 0)])) := (gs_ne hvc).trans hv2
    have hr3 : (gset H2 ca (.inl (0, cl.length, .inl (upd fc z.toNat (I (zC t m k)))))).1 ra = some (.inl (0, cl.length, .inl (upd fr z.toNat (I (zR t m k))))) := (gs_ne hne).trans hr2
    have hc3 : (gset H2 ca (.inl (0, cl.length, .inl (upd fc z.toNat (I (zC t m k)))))).1 ca = some (.inl (0, cl.length, .inl (upd fc z.toNat (I (zC t m k))))) := gs_eq
    have hb3 : CE (gset H2 ca (.inl (0, cl.length, .inl (upd fc z.toNat (I (zC t m k)))))) b (zR t m k) (zC t m k) := (gs_ne hbc).trans hb2
    have hf3 := hf2.sn (e := .inl (0, cl.length, .inl (upd fc z.toNat (I (zC t m k))))) hca hc2
    generalize hH3 : gset H2 ca (.inl (0, cl.length, .inl (upd fc z.toNat (I (zC t m k))))) = H3 at *
    have r2 := gf_of hb3 0
    have r3 := gf_of hb3 1
    simp only [List.getElem?_cons_succ, List.getElem?_cons_zero] at r2 r3
    have hT := topL_b (t := t) (m := m) (l := cl.take z.toNat) (fun k hk => hl2 k (List.mem_of_mem_take hk))
    have hL := leftL_b (t := t) (m := m) (l := cl.take z.toNat) (fun k hk => hl2 k (List.mem_of_mem_take hk))
    have m1 := w_224 (K := K) (H := H3) (d := d) (a := topL (cl.take z.toNat) t m) (b := zR t m k) (by omega) (by omega) (by omega)
    have m2 := w_224 (K := K) (H := H3) (d := d) (a := leftL (cl.take z.toNat) t m) (b := zC t m k) (by omega) (by omega) (by omega)
    obtain ⟨H', w1, w2, w3⟩ := ih (z + 1) H3 (upd fr z.toNat (I (zR t m k))) (upd fc z.toNat (I (zC t m k))) (some (.ref b)) (hf3.le (by omega) (by omega)) (by omega) (by omega) hv3 hr3 hc3 (fun j k' hj hjz => by
      by_cases e : j = z.toNat
      · subst e
        cases hk.symm.trans hj
        exact ⟨if_pos rfl, if_pos rfl⟩
      · have e1 : upd fr z.toNat (I (zR t m k)) j = fr j := if_neg e
        have e2 : upd fc z.toNat (I (zC t m k)) j = fc j := if_neg e
        rw [e1, e2]
        exact hcell j k' hj (by omega))
    rw [show (z + 1).toNat = z.toNat + 1 by omega, List.take_add_one, hk] at w1
    simp only [Option.toList_some, topL_app, leftL_app] at w1
    have e1 : min (topL (cl.take z.toNat) t m) (zR t m k) = if zR t m k < topL (cl.take z.toNat) t m then zR t m k else topL (cl.take z.toNat) t m := by
      split <;> omega
    have e2 : min (leftL (cl.take z.toNat) t m) (zC t m k) = if zC t m k < leftL (cl.take z.toNat) t m then zC t m k else leftL (cl.take z.toNat) t m := by
      split <;> omega
    rw [e1] at m1
    rw [e2] at m2
    refine ⟨H', e_199_43 _ ?_, w2, w3⟩
    unfold t_199_43
    simp (disch := omega) only [rI_d, rJ_d, rR_d, rN_d, wF_d, xI_d, xJ_d, xD_d, xQ_d, yI_d, yJ_d, yD_d, yQ_d, dI_s, dJ_s, dR_s, dN_s, dN_n, dH_s, dX_s, dL_s, dD_s, dQ_s, bC_r, bC_t, kI_s, kJ_s, kF_s, kD_s, kR_s, kV_s, I_lit, I_neg, I_add, I_sub, I_mul, I_ltT, I_ltF, I_leT, I_leF, I_eqT, I_eqF, c_int, c_long, c_obj, c_arr, c_bool, c_boolN, c_boolF, vn_bool, c_charN, vn_char, b2_f, b2_t, Int.toNat_natCast, ↓reduceIte, eq_self, and_self, and_true, true_and, not_false_eq_true, not_true_eq_false, L_0_0, L_0_1, L_0_2, L_0_3, L_0_4, L_0_5, L_0_6, L_0_7, L_0_8, L_0_9, L_0_10, L_0_11, L_0_12, L_0_13, L_0_14, L_0_15, C_0, L_1_0, L_1_1, L_1_2, C_1, L_2_0, L_2_1, L_2_2, C_2, L_3_0, L_3_1, L_3_2, C_3, L_65_0, L_65_1, L_65_2, L_65_3, L_65_4, C_65, L_66_0, L_66_1, L_66_2, L_66_3, C_66, L_129_0, L_129_1, L_129_2, L_129_3, C_129, L_198_0, L_198_1, L_198_2, L_198_3, L_198_4, L_198_5, L_198_6, L_198_7, L_198_8, L_198_9, L_198_10, L_198_11, L_198_12, L_198_13, L_198_14, L_198_15, L_198_16, L_198_17, L_198_18, L_198_19, L_198_20, L_198_21, L_198_22, L_198_23, L_198_24, L_198_25, L_198_26, L_198_27, L_198_28, L_198_29, L_198_30, L_198_31, L_198_32, L_198_33, L_198_34, L_198_35, L_198_36, L_198_37, L_198_38, L_198_39, L_198_40, L_198_41, L_198_42, L_198_43, L_198_44, L_198_45, L_198_46, L_198_47, L_198_48, C_198, A_199, A_200, A_201, A_202, A_203, A_204, A_205, A_206, A_207, A_208, A_209, A_210, A_211, A_212, A_213, A_214, A_215, A_216, A_217, A_218, A_219, A_220, A_221, A_222, A_223, A_224, A_225, A_226, A_227, A_228, A_128, A_191, A_rf, A_rs, A_rt, Q_4, Q_67, Q_130, t_199_0_1, t_199_0_2, t_199_0_3, t_199_0_4, t_199_0_5, t_199_0_6, t_199_43_1, t_199_43_2, t_199_43_3, t_199_43_4, t_199_43_5, t_199_43_6, t_199_43_7, t_199_43_8, t_199_43_9, t_199_43_10, t_199_43_11, t_199_43_12, t_199_43_13, t_199_43_14, t_199_43_15, t_199_131_1, t_199_131_2, t_199_131_3, t_199_131_4, t_199_131_5, t_199_131_6, t_199_131_7, t_199_131_8, t_199_131_9, t_199_131_10, t_199_131_11, t_199_131_12, t_199_0_1, t_199_0_2, t_199_0_3, t_199_0_4, t_199_0_5, t_199_0_6, t_199_43_1, t_199_43_2, t_199_43_3, t_199_43_4, t_199_43_5, t_199_43_6, t_199_43_7, t_199_43_8, t_199_43_9, t_199_43_10, t_199_43_11, t_199_43_12, t_199_43_13, t_199_43_14, t_199_43_15, t_199_131_1, t_199_131_2, t_199_131_3, t_199_131_4, t_199_131_5, t_199_131_6, t_199_131_7, t_199_131_8, t_199_131_9, t_199_131_10, t_199_131_11, t_199_131_12, g0, hxl H fr _ hr, gs2, clp, wg, clx, k1, a0, r0, is1, hH2, a1, r1, is2, hH3, r2, r3, m1, m2, w1]
end
section
variable {K : gK} {Q P : Nat → Prop} {d : Nat} {H : gH} {v s p mk : Nat} {cl : List Nat} {mr mc t m : Int}
theorem w_199 (hd : 5 ≤ d) (hX : VX K H Q P v s p mk cl mr mc) {x y : Value} (hv : H.1 v = some (.inr (6, [x, y, .int (I 0)]))) (ht : 0 ≤ t ∧ t ≤ 3) (hm : 0 ≤ m ∧ m ≤ 1) :
    ∃ H', gCa K d 199 [.ref v, .ref s, .int (I m), .int (I t)] H = some (.inl none, H') ∧ VA P H' v cl t m (tR t mr (mC m mc) - topL cl t m) ∧ FR (fun q => q = v) 106 300 H H' := by
  obtain ⟨d, rfl, hd'⟩ := d_succ (show 4 + 1 ≤ d by omega)
  have ⟨hP, hb, hk3, hk3n, _, ⟨fs, hs, hs2, hs4⟩, ⟨lmc, le, lca, c1, c2, hQe, c3, c4⟩, hmk, hl, hl2⟩ := hX
  have gs2 := gf_of hs 2
  rw [hs2] at gs2
  have clp := cl_of c1
  have w1 := w_110 (K := K) (d := d) (by omega) c1
  rw [c3] at w1
  have hvs : v ≠ s := ne_cc hv hs (by decide)
  have hvp : v ≠ p := ne_cc hv c1 (by decide)
  have lv := hb.lt hv
  have ls := hb.lt hs
  have lp := hb.lt c1
  have tn : (I (cl.length : Int)).toNatClampNeg = cl.length := by rw [I_cn (by omega) (by omega)]; omega
  have nb : (100000 < cl.length) = False := eq_false (by omega)
  -- the first array
  have f1 : FR (fun q => q = v) 1 cl.length H (gnew H (.inl (0, cl.length, .inl (fun _ => I 0))) cl.length) := FR.new hb
  have v1 : (gnew H (.inl (0, cl.length, .inl (fun _ => I 0))) cl.length).1 v = some (.inr (6, [x, y, .int (I 0)])) := (gn_lt lv).trans hv
  have pf1 := pf_of (k := 0) (v := .ref H.2.1) v1 (Nat.le_of_ble_eq_true rfl)
  rw [List.set_cons_zero] at pf1
  have f2 := f1.tr (FR.set (e := .inr (6, [.ref H.2.1, y, .int (I 0)])) f1.hb v1)
  have v2 : (gset (gnew H (.inl (0, cl.length, .inl (fun _ => I 0))) cl.length) v (.inr (6, [.ref H.2.1, y, .int (I 0)]))).1 v = some (.inr (6, [.ref H.2.1, y, .int (I 0)])) := gs_eq
  have r2 : (gset (gnew H (.inl (0, cl.length, .inl (fun _ => I 0))) cl.length) v (.inr (6, [.ref H.2.1, y, .int (I 0)]))).1 H.2.1 = some (.inl (0, cl.length, .inl (fun _ => I 0))) := (gs_ne (by omega)).trans gn_eq
  have n2 : (gset (gnew H (.inl (0, cl.length, .inl (fun _ => I 0))) cl.length) v (.inr (6, [.ref H.2.1, y, .int (I 0)]))).2.1 = H.2.1 + 1 := rfl
  generalize hH2 : gset (gnew H (.inl (0, cl.length, .inl (fun _ => I 0))) cl.length) v (.inr (6, [.ref H.2.1, y, .int (I 0)])) = H2 at *
  have s2 := f2.at hb hs (Ne.symm hvs)
  have p2 : ALo H2 p lmc le lca.length := f2.at hb c1 (Ne.symm hvp)
  have gs2' := gf_of s2 2
  rw [hs2] at gs2'
  have clp' := cl_of p2
  have w2 := w_110 (K := K) (d := d) (by omega) p2
  rw [c3] at w2
  -- the second
  have lv2 := f2.hb.lt v2
  have f3 : FR (fun q => q = v) 1 cl.length H2 (gnew H2 (.inl (0, cl.length, .inl (fun _ => I 0))) cl.length) := FR.new f2.hb
  have v3 : (gnew H2 (.inl (0, cl.length, .inl (fun _ => I 0))) cl.length).1 v = some (.inr (6, [.ref H.2.1, y, .int (I 0)])) := (gn_lt lv2).trans v2
  have pf2 := pf_of (k := 1) (v := .ref H2.2.1) v3 (Nat.le_of_ble_eq_true rfl)
  rw [List.set_cons_succ, List.set_cons_zero] at pf2
  have f4 := (f2.tr f3).tr (FR.set (e := .inr (6, [.ref H.2.1, .ref H2.2.1, .int (I 0)])) f3.hb v3)
  have v4 : (gset (gnew H2 (.inl (0, cl.length, .inl (fun _ => I 0))) cl.length) v (.inr (6, [.ref H.2.1, .ref H2.2.1, .int (I 0)]))).1 v = some (.inr (6, [.ref H.2.1, .ref H2.2.1, .int (I 0)])) := gs_eq
  have r4 : (gset (gnew H2 (.inl (0, cl.length, .inl (fun _ => I 0))) cl.length) v (.inr (6, [.ref H.2.1, .ref H2.2.1, .int (I 0)]))).1 H.2.1 = some (.inl (0, cl.length, .inl (fun _ => I 0))) := (gs_ne (by omega)).trans ((gn_lt (by omega)).trans r2)
  have q4 : (gset (gnew H2 (.inl (0, cl.length, .inl (fun _ => I 0))) cl.length) v (.inr (6, [.ref H.2.1, .ref H2.2.1, .int (I 0)]))).1 H2.2.1 = some (.inl (0, cl.length, .inl (fun _ => I 0))) := (gs_ne (by omega)).trans gn_eq
  generalize hH4 : gset (gnew H2 (.inl (0, cl.length, .inl (fun _ => I 0))) cl.length) v (.inr (6, [.ref H.2.1, .ref H2.2.1, .int (I 0)])) = H4 at *
  obtain ⟨H', k1, k2, k3⟩ := l_199_1 (K := K) (d := d) (by omega) hX ht hm (ra := H.2.1) (ca := H2.2.1) (Nat.le_refl _) (by omega) (by omega) (A := 2) (S := 2 * cl.length) cl.length 0 H4 _ _ none (f4.le (by omega) (by omega)) (by omega) (by omega) v4 r4 q4 (fun j k hj hz => by omega)
  rw [show cl.take (0 : Int).toNat = [] from rfl] at k1
  have e5 : topL [] t m = 5 := rfl
  have e6 : leftL [] t m = 5 := rfl
  rw [e5, e6] at k1
  refine ⟨H', c_199 _ ?_, k2, k3.le (by omega) (by omega)⟩
  unfold t_199_0
  simp (disch := omega) only [rI_d, rJ_d, rR_d, rN_d, wF_d, xI_d, xJ_d, xD_d, xQ_d, yI_d, yJ_d, yD_d, yQ_d, dI_s, dJ_s, dR_s, dN_s, dN_n, dH_s, dX_s, dL_s, dD_s, dQ_s, bC_r, bC_t, kI_s, kJ_s, kF_s, kD_s, kR_s, kV_s, I_lit, I_neg, I_add, I_sub, I_mul, I_ltT, I_ltF, I_leT, I_leF, I_eqT, I_eqF, c_int, c_long, c_obj, c_arr, c_bool, c_boolN, c_boolF, vn_bool, c_charN, vn_char, b2_f, b2_t, Int.toNat_natCast, ↓reduceIte, eq_self, and_self, and_true, true_and, not_false_eq_true, not_true_eq_false, L_0_0, L_0_1, L_0_2, L_0_3, L_0_4, L_0_5, L_0_6, L_0_7, L_0_8, L_0_9, L_0_10, L_0_11, L_0_12, L_0_13, L_0_14, L_0_15, C_0, L_1_0, L_1_1, L_1_2, C_1, L_2_0, L_2_1, L_2_2, C_2, L_3_0, L_3_1, L_3_2, C_3, L_65_0, L_65_1, L_65_2, L_65_3, L_65_4, C_65, L_66_0, L_66_1, L_66_2, L_66_3, C_66, L_129_0, L_129_1, L_129_2, L_129_3, C_129, L_198_0, L_198_1, L_198_2, L_198_3, L_198_4, L_198_5, L_198_6, L_198_7, L_198_8, L_198_9, L_198_10, L_198_11, L_198_12, L_198_13, L_198_14, L_198_15, L_198_16, L_198_17, L_198_18, L_198_19, L_198_20, L_198_21, L_198_22, L_198_23, L_198_24, L_198_25, L_198_26, L_198_27, L_198_28, L_198_29, L_198_30, L_198_31, L_198_32, L_198_33, L_198_34, L_198_35, L_198_36, L_198_37, L_198_38, L_198_39, L_198_40, L_198_41, L_198_42, L_198_43, L_198_44, L_198_45, L_198_46, L_198_47, L_198_48, C_198, A_199, A_200, A_201, A_202, A_203, A_204, A_205, A_206, A_207, A_208, A_209, A_210, A_211, A_212, A_213, A_214, A_215, A_216, A_217, A_218, A_219, A_220, A_221, A_222, A_223, A_224, A_225, A_226, A_227, A_228, A_128, A_191, A_rf, A_rs, A_rt, Q_4, Q_67, Q_130, t_199_0_1, t_199_0_2, t_199_0_3, t_199_0_4, t_199_0_5, t_199_0_6, t_199_43_1, t_199_43_2, t_199_43_3, t_199_43_4, t_199_43_5, t_199_43_6, t_199_43_7, t_199_43_8, t_199_43_9, t_199_43_10, t_199_43_11, t_199_43_12, t_199_43_13, t_199_43_14, t_199_43_15, t_199_131_1, t_199_131_2, t_199_131_3, t_199_131_4, t_199_131_5, t_199_131_6, t_199_131_7, t_199_131_8, t_199_131_9, t_199_131_10, t_199_131_11, t_199_131_12, gs2, clp, w1, tn, nb, or_self, pf1, hH2, gs2', clp', w2, pf2, hH4, k1]
end
