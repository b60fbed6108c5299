/-! PURE 46: a shape's variants -/
set_option maxRecDepth 100000
theorem VA.fr {P : Nat → Prop} {H H' : gH} {W : Nat → Prop} {a b v : Nat} {cl : List Nat} {t m z : Int} (h : VA P H v cl t m z) (hb : HB H) (hf : FR W a b H H') (h6 : ∀ q fs, W q → H.1 q ≠ some (.inr (6, fs))) (h0 : ∀ q x, W q → H.1 q ≠ some (.inl (0, x))) : VA P H' v cl t m z := by
  obtain ⟨ra, ca, fr, fc, h1, hPP, h2, h3, h4⟩ := h
  exact ⟨ra, ca, fr, fc, hf.at hb h1 (fun q => h6 _ _ q h1), hPP, hf.at hb h2 (fun q => h0 _ _ q h2), hf.at hb h3 (fun q => h0 _ _ q h3), h4⟩
/-- what the making of variants of the shape s knows -/
def SX (K : gK) (H : gH) (Q P : Nat → Prop) (s p mk : Nat) (cl : List Nat) (mr mc : Int) : Prop := (∀ a, H.2.1 ≤ a → P a) ∧ HB H ∧ K.2 3 < H.2.1 ∧ H.1 (K.2 3) = none ∧ (∃ fs, H.1 s = some (.inr (4, fs)) ∧ fs[2]? = some (.ref p) ∧ fs[4]? = some (.ref mk)) ∧ CLS K H Q p cl ∧ CE H mk mr mc ∧ cl.length ≤ 25 ∧ ∀ k ∈ cl, k < 25
theorem SX.fr {K : gK} {Q P : Nat → Prop} {H H' : gH} {W : Nat → Prop} {s p mk a b : Nat} {cl : List Nat} {mr mc : Int} (h : SX K H Q P s p mk cl mr mc) (hf : FR W a b H H') (hw : ∀ q, W q → ∃ x, H.1 q = some (.inl (7, x))) : SX K H' Q P s p mk cl mr mc := by
  obtain ⟨hP, h1, h2, h3, ⟨fs, h5, h6⟩, h7, h8, h9⟩ := h
  have n3 : ¬ W (K.2 3) := fun q => by
    obtain ⟨x, e⟩ := hw _ q
    rw [h3] at e; cases e
  have nc : ∀ q c fs, W q → H.1 q ≠ some (.inr (c, fs)) := fun q c fs w e => by
    obtain ⟨x, e'⟩ := hw _ w
    cases e.symm.trans e'
  refine ⟨fun a q => hP a (Nat.le_trans hf.1 q), hf.hb, Nat.lt_of_lt_of_le h2 hf.1, (hf.2.2.2.2.2 _ h2 n3).trans h3, ⟨fs, hf.at h1 h5 (fun q => nc _ _ _ q h5), h6⟩, h7.fr h1 h2 hf (fun q w ⟨fs', e⟩ => absurd e (nc _ _ _ w)) (fun q x w e => ?_) (fun q fs' w => nc _ _ _ w) n3, hf.at h1 h8 (fun q => nc _ _ _ q h8), h9⟩
  obtain ⟨x', e'⟩ := hw _ w
  cases e.symm.trans e'
section
variable {K : gK} {Q P : Nat → Prop} {d : Nat} {H : gH} {s p mk vr : Nat} {cl : List Nat} {mr mc t m : Int}
theorem mkVar (hd : 5 ≤ d) (hS : SX K H Q P s p mk cl mr mc) (ht : 0 ≤ t ∧ t ≤ 3) (hm : 0 ≤ m ∧ m ≤ 1) : ∃ H', gCa K d 199 [.ref H.2.1, .ref s, .int (I m), .int (I t)] (gnew H (.inr (6, [.null, .null, .int (I 0)])) 3) = some (.inl none, H') ∧ VA P H' H.2.1 cl t m (tR t mr (mC m mc) - topL cl t m) ∧ FR noW 107 303 H H' := by
  have hf : FR noW 1 3 H (gnew H (.inr (6, [.null, .null, .int (I 0)])) 3) := FR.new hS.2.1
  have h2 := hS.fr hf (fun q w => w.elim)
  have hX : VX K (gnew H (.inr (6, [.null, .null, .int (I 0)])) 3) Q P H.2.1 s p mk cl mr mc := ⟨h2.1, h2.2.1, h2.2.2.1, h2.2.2.2.1, ⟨_, gn_eq⟩, h2.2.2.2.2.1, h2.2.2.2.2.2.1, h2.2.2.2.2.2.2.1, h2.2.2.2.2.2.2.2⟩
  obtain ⟨H', k1, k2, k3⟩ := w_199 (K := K) (d := d) hd hX gn_eq ht hm
  refine ⟨H', k1, k2, ?_⟩
  refine ⟨Nat.le_trans hf.1 k3.1, by have := hf.2.1; have := k3.2.1; omega, Nat.le_trans hf.2.2.1 k3.2.2.1, by have := hf.2.2.2.1; have := k3.2.2.2.1; omega, k3.hb, fun a q1 q2 => ?_⟩
  rw [k3.2.2.2.2.2 a (Nat.lt_of_lt_of_le q1 hf.1) (by omega)]
  exact hf.2.2.2.2.2 a q1 q2
/-- the variants' array of a shape: those with fewer turns than z -/
def VAS (P : Nat → Prop) (H : gH) (vr : Nat) (cl : List Nat) (mr mc z : Int) : Prop := ∃ vf, H.1 vr = some (.inl (7, 8, gQ vf)) ∧ ∀ t m : Int, 0 ≤ t → t < z → 0 ≤ m → m ≤ 1 → ∃ va, vf (4 * m + t).toNat = some va ∧ VA P H va cl t m (tR t mr (mC m mc) - topL cl t m)
theorem l_162 (hd : 5 ≤ d) {H0 : gH} (hS : SX K H0 Q P s p mk cl mr mc) (hvr : ∃ fs, H0.1 s = some (.inr (4, fs)) ∧ fs[8]? = some (.ref vr)) (hvr0 : ∃ x, H0.1 vr = some (.inl (7, x))) : ∀ (n : Nat) (z : Int) (H : gH), FR (fun q => q = vr) (214 * z.toNat) (606 * z.toNat) H0 H → 0 ≤ z → z + n = 4 → VAS P H vr cl mr mc z →
    ∃ H', gRn K d 162 2 [some (.ref s), some (.int (I z))] [] H = some (.inl none, H') ∧ VAS P H' vr cl mr mc 4 ∧ FR (fun q => q = vr) 856 2424 H0 H' := by
  intro n
  obtain ⟨fs0, hs0, hs8⟩ := hvr
  have hsv : s ≠ vr := by
    obtain ⟨x, e⟩ := hvr0
    exact ne_ca hs0 e
  induction n with
  | zero =>
    intro z H hf hz hn hv
    rw [show z = 4 by omega] at hv hf ⊢
    refine ⟨H, e_162_2 _ ?_, hv, hf.le (by omega) (by omega)⟩
    unfold t_162_2
    simp (disch := omega) only [rI_d, rJ_d, rR_d, rN_d, wF_d, xI_d, xJ_d, xD_d, xQ_d, yI_d, yJ_d, yD_d, yQ_d, dI_s, dJ_s, dR_s, dN_s, dN_n, dH_s, dX_s, dL_s, dD_s, dQ_s, bC_r, bC_t, kI_s, kJ_s, kF_s, kD_s, kR_s, kV_s, I_lit, I_neg, I_add, I_sub, I_mul, I_ltT, I_ltF, I_leT, I_leF, I_eqT, I_eqF, c_int, c_long, c_obj, c_arr, c_bool, c_boolN, c_boolF, vn_bool, c_charN, vn_char, b2_f, b2_t, Int.toNat_natCast, ↓reduceIte, eq_self, and_self, and_true, true_and, not_false_eq_true, not_true_eq_false, L_0_0, L_0_1, L_0_2, L_0_3, L_0_4, L_0_5, L_0_6, L_0_7, L_0_8, L_0_9, L_0_10, L_0_11, L_0_12, L_0_13, L_0_14, L_0_15, C_0, L_1_0, L_1_1, L_1_2, C_1, L_2_0, L_2_1, L_2_2, C_2, L_3_0, L_3_1, L_3_2, C_3, L_65_0, L_65_1, L_65_2, L_65_3, L_65_4, C_65, L_66_0, L_66_1, L_66_2, L_66_3, C_66, L_129_0, L_129_1, L_129_2, L_129_3, C_129, L_198_0, L_198_1, L_198_2, L_198_3, L_198_4, L_198_5, L_198_6, L_198_7, L_198_8, L_198_9, L_198_10, L_198_11, L_198_12, L_198_13, L_198_14, L_198_15, L_198_16, L_198_17, L_198_18, L_198_19, L_198_20, L_198_21, L_198_22, L_198_23, L_198_24, L_198_25, L_198_26, L_198_27, L_198_28, L_198_29, L_198_30, L_198_31, L_198_32, L_198_33, L_198_34, L_198_35, L_198_36, L_198_37, L_198_38, L_198_39, L_198_40, L_198_41, L_198_42, L_198_43, L_198_44, L_198_45, L_198_46, L_198_47, L_198_48, C_198, A_199, A_200, A_201, A_202, A_203, A_204, A_205, A_206, A_207, A_208, A_209, A_210, A_211, A_212, A_213, A_214, A_215, A_216, A_217, A_218, A_219, A_220, A_221, A_222, A_223, A_224, A_225, A_226, A_227, A_228, A_128, A_191, A_rf, A_rs, A_rt, Q_4, Q_67, Q_130, t_162_2_1, t_162_2_2, t_162_2_3, t_162_2_4, t_162_2_5, t_162_2_6]
  | succ n ih =>
    intro z H hf hz hn ⟨vf, hv, hva⟩
    have hS1 : SX K H Q P s p mk cl mr mc := hS.fr hf (fun q w => by subst w; exact hvr0)
    have hb := hf.hb
    have hs1 := hf.at hS.2.1 hs0 hsv
    have gs8 := gf_of hs1 8
    rw [hs8] at gs8
    obtain ⟨H1, k1, k2, k3⟩ := mkVar (K := K) (d := d) hd hS1 (t := z) (m := 0) (by omega) (by omega)
    have hv1 : H1.1 vr = some (.inl (7, 8, gQ vf)) := k3.at hb hv (fun q => q)
    have hc1 : ∃ c', g_cls H1 H.2.1 = some c' ∧ ((6 = 100 ∧ c' < 13) ∨ (6 ≠ 100 ∧ c' = 6)) := by
      obtain ⟨ra, ca, fr, fc, e, -⟩ := k2
      exact ⟨6, cl_of e, Or.inr ⟨by decide, rfl⟩⟩
    have qs1 := qs_of hv1 (z := z) (x := some H.2.1) (by omega) (by omega)
    have f2 : FR (fun q => q = vr) 107 303 H (gset H1 vr (.inl (7, 8, gQ (va_up vf z.toNat (some H.2.1))))) := ((k3.mono (W' := fun q => q = vr) (fun _ _ q => q.elim)).tr (FR.set k3.hb hv1)).le (by omega) (by omega)
    have hv2 : (gset H1 vr (.inl (7, 8, gQ (va_up vf z.toNat (some H.2.1))))).1 vr = some (.inl (7, 8, gQ (va_up vf z.toNat (some H.2.1)))) := gs_eq
    have n6 : ∀ (H : gH) x, H.1 vr = some (.inl (7, x)) → ∀ q fs, q = vr → H.1 q ≠ some (.inr (6, fs)) := fun H x e q fs w e' => by subst w; cases e.symm.trans e'
    have n0 : ∀ (H : gH) x, H.1 vr = some (.inl (7, x)) → ∀ q x', q = vr → H.1 q ≠ some (.inl (0, x')) := fun H x e q fs w e' => by subst w; cases e.symm.trans e'
    have va2 : VA P (gset H1 vr (.inl (7, 8, gQ (va_up vf z.toNat (some H.2.1))))) H.2.1 cl z 0 (tR z mr (mC 0 mc) - topL cl z 0) := k2.fr k3.hb (FR.set k3.hb hv1) (n6 _ _ hv1) (n0 _ _ hv1)
    have hva2 : ∀ t m : Int, 0 ≤ t → t < z → 0 ≤ m → m ≤ 1 → ∃ va, vf (4 * m + t).toNat = some va ∧ VA P (gset H1 vr (.inl (7, 8, gQ (va_up vf z.toNat (some H.2.1))))) va cl t m (tR t mr (mC m mc) - topL cl t m) := fun t m q1 q2 q3 q4 => by
      obtain ⟨va, e1, e2⟩ := hva t m q1 q2 q3 q4
      exact ⟨va, e1, e2.fr hb f2 (n6 _ _ hv) (n0 _ _ hv)⟩
    generalize hH2 : gset H1 vr (.inl (7, 8, gQ (va_up vf z.toNat (some H.2.1)))) = H2 at *
    have hS2 : SX K H2 Q P s p mk cl mr mc := hS1.fr f2 (fun q w => by subst w; exact ⟨_, hv⟩)
    have hs2 := f2.at hb hs1 hsv
    have gs8' := gf_of hs2 8
    rw [hs8] at gs8'
    obtain ⟨H3, k4, k5, k6⟩ := mkVar (K := K) (d := d) hd hS2 (t := z) (m := 1) (by omega) (by omega)
    have hv3 : H3.1 vr = some (.inl (7, 8, gQ (va_up vf z.toNat (some H.2.1)))) := k6.at f2.hb hv2 (fun q => q)
    have hc3 : ∃ c', g_cls H3 H2.2.1 = some c' ∧ ((6 = 100 ∧ c' < 13) ∨ (6 ≠ 100 ∧ c' = 6)) := by
      obtain ⟨ra, ca, fr, fc, e, -⟩ := k5
      exact ⟨6, cl_of e, Or.inr ⟨by decide, rfl⟩⟩
    have qs3 := qs_of hv3 (z := 4 + z) (x := some H2.2.1) (by omega) (by omega)
    have f4 : FR (fun q => q = vr) 107 303 H2 (gset H3 vr (.inl (7, 8, gQ (va_up (va_up vf z.toNat (some H.2.1)) (4 + z).toNat (some H2.2.1))))) := ((k6.mono (W' := fun q => q = vr) (fun _ _ q => q.elim)).tr (FR.set k6.hb hv3)).le (by omega) (by omega)
    have va4 : VA P (gset H3 vr (.inl (7, 8, gQ (va_up (va_up vf z.toNat (some H.2.1)) (4 + z).toNat (some H2.2.1))))) H2.2.1 cl z 1 (tR z mr (mC 1 mc) - topL cl z 1) := k5.fr k6.hb (FR.set k6.hb hv3) (n6 _ _ hv3) (n0 _ _ hv3)
    obtain ⟨H', w1, w2, w3⟩ := ih (z + 1) (gset H3 vr (.inl (7, 8, gQ (va_up (va_up vf z.toNat (some H.2.1)) (4 + z).toNat (some H2.2.1))))) (((hf.tr f2).tr f4).le (by omega) (by omega)) (by omega) (by omega) ⟨_, gs_eq, fun t m q1 q2 q3 q4 => by
      unfold va_up
      by_cases et : t = z
      · subst et
        by_cases em : m = 0
        · subst em
          rw [if_neg (by omega), if_pos (by omega)]
          exact ⟨_, rfl, va2.fr f2.hb f4 (n6 _ _ hv2) (n0 _ _ hv2)⟩
        · obtain rfl : m = 1 := by omega
          rw [if_pos (by omega)]
          exact ⟨_, rfl, va4⟩
      · rw [if_neg (by omega), if_neg (by omega)]
        obtain ⟨va, e1, e2⟩ := hva2 t m q1 (by omega) q3 q4
        exact ⟨va, e1, e2.fr f2.hb f4 (n6 _ _ hv2) (n0 _ _ hv2)⟩⟩
    refine ⟨H', e_162_2 _ ?_, w2, w3⟩
    unfold t_162_2
    simp (disch := omega) only [rI_d, rJ_d, rR_d, rN_d, wF_d, xI_d, xJ_d, xD_d, xQ_d, yI_d, yJ_d, yD_d, yQ_d, dI_s, dJ_s, dR_s, dN_s, dN_n, dH_s, dX_s, dL_s, dD_s, dQ_s, bC_r, bC_t, kI_s, kJ_s, kF_s, kD_s, kR_s, kV_s, I_lit, I_neg, I_add, I_sub, I_mul, I_ltT, I_ltF, I_leT, I_leF, I_eqT, I_eqF, c_int, c_long, c_obj, c_arr, c_bool, c_boolN, c_boolF, vn_bool, c_charN, vn_char, b2_f, b2_t, Int.toNat_natCast, ↓reduceIte, eq_self, and_self, and_true, true_and, not_false_eq_true, not_true_eq_false, L_0_0, L_0_1, L_0_2, L_0_3, L_0_4, L_0_5, L_0_6, L_0_7, L_0_8, L_0_9, L_0_10, L_0_11, L_0_12, L_0_13, L_0_14, L_0_15, C_0, L_1_0, L_1_1, L_1_2, C_1, L_2_0, L_2_1, L_2_2, C_2, L_3_0, L_3_1, L_3_2, C_3, L_65_0, L_65_1, L_65_2, L_65_3, L_65_4, C_65, L_66_0, L_66_1, L_66_2, L_66_3, C_66, L_129_0, L_129_1, L_129_2, L_129_3, C_129, L_198_0, L_198_1, L_198_2, L_198_3, L_198_4, L_198_5, L_198_6, L_198_7, L_198_8, L_198_9, L_198_10, L_198_11, L_198_12, L_198_13, L_198_14, L_198_15, L_198_16, L_198_17, L_198_18, L_198_19, L_198_20, L_198_21, L_198_22, L_198_23, L_198_24, L_198_25, L_198_26, L_198_27, L_198_28, L_198_29, L_198_30, L_198_31, L_198_32, L_198_33, L_198_34, L_198_35, L_198_36, L_198_37, L_198_38, L_198_39, L_198_40, L_198_41, L_198_42, L_198_43, L_198_44, L_198_45, L_198_46, L_198_47, L_198_48, C_198, A_199, A_200, A_201, A_202, A_203, A_204, A_205, A_206, A_207, A_208, A_209, A_210, A_211, A_212, A_213, A_214, A_215, A_216, A_217, A_218, A_219, A_220, A_221, A_222, A_223, A_224, A_225, A_226, A_227, A_228, A_128, A_191, A_rf, A_rs, A_rt, Q_4, Q_67, Q_130, t_162_2_1, t_162_2_2, t_162_2_3, t_162_2_4, t_162_2_5, t_162_2_6, t_162_2_1, t_162_2_2, t_162_2_3, t_162_2_4, t_162_2_5, t_162_2_6, gs8, k1, if_pos hc1, qs1, hH2, gs8', k4, if_pos hc3, qs3, w1]
theorem w_162 (hd : 6 ≤ d) (hS : SX K H Q P s p mk cl mr mc) (hvr : ∃ fs, H.1 s = some (.inr (4, fs)) ∧ fs[8]? = some (.ref vr)) (hvr0 : ∃ vf, H.1 vr = some (.inl (7, 8, gQ vf))) : ∃ H', gCa K d 162 [.ref s] H = some (.inl none, H') ∧ VAS P H' vr cl mr mc 4 ∧ FR (fun q => q = vr) 856 2424 H H' := by
  obtain ⟨d, rfl, hd'⟩ := d_succ (show 5 + 1 ≤ d by omega)
  obtain ⟨vf, hv⟩ := hvr0
  obtain ⟨H', k1, k2⟩ := l_162 (K := K) (d := d) (by omega) hS hvr ⟨_, hv⟩ 4 0 H ((FR.rf hS.2.1).le (by omega) (by omega)) (by omega) (by omega) ⟨vf, hv, fun t m q1 q2 => by omega⟩
  refine ⟨H', c_162 _ ?_, k2⟩
  unfold t_162_0
  simp only [I_lit, I_neg, I_add, I_sub, I_mul, I_ltT, I_ltF, I_leT, I_leF, I_eqT, I_eqF, c_int, c_long, c_obj, c_arr, c_bool, c_boolN, c_boolF, vn_bool, c_charN, vn_char, b2_f, b2_t]
  exact k1
end
