/-! PURE 26: the model's least length, its loops -/
set_option maxRecDepth 100000
def cpF (f g : Nat → Int) (z : Nat) : Nat → Int := fun j => if j < z then f j else g j
theorem cpF_succ {f g : Nat → Int} {z : Nat} : cpF f g (z + 1) = fun q => if q = z then f z else cpF f g z q := by
  funext q
  unfold cpF
  by_cases h : q = z
  · subst h
    rw [if_pos (by omega), if_pos rfl]
  · rw [if_neg h]
    by_cases h2 : q < z
    · rw [if_pos h2, if_pos (by omega)]
    · rw [if_neg h2, if_neg (by omega)]
theorem cpF_0 {f g : Nat → Int} : cpF f g 0 = g := funext fun q => if_neg (by omega)
/-- the marker put aside, the first z pieces -/
def cpB (B : gB) (z : Nat) : gB := stA (stA (stA (stA (stA (stA B 223 (cpF (B.2.1 209) (B.2.1 223) z)) 224 (cpF (B.2.1 210) (B.2.1 224) z)) 225 (cpF (B.2.1 211) (B.2.1 225) z)) 226 (cpF (B.2.1 212) (B.2.1 226) z)) 227 (cpF (B.2.1 213) (B.2.1 227) z)) 228 (cpF (B.2.1 214) (B.2.1 228) z)
theorem cpB_a {B : gB} {z o : Nat} (h : o < 223 ∨ 228 < o) : (cpB B z).2.1 o = B.2.1 o := by
  unfold cpB
  rw [st_ne (by omega), st_ne (by omega), st_ne (by omega), st_ne (by omega), st_ne (by omega), st_ne (by omega)]
theorem cpB_mw {B : gB} (hw : MW B) {z : Nat} : MW (cpB B z) := by
  have sh : ∀ (f g : Nat → Int) (a b : Int) (z : Nat), (∀ j, a ≤ f j ∧ f j ≤ b) → (∀ j, a ≤ g j ∧ g j ≤ b) → ∀ j, a ≤ cpF f g z j ∧ cpF f g z j ≤ b := by
    intro f g a b z h1 h2 j
    unfold cpF
    split
    · exact h1 _
    · exact h2 _
  unfold cpB
  exact mwst (mwst (mwst (mwst (mwst (mwst hw (sh _ _ _ _ _ (mw_number hw) (mw_keptNumber hw))) (sh _ _ _ _ _ (mw_shapeOf hw) (mw_keptShape hw))) (sh _ _ _ _ _ (mw_rowAt hw) (mw_keptRow hw))) (sh _ _ _ _ _ (mw_columnAt hw) (mw_keptColumn hw))) (sh _ _ _ _ _ (mw_turned hw) (mw_keptTurns hw))) (sh _ _ _ _ _ (mw_mirrored hw) (mw_keptMirror hw))
section
variable {K : gK} {d N : Nat} {G : gH} {B : gB}
theorem l_128_1 (hw : MW B) {nx : Int} {x : gO} {o4 : Option Value} (H : gRn K d 128 12 [some (.ref (N + 198)), some (.int (I ((B.1 198 17)))), some (.int (I nx)), some (.int (I ((B.1 198 17)))), o4] [] (hH K N G (cpB B ((B.1 198 17)).toNat)) = some x) : ∀ (n : Nat) (z : Int), 0 ≤ z → z + n = (B.1 198 17) →
    gRn K d 128 12 [some (.ref (N + 198)), some (.int (I ((B.1 198 17)))), some (.int (I nx)), some (.int (I z)), o4] [] (hH K N G (cpB B z.toNat)) = some x := by
  intro n
  have hm := mw_many hw
  induction n with
  | zero =>
    intro z hz hn
    rw [show z = (B.1 198 17) by omega]
    exact H
  | succ n ih =>
    intro z hz hn
    have ih := ih (z + 1) (by omega) (by omega)
    have v2 := mw_mirrored hw z.toNat
    have g1 : (cpB B z.toNat).2.1 209 = B.2.1 209 := cpB_a (by omega)
    have g2 : (cpB B z.toNat).2.1 210 = B.2.1 210 := cpB_a (by omega)
    have g3 : (cpB B z.toNat).2.1 211 = B.2.1 211 := cpB_a (by omega)
    have g4 : (cpB B z.toNat).2.1 212 = B.2.1 212 := cpB_a (by omega)
    have g5 : (cpB B z.toNat).2.1 213 = B.2.1 213 := cpB_a (by omega)
    have g6 : (cpB B z.toNat).2.1 214 = B.2.1 214 := cpB_a (by omega)
    have key : cpB B (z + 1).toNat = sA (sA (sA (sA (sA (sA (cpB B z.toNat) 223 z.toNat (B.2.1 209 z.toNat)) 224 z.toNat (B.2.1 210 z.toNat)) 225 z.toNat (B.2.1 211 z.toNat)) 226 z.toNat (B.2.1 212 z.toNat)) 227 z.toNat (B.2.1 213 z.toNat)) 228 z.toNat (B.2.1 214 z.toNat) := by
      rw [show (z + 1).toNat = z.toNat + 1 by omega]
      unfold cpB
      rw [cpF_succ, cpF_succ, cpF_succ, cpF_succ, cpF_succ, cpF_succ]
      refine Prod.ext rfl (Prod.ext (funext fun o' => funext fun j => ?_) rfl)
      simp only [sA, stA]
      by_cases c1 : o' = 228
      · subst c1; simp
      by_cases c2 : o' = 227
      · subst c2; simp
      by_cases c3 : o' = 226
      · subst c3; simp
      by_cases c4 : o' = 225
      · subst c4; simp
      by_cases c5 : o' = 224
      · subst c5; simp
      by_cases c6 : o' = 223
      · subst c6; simp
      simp only [if_neg c1, if_neg c2, if_neg c3, if_neg c4, if_neg c5, if_neg c6, c1, c2, c3, c4, c5, c6, false_and, if_false]
    rw [key] at ih
    refine e_128_12 _ ?_
    unfold t_128_12
    simp (disch := omega) only [rI_d, rJ_d, rR_d, rN_d, wF_d, xI_d, xJ_d, xD_d, xQ_d, yI_d, yJ_d, yD_d, yQ_d, dI_s, dJ_s, dR_s, dN_s, dN_n, dH_s, dX_s, dL_s, dD_s, dQ_s, bC_r, bC_t, kI_s, kJ_s, kF_s, kD_s, kR_s, kV_s, I_lit, I_neg, I_add, I_sub, I_mul, I_ltT, I_ltF, I_leT, I_leF, I_eqT, I_eqF, c_int, c_long, c_obj, c_arr, c_bool, c_boolN, c_boolF, vn_bool, c_charN, vn_char, b2_f, b2_t, Int.toNat_natCast, ↓reduceIte, eq_self, and_self, and_true, true_and, not_false_eq_true, not_true_eq_false, L_0_0, L_0_1, L_0_2, L_0_3, L_0_4, L_0_5, L_0_6, L_0_7, L_0_8, L_0_9, L_0_10, L_0_11, L_0_12, L_0_13, L_0_14, L_0_15, C_0, L_1_0, L_1_1, L_1_2, C_1, L_2_0, L_2_1, L_2_2, C_2, L_3_0, L_3_1, L_3_2, C_3, L_65_0, L_65_1, L_65_2, L_65_3, L_65_4, C_65, L_66_0, L_66_1, L_66_2, L_66_3, C_66, L_129_0, L_129_1, L_129_2, L_129_3, C_129, L_198_0, L_198_1, L_198_2, L_198_3, L_198_4, L_198_5, L_198_6, L_198_7, L_198_8, L_198_9, L_198_10, L_198_11, L_198_12, L_198_13, L_198_14, L_198_15, L_198_16, L_198_17, L_198_18, L_198_19, L_198_20, L_198_21, L_198_22, L_198_23, L_198_24, L_198_25, L_198_26, L_198_27, L_198_28, L_198_29, L_198_30, L_198_31, L_198_32, L_198_33, L_198_34, L_198_35, L_198_36, L_198_37, L_198_38, L_198_39, L_198_40, L_198_41, L_198_42, L_198_43, L_198_44, L_198_45, L_198_46, L_198_47, L_198_48, C_198, A_199, A_200, A_201, A_202, A_203, A_204, A_205, A_206, A_207, A_208, A_209, A_210, A_211, A_212, A_213, A_214, A_215, A_216, A_217, A_218, A_219, A_220, A_221, A_222, A_223, A_224, A_225, A_226, A_227, A_228, A_128, A_191, A_rf, A_rs, A_rt, Q_4, Q_67, Q_130, t_128_0_1, t_128_0_2, t_128_12_1, t_128_12_2, t_128_12_3, t_128_12_4, t_128_12_5, t_128_12_6, t_128_12_7, t_128_12_8, t_128_12_9, t_128_12_10, t_128_12_11, t_128_12_12, t_128_12_13, t_128_12_14, t_128_12_15, t_128_12_16, t_128_12_17, t_128_12_18, t_128_12_19, t_128_12_20, t_128_12_21, t_128_12_22, t_128_12_23, t_128_12_24, t_128_12_25, t_128_12_26, t_128_12_27, t_128_12_28, t_128_12_29, t_128_123_1, t_128_123_2, t_128_123_3, t_128_123_4, t_128_123_5, t_128_123_6, t_128_123_7, t_128_123_8, t_128_123_9, t_128_123_10, t_128_123_11, t_128_123_12, t_128_123_13, t_128_123_14, t_128_123_15, t_128_123_16, t_128_123_17, t_128_123_18, t_128_123_19, t_128_123_20, t_128_123_21, t_128_123_22, t_128_123_23, M_0_8, M_0_9, M_0_10, M_0_11, M_0_12, M_0_13, M_0_14, M_0_15, M_1_0, M_1_1, M_1_2, M_2_0, M_2_1, M_2_2, M_3_0, M_3_1, M_3_2, M_65_0, M_65_1, M_65_2, M_65_3, M_65_4, M_66_2, M_129_2, M_198_0, M_198_1, M_198_2, M_198_3, M_198_4, M_198_5, M_198_7, M_198_17, M_198_18, M_198_28, M_198_31, M_198_32, M_198_33, M_198_36, M_198_37, M_198_38, M_198_39, M_198_41, M_198_48, S_199, S_200, S_201, S_202, S_203, S_204, S_205, S_206, S_207, S_208, S_209, S_210, S_211, S_212, S_213, S_214, S_215, S_216, S_217, S_218, S_219, S_220, S_221, S_222, S_223, S_224, S_225, S_226, S_227, S_228, S_128, S_191, S_rf, S_rs, S_rt, sA_1, sA_ne, g1, g2, g3, g4, g5, g6, ih]
end
/-- the marker laid anew, z pieces of it -/
def LZ (B0 B : gB) (z : Nat) : Prop := MW B ∧ (∀ o k, (o ≠ 198 ∨ (k ≠ 0 ∧ k ≠ 17 ∧ k ≠ 18 ∧ k ≠ 33 ∧ k ≠ 36 ∧ k ≠ 37 ∧ k ≠ 38 ∧ k ≠ 39 ∧ k ≠ 41 ∧ k ≠ 48)) → B.1 o k = B0.1 o k) ∧ (∀ o, (o < 209 ∨ (217 < o ∧ o < 220) ∨ 228 < o) → B.2.1 o = B0.2.1 o) ∧ B.2.2 = B0.2.2 ∧ (B.1 198 17) = (z : Int) ∧ B.2.1 215 = reC (tw B0) z ∧ rmT (tw B) = reR (tw B0) z ∧ B.2.1 217 = reO (tw B0) z ∧ (∀ o j : Nat, 209 ≤ o → o ≤ 214 → j < z → B.2.1 o j = B0.2.1 o j) ∧ ∀ j : Nat, (j : Int) < (B0.1 198 17) → B.2.1 223 j = B0.2.1 209 j ∧ B.2.1 224 j = B0.2.1 210 j ∧ B.2.1 225 j = B0.2.1 211 j ∧ B.2.1 226 j = B0.2.1 212 j ∧ B.2.1 227 j = B0.2.1 213 j ∧ B.2.1 228 j = B0.2.1 214 j
theorem LZ.q {B0 B : gB} {z : Nat} (h : LZ B0 B z) : nsQ (tw B) = nsQ (tw B0) := nsQ_of (fun k _ _ _ _ _ _ _ _ _ _ => h.2.1 198 k (by omega)) (fun o a => h.2.2.1 o a)
section
variable {K : gK} {d N : Nat} {G : gH} {B0 : gB}
theorem LZ_step {B B1 : gB} {z : Nat} (h : LZ B0 B z) (hz : (z : Int) < (B0.1 198 17)) (hw0 : MW B0) (hg : GI B0) (h1 : ST (sI B 198 18 (B0.2.1 209 z)) B1) (hw1 : MW B1) (h999 : (B0.1 198 18) ≤ 900) : LZ B0 (putB B1 (B0.2.1 210 z).toNat (pL (tw B0) z) (B0.2.1 213 z) (B0.2.1 211 z) (B0.2.1 212 z) (B0.2.1 214 z)) (z + 1) := by
  obtain ⟨k1, k2, k3, k4, k5, k6, k7, k8, k9, k10⟩ := h
  have hq1 : nsQ (tw B1) = nsQ (tw B0) := nsQ_of (fun k q1 q2 q3 q4 q5 q6 q7 q8 q9 q10 => by
    show B1.1 198 k = B0.1 198 k
    rw [h1.1.f (Or.inr ⟨q4, q5, q6, q7, q8⟩), sI_ne (Or.inr q3)]
    exact k2 198 k (Or.inr ⟨q1, q2, q3, q4, q5, q6, q7, q8, q9, q10⟩)) (fun o a => (h1.1.2.1 o (by omega) (by omega)).trans (k3 o a))
  have hp := hg.2.2.2 z hz
  have m1 : (B1.1 198 17) = (z : Int) := by rw [h1.1.f (by omega), sI_ne (by omega)]; exact k5
  have n1 : (B1.1 198 18) = B0.2.1 209 z := by rw [h1.1.f (by omega), sI_eq rfl]
  have og1 : B1.2.1 217 = reO (tw B0) z := (h1.1.2.1 217 (by omega) (by omega)).trans k8
  have hmw := mw_many hw0
  have hs := mw_shapeOf hw0 z
  have s0 : ((B0.2.1 210 z).toNat : Int) = B0.2.1 210 z := by omega
  have e17 : ((B1.1 198 17)).toNat = z := by omega
  have hnb := mw_number hw0 z
  have hpn : B0.2.1 209 z < (B0.1 198 18) := hp.2.2.2.1
  refine ⟨putB_mw hw1 (fun g => ?_) (by omega) (mw_turned hw0 z) (mw_mirrored hw0 z) (mw_rowAt hw0 z) (mw_columnAt hw0 z) (by omega) (by omega), fun o k q => ?_, fun o q => ?_, ?_, ?_, ?_, ?_, ?_, fun o j q1 q2 q3 => ?_, fun j hj => ?_⟩
  · rw [og1, m1]; exact (reO_b z g).2
  · rw [putB_f (by omega), h1.1.f (by omega), sI_ne (by omega)]
    exact k2 o k q
  · rw [putB_a (by omega), h1.1.2.1 o (by omega) (by omega)]
    exact k3 o q
  · rw [putB_3, h1.1.2.2]; exact k4
  · rw [putB_many, m1]; rfl
  · rw [putB_cl, n1, h1.1.2.1 215 (by omega) (by omega), sI_21, k6]; rfl
  · funext g
    have := congrFun (congrArg (fun x : gT2 => x.2) (putB_tS hw1 (s := (B0.2.1 210 z).toNat) (l := pL (tw B0) z) (t := B0.2.1 213 z) (r := B0.2.1 211 z) (c := B0.2.1 212 z) (m := B0.2.1 214 z))) g
    refine this.trans ?_
    show cif (marked (tw B1) (B0.2.1 210 z).toNat ∧ g = (B1.2.1 204 (B0.2.1 210 z).toNat).toNat) (rem (tw B1) (B0.2.1 211 z + mb (tw B1) (B0.2.1 210 z).toNat (pL (tw B0) z) (B0.2.1 213 z) (B0.2.1 214 z))) (rmT (tw B1) g) = cif (marked (tw B0) (B0.2.1 210 z).toNat ∧ g = (B0.2.1 204 (B0.2.1 210 z).toNat).toNat) (rem (tw B0) (B0.2.1 211 z + mb (tw B0) (B0.2.1 210 z).toNat (pL (tw B0) z) (B0.2.1 213 z) (B0.2.1 214 z))) (reR (tw B0) z g)
    rw [qf (fun M => marked M (B0.2.1 210 z).toNat) (fun _ => rfl) hq1, show B1.2.1 204 = B0.2.1 204 from (h1.1.2.1 204 (by omega) (by omega)).trans (k3 204 (by omega)), qf (fun M => rem M (B0.2.1 211 z + mb M (B0.2.1 210 z).toNat (pL (tw B0) z) (B0.2.1 213 z) (B0.2.1 214 z))) (fun _ => rfl) hq1]
    have er : rmT (tw B1) g = rmT (tw B) g := by
      rw [rmT_e, rmT_e, h1.1.a (by omega), h1.1.a (by omega)]; rfl
    rw [er, k7]
  · funext g
    rw [putB_og, og1, qf (fun M => marked M (B0.2.1 210 z).toNat) (fun _ => rfl) hq1, show B1.2.1 204 = B0.2.1 204 from (h1.1.2.1 204 (by omega) (by omega)).trans (k3 204 (by omega))]
    rfl
  · by_cases e : j = z
    · subst e
      obtain ⟨p1, p2, p3, p4, p5, p6⟩ := putB_new (B := B1) (s := (B0.2.1 210 j).toNat) (l := pL (tw B0) j) (t := B0.2.1 213 j) (r := B0.2.1 211 j) (c := B0.2.1 212 j) (m := B0.2.1 214 j)
      rw [e17] at p1 p2 p3 p4 p5 p6
      rcases (show o = 209 ∨ o = 210 ∨ o = 211 ∨ o = 212 ∨ o = 213 ∨ o = 214 by omega) with rfl | rfl | rfl | rfl | rfl | rfl
      · rw [p1, n1]
      · rw [p2, s0]
      · exact p3
      · exact p4
      · exact p5
      · exact p6
    · rw [putB_row q1 q2 (by omega), h1.1.a (by omega), sI_21]
      exact k9 o j q1 q2 (by omega)
  · have a : ∀ o, 223 ≤ o → o ≤ 228 → (putB B1 (B0.2.1 210 z).toNat (pL (tw B0) z) (B0.2.1 213 z) (B0.2.1 211 z) (B0.2.1 212 z) (B0.2.1 214 z)).2.1 o j = B.2.1 o j := fun o q1 q2 => by
      rw [putB_a (by omega), h1.1.a (by omega), sI_21]
    rw [a _ (by omega) (by omega), a _ (by omega) (by omega), a _ (by omega) (by omega), a _ (by omega) (by omega), a _ (by omega) (by omega), a _ (by omega) (by omega)]
    exact k10 j hj
theorem l_128_2 (hd : 3 ≤ d) (hw0 : MW B0) (hg : GI B0) (h999 : (B0.1 198 18) ≤ 900) : ∀ (n : Nat) (z : Int) (B : gB) (o4 : Option Value), 0 ≤ z → z + n = (B0.1 198 17) → LZ B0 B z.toNat →
    ∃ B', gRn K d 128 123 [some (.ref (N + 198)), some (.int (I ((B0.1 198 17)))), some (.int (I ((B0.1 198 18)))), some (.int (I z)), o4] [] (hH K N G B) = some (.inl (some (.int (I ((B.1 198 48))))), hH K N G (sI B' 198 18 ((B0.1 198 18)))) ∧ LZ B0 B' ((B0.1 198 17)).toNat ∧ (B'.1 198 48) = (B.1 198 48) := by
  intro n
  have hm := mw_many hw0
  induction n with
  | zero =>
    intro z B o4 hz hn hl
    rw [show z = (B0.1 198 17) by omega] at hl ⊢
    refine ⟨B, e_128_123 _ ?_, hl, rfl⟩
    unfold t_128_123
    simp (disch := omega) only [rI_d, rJ_d, rR_d, rN_d, wF_d, xI_d, xJ_d, xD_d, xQ_d, yI_d, yJ_d, yD_d, yQ_d, dI_s, dJ_s, dR_s, dN_s, dN_n, dH_s, dX_s, dL_s, dD_s, dQ_s, bC_r, bC_t, kI_s, kJ_s, kF_s, kD_s, kR_s, kV_s, I_lit, I_neg, I_add, I_sub, I_mul, I_ltT, I_ltF, I_leT, I_leF, I_eqT, I_eqF, c_int, c_long, c_obj, c_arr, c_bool, c_boolN, c_boolF, vn_bool, c_charN, vn_char, b2_f, b2_t, Int.toNat_natCast, ↓reduceIte, eq_self, and_self, and_true, true_and, not_false_eq_true, not_true_eq_false, L_0_0, L_0_1, L_0_2, L_0_3, L_0_4, L_0_5, L_0_6, L_0_7, L_0_8, L_0_9, L_0_10, L_0_11, L_0_12, L_0_13, L_0_14, L_0_15, C_0, L_1_0, L_1_1, L_1_2, C_1, L_2_0, L_2_1, L_2_2, C_2, L_3_0, L_3_1, L_3_2, C_3, L_65_0, L_65_1, L_65_2, L_65_3, L_65_4, C_65, L_66_0, L_66_1, L_66_2, L_66_3, C_66, L_129_0, L_129_1, L_129_2, L_129_3, C_129, L_198_0, L_198_1, L_198_2, L_198_3, L_198_4, L_198_5, L_198_6, L_198_7, L_198_8, L_198_9, L_198_10, L_198_11, L_198_12, L_198_13, L_198_14, L_198_15, L_198_16, L_198_17, L_198_18, L_198_19, L_198_20, L_198_21, L_198_22, L_198_23, L_198_24, L_198_25, L_198_26, L_198_27, L_198_28, L_198_29, L_198_30, L_198_31, L_198_32, L_198_33, L_198_34, L_198_35, L_198_36, L_198_37, L_198_38, L_198_39, L_198_40, L_198_41, L_198_42, L_198_43, L_198_44, L_198_45, L_198_46, L_198_47, L_198_48, C_198, A_199, A_200, A_201, A_202, A_203, A_204, A_205, A_206, A_207, A_208, A_209, A_210, A_211, A_212, A_213, A_214, A_215, A_216, A_217, A_218, A_219, A_220, A_221, A_222, A_223, A_224, A_225, A_226, A_227, A_228, A_128, A_191, A_rf, A_rs, A_rt, Q_4, Q_67, Q_130, t_128_0_1, t_128_0_2, t_128_12_1, t_128_12_2, t_128_12_3, t_128_12_4, t_128_12_5, t_128_12_6, t_128_12_7, t_128_12_8, t_128_12_9, t_128_12_10, t_128_12_11, t_128_12_12, t_128_12_13, t_128_12_14, t_128_12_15, t_128_12_16, t_128_12_17, t_128_12_18, t_128_12_19, t_128_12_20, t_128_12_21, t_128_12_22, t_128_12_23, t_128_12_24, t_128_12_25, t_128_12_26, t_128_12_27, t_128_12_28, t_128_12_29, t_128_123_1, t_128_123_2, t_128_123_3, t_128_123_4, t_128_123_5, t_128_123_6, t_128_123_7, t_128_123_8, t_128_123_9, t_128_123_10, t_128_123_11, t_128_123_12, t_128_123_13, t_128_123_14, t_128_123_15, t_128_123_16, t_128_123_17, t_128_123_18, t_128_123_19, t_128_123_20, t_128_123_21, t_128_123_22, t_128_123_23, M_0_8, M_0_9, M_0_10, M_0_11, M_0_12, M_0_13, M_0_14, M_0_15, M_1_0, M_1_1, M_1_2, M_2_0, M_2_1, M_2_2, M_3_0, M_3_1, M_3_2, M_65_0, M_65_1, M_65_2, M_65_3, M_65_4, M_66_2, M_129_2, M_198_0, M_198_1, M_198_2, M_198_3, M_198_4, M_198_5, M_198_7, M_198_17, M_198_18, M_198_28, M_198_31, M_198_32, M_198_33, M_198_36, M_198_37, M_198_38, M_198_39, M_198_41, M_198_48, S_199, S_200, S_201, S_202, S_203, S_204, S_205, S_206, S_207, S_208, S_209, S_210, S_211, S_212, S_213, S_214, S_215, S_216, S_217, S_218, S_219, S_220, S_221, S_222, S_223, S_224, S_225, S_226, S_227, S_228, S_128, S_191, S_rf, S_rs, S_rt, sI_eq, sI_ne, sI_21, sI_22, sA_eq, sA_ne, sA_1, sA_3]
  | succ n ih =>
    intro z B o4 hz hn hl
    have hzm : ((z.toNat : Nat) : Int) < (B0.1 198 17) := by omega
    have hp := hg.2.2.2 z.toNat hzm
    have hnn := mw_next hw0
    have hnu := mw_number hw0 z.toNat
    have hsh := mw_shapeOf hw0 z.toNat
    have htu := mw_turned hw0 z.toNat
    have hmi := mw_mirrored hw0 z.toNat
    obtain ⟨f1, f2, f3, f4, f5, f6⟩ := hl.2.2.2.2.2.2.2.2.2 z.toNat hzm
    have hw1 : MW (sI B 198 18 (B0.2.1 209 z.toNat)) := ms_next hl.1 (by omega)
    obtain ⟨B1, g1, g2, g3, g4⟩ := w_169 (K := K) (d := d) (N := N) (G := G) (by omega) hw1 (s := B0.2.1 210 z.toNat) (t := B0.2.1 213 z.toNat) (m := B0.2.1 214 z.toNat) (by omega) htu hmi
    have hq1 : nsQ (tw B1) = nsQ (tw B0) := (SC.q g2.1).trans ((nsQ_of (fun k _ _ q _ _ _ _ _ _ _ => sI_ne (Or.inr q)) (fun o _ => rfl) : nsQ (tw (sI B 198 18 (B0.2.1 209 z.toNat))) = nsQ (tw B)).trans hl.q)
    have eD : dl (tw (sI B 198 18 (B0.2.1 209 z.toNat))) (B0.2.1 210 z.toNat).toNat = pL (tw B0) z.toNat := by
      show dl (tw B) (B0.2.1 210 z.toNat).toNat = dl (tw B0) (B0.2.1 210 z.toNat).toNat
      exact qf (fun M => dl M (B0.2.1 210 z.toNat).toNat) (fun _ => rfl) hl.q
    rw [eD] at g4
    have m1 : (B1.1 198 17) = z := by rw [g2.1.f (by omega), sI_ne (by omega), hl.2.2.2.2.1]; omega
    have n1 : (B1.1 198 18) = B0.2.1 209 z.toNat := by rw [g2.1.f (by omega), sI_eq rfl]
    have hin : ins (tw B1) (pL (tw B0) z.toNat) (B0.2.1 213 z.toNat) (B0.2.1 214 z.toNat) (B0.2.1 211 z.toNat) (B0.2.1 212 z.toNat) := by
      rw [qf (fun M => ins M (pL (tw B0) z.toNat) (B0.2.1 213 z.toNat) (B0.2.1 214 z.toNat) (B0.2.1 211 z.toNat) (B0.2.1 212 z.toNat)) (fun _ => rfl) hq1]
      exact hp.1
    have hTn : Tn (tw B1) B1 (B0.2.1 210 z.toNat).toNat (pL (tw B0) z.toNat) (B0.2.1 213 z.toNat) (B0.2.1 214 z.toNat) := by
      refine ⟨g4.1, g4.2.1, g4.2.2.trans ?_⟩
      exact (scf (fun M => mb M (B0.2.1 210 z.toNat).toNat (pL (tw B0) z.toNat) (B0.2.1 213 z.toNat) (B0.2.1 214 z.toNat)) (fun _ => rfl) g2.1).symm
    have hpn : B0.2.1 209 z.toNat < (B0.1 198 18) := hp.2.2.2.1
    have w2 := w_102 (K := K) (d := d) (N := N) (G := G) (s := B0.2.1 210 z.toNat) (r := B0.2.1 211 z.toNat) (c := B0.2.1 212 z.toNat) (by omega) g3 (by omega) htu hmi (dlp_len 25) (fun k => dlp_lt) hTn hin (by omega) (by omega)
    have hL2 := LZ_step hl hzm hw0 hg g2 g3 h999
    have kf : ∀ o, 223 ≤ o → o ≤ 228 → B1.2.1 o z.toNat = B.2.1 o z.toNat := fun o q1 q2 => by rw [g2.1.a (by omega), sI_21]
    have a1 := kf 224 (by omega) (by omega)
    have a2 := kf 225 (by omega) (by omega)
    have a3 := kf 226 (by omega) (by omega)
    have a4 := kf 227 (by omega) (by omega)
    have a5 := kf 228 (by omega) (by omega)
    have ls : (putB B1 (B0.2.1 210 z.toNat).toNat (pL (tw B0) z.toNat) (B0.2.1 213 z.toNat) (B0.2.1 211 z.toNat) (B0.2.1 212 z.toNat) (B0.2.1 214 z.toNat)).1 198 48 = (B.1 198 48) := by
      rw [putB_f (by omega), g2.1.f (by omega), sI_ne (by omega)]
    obtain ⟨B', r1, r2, r3⟩ := ih (z + 1) _ (some (.int (I (B0.2.1 209 z.toNat)))) (by omega) (by omega) (by rw [show (z + 1).toNat = z.toNat + 1 by omega]; exact hL2)
    rw [ls] at r1 r3
    refine ⟨B', e_128_123 _ ?_, r2, r3⟩
    unfold t_128_123
    simp (disch := omega) only [rI_d, rJ_d, rR_d, rN_d, wF_d, xI_d, xJ_d, xD_d, xQ_d, yI_d, yJ_d, yD_d, yQ_d, dI_s, dJ_s, dR_s, dN_s, dN_n, dH_s, dX_s, dL_s, dD_s, dQ_s, bC_r, bC_t, kI_s, kJ_s, kF_s, kD_s, kR_s, kV_s, I_lit, I_neg, I_add, I_sub, I_mul, I_ltT, I_ltF, I_leT, I_leF, I_eqT, I_eqF, c_int, c_long, c_obj, c_arr, c_bool, c_boolN, c_boolF, vn_bool, c_charN, vn_char, b2_f, b2_t, Int.toNat_natCast, ↓reduceIte, eq_self, and_self, and_true, true_and, not_false_eq_true, not_true_eq_false, L_0_0, L_0_1, L_0_2, L_0_3, L_0_4, L_0_5, L_0_6, L_0_7, L_0_8, L_0_9, L_0_10, L_0_11, L_0_12, L_0_13, L_0_14, L_0_15, C_0, L_1_0, L_1_1, L_1_2, C_1, L_2_0, L_2_1, L_2_2, C_2, L_3_0, L_3_1, L_3_2, C_3, L_65_0, L_65_1, L_65_2, L_65_3, L_65_4, C_65, L_66_0, L_66_1, L_66_2, L_66_3, C_66, L_129_0, L_129_1, L_129_2, L_129_3, C_129, L_198_0, L_198_1, L_198_2, L_198_3, L_198_4, L_198_5, L_198_6, L_198_7, L_198_8, L_198_9, L_198_10, L_198_11, L_198_12, L_198_13, L_198_14, L_198_15, L_198_16, L_198_17, L_198_18, L_198_19, L_198_20, L_198_21, L_198_22, L_198_23, L_198_24, L_198_25, L_198_26, L_198_27, L_198_28, L_198_29, L_198_30, L_198_31, L_198_32, L_198_33, L_198_34, L_198_35, L_198_36, L_198_37, L_198_38, L_198_39, L_198_40, L_198_41, L_198_42, L_198_43, L_198_44, L_198_45, L_198_46, L_198_47, L_198_48, C_198, A_199, A_200, A_201, A_202, A_203, A_204, A_205, A_206, A_207, A_208, A_209, A_210, A_211, A_212, A_213, A_214, A_215, A_216, A_217, A_218, A_219, A_220, A_221, A_222, A_223, A_224, A_225, A_226, A_227, A_228, A_128, A_191, A_rf, A_rs, A_rt, Q_4, Q_67, Q_130, t_128_0_1, t_128_0_2, t_128_12_1, t_128_12_2, t_128_12_3, t_128_12_4, t_128_12_5, t_128_12_6, t_128_12_7, t_128_12_8, t_128_12_9, t_128_12_10, t_128_12_11, t_128_12_12, t_128_12_13, t_128_12_14, t_128_12_15, t_128_12_16, t_128_12_17, t_128_12_18, t_128_12_19, t_128_12_20, t_128_12_21, t_128_12_22, t_128_12_23, t_128_12_24, t_128_12_25, t_128_12_26, t_128_12_27, t_128_12_28, t_128_12_29, t_128_123_1, t_128_123_2, t_128_123_3, t_128_123_4, t_128_123_5, t_128_123_6, t_128_123_7, t_128_123_8, t_128_123_9, t_128_123_10, t_128_123_11, t_128_123_12, t_128_123_13, t_128_123_14, t_128_123_15, t_128_123_16, t_128_123_17, t_128_123_18, t_128_123_19, t_128_123_20, t_128_123_21, t_128_123_22, t_128_123_23, M_0_8, M_0_9, M_0_10, M_0_11, M_0_12, M_0_13, M_0_14, M_0_15, M_1_0, M_1_1, M_1_2, M_2_0, M_2_1, M_2_2, M_3_0, M_3_1, M_3_2, M_65_0, M_65_1, M_65_2, M_65_3, M_65_4, M_66_2, M_129_2, M_198_0, M_198_1, M_198_2, M_198_3, M_198_4, M_198_5, M_198_7, M_198_17, M_198_18, M_198_28, M_198_31, M_198_32, M_198_33, M_198_36, M_198_37, M_198_38, M_198_39, M_198_41, M_198_48, S_199, S_200, S_201, S_202, S_203, S_204, S_205, S_206, S_207, S_208, S_209, S_210, S_211, S_212, S_213, S_214, S_215, S_216, S_217, S_218, S_219, S_220, S_221, S_222, S_223, S_224, S_225, S_226, S_227, S_228, S_128, S_191, S_rf, S_rs, S_rt, sI_eq, sI_ne, sI_21, sI_22, sA_eq, sA_ne, sA_1, sA_3, f1, f2, f3, f4, f5, f6, a1, a2, a3, a4, a5, g1, w2, n1, r1]
end
