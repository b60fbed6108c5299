/-! PURE 56: what a step of the room keeps; its simple steps -/
set_option maxRecDepth 100000
/-- the model is as it was -/
def KP (B B' : gB) : Prop := (∀ o k, 192 ≤ o → B'.1 o k = B.1 o k) ∧ (∀ o j, 192 ≤ o → B'.2.1 o j = B.2.1 o j) ∧ B'.2.2 = B.2.2
theorem KP.rf {B : gB} : KP B B := ⟨fun _ _ _ => rfl, fun _ _ _ => rfl, rfl⟩
theorem KP.tr {B B' B'' : gB} (h : KP B B') (h' : KP B' B'') : KP B B'' := ⟨fun o k q => (h'.1 o k q).trans (h.1 o k q), fun o k q => (h'.2.1 o k q).trans (h.2.1 o k q), h'.2.2.trans h.2.2⟩
theorem KP.sI {B : gB} {o k : Nat} {v : Int} (h : o < 192) : KP B (sI B o k v) := ⟨fun o' k' q => sI_ne (by omega), fun _ _ _ => rfl, rfl⟩
theorem KP.sA {B : gB} {o k : Nat} {v : Int} (h : o < 192) : KP B (sA B o k v) := ⟨fun _ _ _ => rfl, fun o' k' q => sA_ne (by omega), rfl⟩
def nsW (M : gM) : gM := (M.1, fun o => if o < 199 then (fun _ => 0) else M.2 o)
theorem KP.q {B B' : gB} (h : KP B B') : nsW (tw B') = nsW (tw B) := by
  refine Prod.ext (funext fun k => h.1 198 k (by omega)) (funext fun o => ?_)
  show (if o < 199 then (fun _ => 0) else B'.2.1 o) = (if o < 199 then (fun _ => 0) else B.2.1 o)
  by_cases e : o < 199
  · rw [if_pos e, if_pos e]
  · rw [if_neg e, if_neg e]; exact funext fun j => h.2.1 o j (by omega)
theorem wf {α : Type} (f : gM → α) (hf : ∀ M, f M = f (nsW M)) {M M' : gM} (h : nsW M' = nsW M) : f M' = f M := by rw [hf, h, ← hf]
theorem KP.a {B B' : gB} (h : KP B B') {o : Nat} (ho : 192 ≤ o) : B'.2.1 o = B.2.1 o := funext fun j => h.2.1 o j ho
theorem KP.mw {B B' : gB} (h : KP B B') (hw : MW B) : MW B' := ⟨fun k => by rw [h.1 198 k (by omega)]; exact hw.1 k, fun o j h1 h2 => by rw [h.2.1 o j (by omega)]; exact hw.2 o j h1 h2⟩
/-- so much was allocated -/
def AL (G G' : gH) (a s : Nat) : Prop := G.2.1 ≤ G'.2.1 ∧ G'.2.1 ≤ G.2.1 + a ∧ G.2.2 ≤ G'.2.2 ∧ G'.2.2 ≤ G.2.2 + s
theorem AL.rf {G : gH} {a s : Nat} : AL G G a s := ⟨Nat.le_refl _, Nat.le_add_right _ _, Nat.le_refl _, Nat.le_add_right _ _⟩
theorem AL.jk {G : gH} {a s n : Nat} (h : 1 ≤ a) (h' : n ≤ s) : AL G (gjunk G n) a s := ⟨Nat.le_succ _, Nat.add_le_add_left h _, Nat.le_add_right _ _, Nat.add_le_add_left h' _⟩
theorem AL.le {G G' : gH} {a s a' s' : Nat} (h : AL G G' a s) (h1 : a ≤ a') (h2 : s ≤ s') : AL G G' a' s' := ⟨h.1, by have := h.2.1; omega, h.2.2.1, by have := h.2.2.2; omega⟩
theorem AL.tr {G G' G'' : gH} {a s a' s' : Nat} (h : AL G G' a s) (h' : AL G' G'' a' s') : AL G G'' (a + a') (s + s') := ⟨Nat.le_trans h.1 h'.1, by have := h.2.1; have := h'.2.1; omega, Nat.le_trans h.2.2.1 h'.2.2.1, by have := h.2.2.2; have := h'.2.2.2; omega⟩
/-- the room at N is as the model's fields M have it -/
def RM (K : gK) (N : Nat) (G : gH) (B : gB) (M : gM) : Prop := ∃ ro sh st pc cs ps, CR K N G B ro M sh st pc cs ps
section
variable {K : gK} {d N : Nat} {G G' : gH} {B B' : gB} {M M' : gM} {ro : Nat → Nat} {sh st pc : List Nat} {cs : Nat → List Nat} {ps : Nat → List (Nat × Int)}
/-- only what the model has is read of M -/
theorem CR.q (h : CR K N G B ro M sh st pc cs ps) (h1 : ∀ k, k ≠ 0 → M'.1 k = M.1 k) (h2 : ∀ o, 199 ≤ o → M'.2 o = M.2 o) : CR K N G B ro M' sh st pc cs ps := by
  have hM : MS M M' := ⟨fun o ho => h2 o (by omega), h1 _ (by decide), h1 _ (by decide), h1 _ (by decide)⟩
  obtain ⟨q1, q2, q3, q4, q5, q6, q7, q8, q9, q10⟩ := h
  refine ⟨q1, ?_, ?_, q4, q5, q6, ?_, fun i a ha => ⟨(q8 i a ha).1.ms hM, by rw [dl_ms hM]; exact (q8 i a ha).2⟩, fun i a ha => ⟨(q9 i a ha).1.ms hM, (q9 i a ha).2.ms hM⟩, fun j a ha => (q10 j a ha).ms hM⟩
  · unfold CS at q2 ⊢
    rw [h1 1 (by decide), h1 2 (by decide), h1 3 (by decide), h1 4 (by decide), h1 5 (by decide), h1 18 (by decide), h1 31 (by decide), h1 32 (by decide), h2 199 (by decide)]
    exact q2
  · have e : rmT M' = rmT M := by
      unfold rmT
      rw [h2 217 (by decide), h2 216 (by decide)]
    rw [h2 215 (by decide), e]
    exact q3
  · rw [hM.2.1, hM.2.2.1, hM.2.2.2]
    exact q7
/-- only the room's own part is read of B -/
theorem CR.b (h : CR K N G B ro M sh st pc cs ps) (h1 : ∀ o k, o ≤ 128 → o ≠ 65 → B'.1 o k = B.1 o k) (h2 : ∀ o j, o ≤ 128 → B'.2.1 o j = B.2.1 o j) : CR K N G B' ro M sh st pc cs ps := by
  refine h.ln (G' := G) (B' := B') (m := 0) (s := 0) (FR.ln h.1) h.1 ⟨h1 _ _ (by omega) (by omega), h1 _ _ (by omega) (by omega)⟩ ⟨h1 _ _ (by omega) (by omega), h1 _ _ (by omega) (by omega)⟩ ⟨h1 _ _ (by omega) (by omega), h1 _ _ (by omega) (by omega)⟩ MS.rf ?_ ?_
  · obtain ⟨c1, c2, c3, c4, c5, c6, c7, c8, c9⟩ := h.2.1
    exact ⟨(h1 _ _ (by omega) (by omega)).trans c1, (h1 _ _ (by omega) (by omega)).trans c2, (h1 _ _ (by omega) (by omega)).trans c3, (h1 _ _ (by omega) (by omega)).trans c4, (h1 _ _ (by omega) (by omega)).trans c5, (h1 _ _ (by omega) (by omega)).trans c6, (h1 _ _ (by omega) (by omega)).trans c7, (h1 _ _ (by omega) (by omega)).trans c8, fun r c hr hc => (h2 _ _ (by omega)).trans (c9 r c hr hc)⟩
  · obtain ⟨c1, c2, c3⟩ := h.2.2.1
    exact ⟨fun r c hr hc => (h2 _ _ (by omega)).trans (c1 r c hr hc), fun g hg => (h2 _ _ (by omega)).trans (c2 g hg), (h1 _ _ (by omega) (by omega)).trans c3⟩
theorem RM.b (h : RM K N G B M) (h1 : ∀ o k, o ≤ 128 → o ≠ 65 → B'.1 o k = B.1 o k) (h2 : ∀ o j, o ≤ 128 → B'.2.1 o j = B.2.1 o j) (h3 : ∀ k, k ≠ 0 → M'.1 k = M.1 k) (h4 : ∀ o, 199 ≤ o → M'.2 o = M.2 o) : RM K N G B' M' := by
  obtain ⟨ro, sh, st, pc, cs, ps, h⟩ := h
  exact ⟨ro, sh, st, pc, cs, ps, (h.b h1 h2).q h3 h4⟩
theorem RM.jk (h : RM K N G B M) : RM K N (gjunk G 6) B M := by
  obtain ⟨ro, sh, st, pc, cs, ps, h⟩ := h
  exact ⟨ro, sh, st, pc, cs, ps, h.jk⟩
/-- rows filled up to z -/
def fiB (B : gB) (s : Nat) (v : Int) (z : Nat) : gB := (B.1, fun o j => if s ≤ o ∧ o < s + 60 ∧ j < 12 ∧ 12 * (o - s) + j < z then v else B.2.1 o j, B.2.2)
theorem fiB_0 {s : Nat} {v : Int} : fiB B s v 0 = B := Prod.ext rfl (Prod.ext (funext fun o => funext fun j => if_neg (by omega)) rfl)
theorem fiB_s {s : Nat} {v : Int} {r c : Nat} (hr : r < 60) (hc : c < 12) : sA (fiB B s v (12 * r + c)) (s + r) c v = fiB B s v (12 * r + (c + 1)) := by
  refine Prod.ext rfl (Prod.ext (funext fun o => funext fun j => ?_) rfl)
  show (if o = s + r ∧ j = c then v else if s ≤ o ∧ o < s + 60 ∧ j < 12 ∧ 12 * (o - s) + j < 12 * r + c then v else B.2.1 o j) = (if s ≤ o ∧ o < s + 60 ∧ j < 12 ∧ 12 * (o - s) + j < 12 * r + (c + 1) then v else B.2.1 o j)
  by_cases e : o = s + r ∧ j = c
  · rw [if_pos e, if_pos (by omega)]
  · rw [if_neg e]
    by_cases e2 : s ≤ o ∧ o < s + 60 ∧ j < 12 ∧ 12 * (o - s) + j < 12 * r + c
    · rw [if_pos e2, if_pos (by omega)]
    · rw [if_neg e2, if_neg (by omega)]
theorem fiB_at {s : Nat} {v : Int} {r c : Nat} (hr : r < 60) (hc : c < 12) : (fiB B s v 720).2.1 (s + r) c = v := if_pos (by omega)
theorem fiB_ne {s o j : Nat} {v : Int} {z : Nat} (h : o < s ∨ s + 60 ≤ o) : (fiB B s v z).2.1 o j = B.2.1 o j := if_neg (by omega)
theorem l_10_15 {b : Int} {x : gO} {r : Nat} (hr : r < 60) (hx : gRn K d 10 7 [some (.ref N), some (.int (I b)), some (.int (I ((r + 1 : Nat) : Int))), some (.int (I 12))] [] (hH K N G (fiB B 5 0 (12 * (r + 1)))) = some x) : ∀ (n : Nat) (z : Int), 0 ≤ z → z + n = 12 → gRn K d 10 15 [some (.ref N), some (.int (I b)), some (.int (I (r : Int))), some (.int (I z))] [] (hH K N G (fiB B 5 0 (12 * r + z.toNat))) = some x := by
  intro n
  induction n with
  | zero =>
    intro z hz hn
    obtain rfl : z = 12 := by omega
    rw [show 12 * r + (12 : Int).toNat = 12 * (r + 1) by omega]
    refine e_10_15 _ ?_
    unfold t_10_15
    rw [show ((r + 1 : Nat) : Int) = (r : Int) + 1 by omega] at hx
    simp (disch := omega) only [rI_d, rJ_d, rR_d, rN_d, wF_d, xI_d, xJ_d, xD_d, xQ_d, yI_d, yJ_d, yD_d, yQ_d, dI_s, dJ_s, dR_s, dN_s, dN_n, dH_s, dX_s, dL_s, dD_s, dQ_s, bC_r, bC_t, kI_s, kJ_s, kF_s, kD_s, kR_s, kV_s, I_lit, I_neg, I_add, I_sub, I_mul, I_ltT, I_ltF, I_leT, I_leF, I_eqT, I_eqF, c_int, c_long, c_obj, c_arr, c_bool, c_boolN, c_boolF, vn_bool, c_charN, vn_char, b2_f, b2_t, Int.toNat_natCast, ↓reduceIte, eq_self, and_self, and_true, true_and, not_false_eq_true, not_true_eq_false, L_0_0, L_0_1, L_0_2, L_0_3, L_0_4, L_0_5, L_0_6, L_0_7, L_0_8, L_0_9, L_0_10, L_0_11, L_0_12, L_0_13, L_0_14, L_0_15, C_0, L_1_0, L_1_1, L_1_2, C_1, L_2_0, L_2_1, L_2_2, C_2, L_3_0, L_3_1, L_3_2, C_3, L_65_0, L_65_1, L_65_2, L_65_3, L_65_4, C_65, L_66_0, L_66_1, L_66_2, L_66_3, C_66, L_129_0, L_129_1, L_129_2, L_129_3, C_129, L_198_0, L_198_1, L_198_2, L_198_3, L_198_4, L_198_5, L_198_6, L_198_7, L_198_8, L_198_9, L_198_10, L_198_11, L_198_12, L_198_13, L_198_14, L_198_15, L_198_16, L_198_17, L_198_18, L_198_19, L_198_20, L_198_21, L_198_22, L_198_23, L_198_24, L_198_25, L_198_26, L_198_27, L_198_28, L_198_29, L_198_30, L_198_31, L_198_32, L_198_33, L_198_34, L_198_35, L_198_36, L_198_37, L_198_38, L_198_39, L_198_40, L_198_41, L_198_42, L_198_43, L_198_44, L_198_45, L_198_46, L_198_47, L_198_48, C_198, A_199, A_200, A_201, A_202, A_203, A_204, A_205, A_206, A_207, A_208, A_209, A_210, A_211, A_212, A_213, A_214, A_215, A_216, A_217, A_218, A_219, A_220, A_221, A_222, A_223, A_224, A_225, A_226, A_227, A_228, A_128, A_191, A_rf, A_rs, A_rt, Q_4, Q_67, Q_130, t_10_0_1, t_10_7_1, t_10_15_1, t_10_15_2, t_10_15_3, t_10_0_1, t_10_7_1, t_10_15_1, t_10_15_2, t_10_15_3, hx]
  | succ n ih =>
    intro z hz hn
    have := ih (z + 1) (by omega) (by omega)
    rw [show (z + 1).toNat = z.toNat + 1 by omega, ← fiB_s (by omega) (by omega)] at this
    refine e_10_15 _ ?_
    unfold t_10_15
    simp (disch := omega) only [rI_d, rJ_d, rR_d, rN_d, wF_d, xI_d, xJ_d, xD_d, xQ_d, yI_d, yJ_d, yD_d, yQ_d, dI_s, dJ_s, dR_s, dN_s, dN_n, dH_s, dX_s, dL_s, dD_s, dQ_s, bC_r, bC_t, kI_s, kJ_s, kF_s, kD_s, kR_s, kV_s, I_lit, I_neg, I_add, I_sub, I_mul, I_ltT, I_ltF, I_leT, I_leF, I_eqT, I_eqF, c_int, c_long, c_obj, c_arr, c_bool, c_boolN, c_boolF, vn_bool, c_charN, vn_char, b2_f, b2_t, Int.toNat_natCast, ↓reduceIte, eq_self, and_self, and_true, true_and, not_false_eq_true, not_true_eq_false, L_0_0, L_0_1, L_0_2, L_0_3, L_0_4, L_0_5, L_0_6, L_0_7, L_0_8, L_0_9, L_0_10, L_0_11, L_0_12, L_0_13, L_0_14, L_0_15, C_0, L_1_0, L_1_1, L_1_2, C_1, L_2_0, L_2_1, L_2_2, C_2, L_3_0, L_3_1, L_3_2, C_3, L_65_0, L_65_1, L_65_2, L_65_3, L_65_4, C_65, L_66_0, L_66_1, L_66_2, L_66_3, C_66, L_129_0, L_129_1, L_129_2, L_129_3, C_129, L_198_0, L_198_1, L_198_2, L_198_3, L_198_4, L_198_5, L_198_6, L_198_7, L_198_8, L_198_9, L_198_10, L_198_11, L_198_12, L_198_13, L_198_14, L_198_15, L_198_16, L_198_17, L_198_18, L_198_19, L_198_20, L_198_21, L_198_22, L_198_23, L_198_24, L_198_25, L_198_26, L_198_27, L_198_28, L_198_29, L_198_30, L_198_31, L_198_32, L_198_33, L_198_34, L_198_35, L_198_36, L_198_37, L_198_38, L_198_39, L_198_40, L_198_41, L_198_42, L_198_43, L_198_44, L_198_45, L_198_46, L_198_47, L_198_48, C_198, A_199, A_200, A_201, A_202, A_203, A_204, A_205, A_206, A_207, A_208, A_209, A_210, A_211, A_212, A_213, A_214, A_215, A_216, A_217, A_218, A_219, A_220, A_221, A_222, A_223, A_224, A_225, A_226, A_227, A_228, A_128, A_191, A_rf, A_rs, A_rt, Q_4, Q_67, Q_130, t_10_0_1, t_10_7_1, t_10_15_1, t_10_15_2, t_10_15_3, t_10_0_1, t_10_7_1, t_10_15_1, t_10_15_2, t_10_15_3, M_0_8, M_0_9, M_0_10, M_0_11, M_0_12, M_0_13, M_0_14, M_0_15, M_1_0, M_1_1, M_1_2, M_2_0, M_2_1, M_2_2, M_3_0, M_3_1, M_3_2, M_65_0, M_65_1, M_65_2, M_65_3, M_65_4, M_66_2, M_129_2, M_198_0, M_198_1, M_198_2, M_198_3, M_198_4, M_198_5, M_198_7, M_198_17, M_198_18, M_198_28, M_198_31, M_198_32, M_198_33, M_198_36, M_198_37, M_198_38, M_198_39, M_198_41, M_198_48, S_199, S_200, S_201, S_202, S_203, S_204, S_205, S_206, S_207, S_208, S_209, S_210, S_211, S_212, S_213, S_214, S_215, S_216, S_217, S_218, S_219, S_220, S_221, S_222, S_223, S_224, S_225, S_226, S_227, S_228, S_128, S_191, S_rf, S_rs, S_rt, sI_eq, sI_ne, sI_21, sI_22, sA_eq, sA_ne, sA_1, sA_3, iltT, iltF, ileT, ileF, ieqT, ieqF, cif_T, cif_F, not_true_eq_false, not_false_eq_true, or_true, or_false, true_or, false_or, false_and, and_false, ne_eq, this]
theorem l_10_7 {b : Int} : ∀ (n : Nat) (r : Nat) (o3 : Option Value), r + n = 60 → gRn K d 10 7 [some (.ref N), some (.int (I b)), some (.int (I (r : Int))), o3] [] (hH K N G (fiB B 5 0 (12 * r))) = some (.inl (some (.int (I b))), hH K N G (sI (fiB B 5 0 720) 0 12 0)) := by
  intro n
  induction n with
  | zero =>
    intro r o3 hn
    obtain rfl : r = 60 := by omega
    refine e_10_7 _ ?_
    unfold t_10_7
    simp (disch := omega) only [rI_d, rJ_d, rR_d, rN_d, wF_d, xI_d, xJ_d, xD_d, xQ_d, yI_d, yJ_d, yD_d, yQ_d, dI_s, dJ_s, dR_s, dN_s, dN_n, dH_s, dX_s, dL_s, dD_s, dQ_s, bC_r, bC_t, kI_s, kJ_s, kF_s, kD_s, kR_s, kV_s, I_lit, I_neg, I_add, I_sub, I_mul, I_ltT, I_ltF, I_leT, I_leF, I_eqT, I_eqF, c_int, c_long, c_obj, c_arr, c_bool, c_boolN, c_boolF, vn_bool, c_charN, vn_char, b2_f, b2_t, Int.toNat_natCast, ↓reduceIte, eq_self, and_self, and_true, true_and, not_false_eq_true, not_true_eq_false, L_0_0, L_0_1, L_0_2, L_0_3, L_0_4, L_0_5, L_0_6, L_0_7, L_0_8, L_0_9, L_0_10, L_0_11, L_0_12, L_0_13, L_0_14, L_0_15, C_0, L_1_0, L_1_1, L_1_2, C_1, L_2_0, L_2_1, L_2_2, C_2, L_3_0, L_3_1, L_3_2, C_3, L_65_0, L_65_1, L_65_2, L_65_3, L_65_4, C_65, L_66_0, L_66_1, L_66_2, L_66_3, C_66, L_129_0, L_129_1, L_129_2, L_129_3, C_129, L_198_0, L_198_1, L_198_2, L_198_3, L_198_4, L_198_5, L_198_6, L_198_7, L_198_8, L_198_9, L_198_10, L_198_11, L_198_12, L_198_13, L_198_14, L_198_15, L_198_16, L_198_17, L_198_18, L_198_19, L_198_20, L_198_21, L_198_22, L_198_23, L_198_24, L_198_25, L_198_26, L_198_27, L_198_28, L_198_29, L_198_30, L_198_31, L_198_32, L_198_33, L_198_34, L_198_35, L_198_36, L_198_37, L_198_38, L_198_39, L_198_40, L_198_41, L_198_42, L_198_43, L_198_44, L_198_45, L_198_46, L_198_47, L_198_48, C_198, A_199, A_200, A_201, A_202, A_203, A_204, A_205, A_206, A_207, A_208, A_209, A_210, A_211, A_212, A_213, A_214, A_215, A_216, A_217, A_218, A_219, A_220, A_221, A_222, A_223, A_224, A_225, A_226, A_227, A_228, A_128, A_191, A_rf, A_rs, A_rt, Q_4, Q_67, Q_130, t_10_0_1, t_10_7_1, t_10_15_1, t_10_15_2, t_10_15_3, t_10_0_1, t_10_7_1, t_10_15_1, t_10_15_2, t_10_15_3, M_0_8, M_0_9, M_0_10, M_0_11, M_0_12, M_0_13, M_0_14, M_0_15, M_1_0, M_1_1, M_1_2, M_2_0, M_2_1, M_2_2, M_3_0, M_3_1, M_3_2, M_65_0, M_65_1, M_65_2, M_65_3, M_65_4, M_66_2, M_129_2, M_198_0, M_198_1, M_198_2, M_198_3, M_198_4, M_198_5, M_198_7, M_198_17, M_198_18, M_198_28, M_198_31, M_198_32, M_198_33, M_198_36, M_198_37, M_198_38, M_198_39, M_198_41, M_198_48, S_199, S_200, S_201, S_202, S_203, S_204, S_205, S_206, S_207, S_208, S_209, S_210, S_211, S_212, S_213, S_214, S_215, S_216, S_217, S_218, S_219, S_220, S_221, S_222, S_223, S_224, S_225, S_226, S_227, S_228, S_128, S_191, S_rf, S_rs, S_rt, sI_eq, sI_ne, sI_21, sI_22, sA_eq, sA_ne, sA_1, sA_3, iltT, iltF, ileT, ileF, ieqT, ieqF, cif_T, cif_F, not_true_eq_false, not_false_eq_true, or_true, or_false, true_or, false_or, false_and, and_false, ne_eq]
  | succ n ih =>
    intro r o3 hn
    have := ih (r + 1) (some (.int (I 12))) (by omega)
    have := l_10_15 (K := K) (d := d) (G := G) (by omega) this 12 0 (by omega) (by omega)
    rw [show 12 * r + (0 : Int).toNat = 12 * r by omega] at this
    refine e_10_7 _ ?_
    unfold t_10_7
    simp (disch := omega) only [rI_d, rJ_d, rR_d, rN_d, wF_d, xI_d, xJ_d, xD_d, xQ_d, yI_d, yJ_d, yD_d, yQ_d, dI_s, dJ_s, dR_s, dN_s, dN_n, dH_s, dX_s, dL_s, dD_s, dQ_s, bC_r, bC_t, kI_s, kJ_s, kF_s, kD_s, kR_s, kV_s, I_lit, I_neg, I_add, I_sub, I_mul, I_ltT, I_ltF, I_leT, I_leF, I_eqT, I_eqF, c_int, c_long, c_obj, c_arr, c_bool, c_boolN, c_boolF, vn_bool, c_charN, vn_char, b2_f, b2_t, Int.toNat_natCast, ↓reduceIte, eq_self, and_self, and_true, true_and, not_false_eq_true, not_true_eq_false, L_0_0, L_0_1, L_0_2, L_0_3, L_0_4, L_0_5, L_0_6, L_0_7, L_0_8, L_0_9, L_0_10, L_0_11, L_0_12, L_0_13, L_0_14, L_0_15, C_0, L_1_0, L_1_1, L_1_2, C_1, L_2_0, L_2_1, L_2_2, C_2, L_3_0, L_3_1, L_3_2, C_3, L_65_0, L_65_1, L_65_2, L_65_3, L_65_4, C_65, L_66_0, L_66_1, L_66_2, L_66_3, C_66, L_129_0, L_129_1, L_129_2, L_129_3, C_129, L_198_0, L_198_1, L_198_2, L_198_3, L_198_4, L_198_5, L_198_6, L_198_7, L_198_8, L_198_9, L_198_10, L_198_11, L_198_12, L_198_13, L_198_14, L_198_15, L_198_16, L_198_17, L_198_18, L_198_19, L_198_20, L_198_21, L_198_22, L_198_23, L_198_24, L_198_25, L_198_26, L_198_27, L_198_28, L_198_29, L_198_30, L_198_31, L_198_32, L_198_33, L_198_34, L_198_35, L_198_36, L_198_37, L_198_38, L_198_39, L_198_40, L_198_41, L_198_42, L_198_43, L_198_44, L_198_45, L_198_46, L_198_47, L_198_48, C_198, A_199, A_200, A_201, A_202, A_203, A_204, A_205, A_206, A_207, A_208, A_209, A_210, A_211, A_212, A_213, A_214, A_215, A_216, A_217, A_218, A_219, A_220, A_221, A_222, A_223, A_224, A_225, A_226, A_227, A_228, A_128, A_191, A_rf, A_rs, A_rt, Q_4, Q_67, Q_130, t_10_0_1, t_10_7_1, t_10_15_1, t_10_15_2, t_10_15_3, t_10_0_1, t_10_7_1, t_10_15_1, t_10_15_2, t_10_15_3, this]
theorem w_10 (hd : 1 ≤ d) (hR : CR K N G B ro M sh st pc cs ps) : gCa K d 10 [.ref N] (hH K N G B) = some (.inl (some (.int (I ((M.1 5))))), hH K N G (sI (fiB B 5 0 720) 0 12 0)) := by
  obtain ⟨d, rfl, hd'⟩ := d_succ (show 0 + 1 ≤ d by omega)
  have e2 := hR.2.1.2.2.2.2.1
  have := l_10_7 (K := K) (d := d) (N := N) (G := G) (B := B) (b := (M.1 5)) 60 0 none (by omega)
  rw [Nat.mul_zero, fiB_0] at this
  refine c_10 _ ?_
  unfold t_10_0
  simp (disch := omega) only [rI_d, rJ_d, rR_d, rN_d, wF_d, xI_d, xJ_d, xD_d, xQ_d, yI_d, yJ_d, yD_d, yQ_d, dI_s, dJ_s, dR_s, dN_s, dN_n, dH_s, dX_s, dL_s, dD_s, dQ_s, bC_r, bC_t, kI_s, kJ_s, kF_s, kD_s, kR_s, kV_s, I_lit, I_neg, I_add, I_sub, I_mul, I_ltT, I_ltF, I_leT, I_leF, I_eqT, I_eqF, c_int, c_long, c_obj, c_arr, c_bool, c_boolN, c_boolF, vn_bool, c_charN, vn_char, b2_f, b2_t, Int.toNat_natCast, ↓reduceIte, eq_self, and_self, and_true, true_and, not_false_eq_true, not_true_eq_false, L_0_0, L_0_1, L_0_2, L_0_3, L_0_4, L_0_5, L_0_6, L_0_7, L_0_8, L_0_9, L_0_10, L_0_11, L_0_12, L_0_13, L_0_14, L_0_15, C_0, L_1_0, L_1_1, L_1_2, C_1, L_2_0, L_2_1, L_2_2, C_2, L_3_0, L_3_1, L_3_2, C_3, L_65_0, L_65_1, L_65_2, L_65_3, L_65_4, C_65, L_66_0, L_66_1, L_66_2, L_66_3, C_66, L_129_0, L_129_1, L_129_2, L_129_3, C_129, L_198_0, L_198_1, L_198_2, L_198_3, L_198_4, L_198_5, L_198_6, L_198_7, L_198_8, L_198_9, L_198_10, L_198_11, L_198_12, L_198_13, L_198_14, L_198_15, L_198_16, L_198_17, L_198_18, L_198_19, L_198_20, L_198_21, L_198_22, L_198_23, L_198_24, L_198_25, L_198_26, L_198_27, L_198_28, L_198_29, L_198_30, L_198_31, L_198_32, L_198_33, L_198_34, L_198_35, L_198_36, L_198_37, L_198_38, L_198_39, L_198_40, L_198_41, L_198_42, L_198_43, L_198_44, L_198_45, L_198_46, L_198_47, L_198_48, C_198, A_199, A_200, A_201, A_202, A_203, A_204, A_205, A_206, A_207, A_208, A_209, A_210, A_211, A_212, A_213, A_214, A_215, A_216, A_217, A_218, A_219, A_220, A_221, A_222, A_223, A_224, A_225, A_226, A_227, A_228, A_128, A_191, A_rf, A_rs, A_rt, Q_4, Q_67, Q_130, t_10_0_1, t_10_7_1, t_10_15_1, t_10_15_2, t_10_15_3, e2]
  exact this
theorem w_130 (hd : 2 ≤ d) (hw : MW B) (hR : CR K N G B ro (tw B) sh st pc cs ps) {n : Int} (h1 : R32 n) : gCa K d 130 [.ref N, .int (I n)] (hH K N G B) =
    some (cif (k_addCloth (tw B) n = 0) (.inl (some (.int (I ((B.1 198 31) + n)))), hH K N G (sI B 0 14 ((B.1 198 31) + n))) (.inr 0, hH K N (gjunk G 6) B)) := by
  obtain ⟨d, rfl, hd'⟩ := d_succ (show 1 + 1 ≤ d by omega)
  have q := mw_roll hw
  have e : B.1 0 14 = (B.1 198 31) := hR.2.1.2.2.2.2.2.2.1
  have T0 := w_149T (K := K) (d := d) (H := hH K N G B) (by omega)
  have F0 := w_149F (K := K) (d := d) (H := hH K N G B) (by omega)
  refine c_130 _ ?_
  by_cases c1 : 1 ≤ n ∧ n ≤ 9999
  · by_cases c2 : 999999 < (B.1 198 31) + n
    · have hk : k_addCloth (tw B) n = 1 := by
        unfold k_addCloth
        rw [cifT (Or.inr c2)]
      rw [hk]
      unfold t_130_0
      simp (disch := omega) only [rI_d, rJ_d, rR_d, rN_d, wF_d, xI_d, xJ_d, xD_d, xQ_d, yI_d, yJ_d, yD_d, yQ_d, dI_s, dJ_s, dR_s, dN_s, dN_n, dH_s, dX_s, dL_s, dD_s, dQ_s, bC_r, bC_t, kI_s, kJ_s, kF_s, kD_s, kR_s, kV_s, I_lit, I_neg, I_add, I_sub, I_mul, I_ltT, I_ltF, I_leT, I_leF, I_eqT, I_eqF, c_int, c_long, c_obj, c_arr, c_bool, c_boolN, c_boolF, vn_bool, c_charN, vn_char, b2_f, b2_t, Int.toNat_natCast, ↓reduceIte, eq_self, and_self, and_true, true_and, not_false_eq_true, not_true_eq_false, L_0_0, L_0_1, L_0_2, L_0_3, L_0_4, L_0_5, L_0_6, L_0_7, L_0_8, L_0_9, L_0_10, L_0_11, L_0_12, L_0_13, L_0_14, L_0_15, C_0, L_1_0, L_1_1, L_1_2, C_1, L_2_0, L_2_1, L_2_2, C_2, L_3_0, L_3_1, L_3_2, C_3, L_65_0, L_65_1, L_65_2, L_65_3, L_65_4, C_65, L_66_0, L_66_1, L_66_2, L_66_3, C_66, L_129_0, L_129_1, L_129_2, L_129_3, C_129, L_198_0, L_198_1, L_198_2, L_198_3, L_198_4, L_198_5, L_198_6, L_198_7, L_198_8, L_198_9, L_198_10, L_198_11, L_198_12, L_198_13, L_198_14, L_198_15, L_198_16, L_198_17, L_198_18, L_198_19, L_198_20, L_198_21, L_198_22, L_198_23, L_198_24, L_198_25, L_198_26, L_198_27, L_198_28, L_198_29, L_198_30, L_198_31, L_198_32, L_198_33, L_198_34, L_198_35, L_198_36, L_198_37, L_198_38, L_198_39, L_198_40, L_198_41, L_198_42, L_198_43, L_198_44, L_198_45, L_198_46, L_198_47, L_198_48, C_198, A_199, A_200, A_201, A_202, A_203, A_204, A_205, A_206, A_207, A_208, A_209, A_210, A_211, A_212, A_213, A_214, A_215, A_216, A_217, A_218, A_219, A_220, A_221, A_222, A_223, A_224, A_225, A_226, A_227, A_228, A_128, A_191, A_rf, A_rs, A_rt, Q_4, Q_67, Q_130, t_130_0_1, t_130_0_2, t_130_0_3, t_130_0_4, t_130_0_5, t_130_0_6, t_130_0_7, t_130_0_8, t_130_0_9, t_130_0_10, t_130_0_11, t_130_0_12, t_130_0_13, t_130_0_14, M_0_8, M_0_9, M_0_10, M_0_11, M_0_12, M_0_13, M_0_14, M_0_15, M_1_0, M_1_1, M_1_2, M_2_0, M_2_1, M_2_2, M_3_0, M_3_1, M_3_2, M_65_0, M_65_1, M_65_2, M_65_3, M_65_4, M_66_2, M_129_2, M_198_0, M_198_1, M_198_2, M_198_3, M_198_4, M_198_5, M_198_7, M_198_17, M_198_18, M_198_28, M_198_31, M_198_32, M_198_33, M_198_36, M_198_37, M_198_38, M_198_39, M_198_41, M_198_48, S_199, S_200, S_201, S_202, S_203, S_204, S_205, S_206, S_207, S_208, S_209, S_210, S_211, S_212, S_213, S_214, S_215, S_216, S_217, S_218, S_219, S_220, S_221, S_222, S_223, S_224, S_225, S_226, S_227, S_228, S_128, S_191, S_rf, S_rs, S_rt, sI_eq, sI_ne, sI_21, sI_22, sA_eq, sA_ne, sA_1, sA_3, iltT, iltF, ileT, ileF, ieqT, ieqF, cif_T, cif_F, not_true_eq_false, not_false_eq_true, or_true, or_false, true_or, false_or, false_and, and_false, ne_eq, w_148, c1, e, F0, gjunk_hH]
    · have hk : k_addCloth (tw B) n = 0 := by
        unfold k_addCloth
        rw [cifF (by rintro (h | h); exact h c1; exact c2 h)]
      rw [hk]
      unfold t_130_0
      simp (disch := omega) only [rI_d, rJ_d, rR_d, rN_d, wF_d, xI_d, xJ_d, xD_d, xQ_d, yI_d, yJ_d, yD_d, yQ_d, dI_s, dJ_s, dR_s, dN_s, dN_n, dH_s, dX_s, dL_s, dD_s, dQ_s, bC_r, bC_t, kI_s, kJ_s, kF_s, kD_s, kR_s, kV_s, I_lit, I_neg, I_add, I_sub, I_mul, I_ltT, I_ltF, I_leT, I_leF, I_eqT, I_eqF, c_int, c_long, c_obj, c_arr, c_bool, c_boolN, c_boolF, vn_bool, c_charN, vn_char, b2_f, b2_t, Int.toNat_natCast, ↓reduceIte, eq_self, and_self, and_true, true_and, not_false_eq_true, not_true_eq_false, L_0_0, L_0_1, L_0_2, L_0_3, L_0_4, L_0_5, L_0_6, L_0_7, L_0_8, L_0_9, L_0_10, L_0_11, L_0_12, L_0_13, L_0_14, L_0_15, C_0, L_1_0, L_1_1, L_1_2, C_1, L_2_0, L_2_1, L_2_2, C_2, L_3_0, L_3_1, L_3_2, C_3, L_65_0, L_65_1, L_65_2, L_65_3, L_65_4, C_65, L_66_0, L_66_1, L_66_2, L_66_3, C_66, L_129_0, L_129_1, L_129_2, L_129_3, C_129, L_198_0, L_198_1, L_198_2, L_198_3, L_198_4, L_198_5, L_198_6, L_198_7, L_198_8, L_198_9, L_198_10, L_198_11, L_198_12, L_198_13, L_198_14, L_198_15, L_198_16, L_198_17, L_198_18, L_198_19, L_198_20, L_198_21, L_198_22, L_198_23, L_198_24, L_198_25, L_198_26, L_198_27, L_198_28, L_198_29, L_198_30, L_198_31, L_198_32, L_198_33, L_198_34, L_198_35, L_198_36, L_198_37, L_198_38, L_198_39, L_198_40, L_198_41, L_198_42, L_198_43, L_198_44, L_198_45, L_198_46, L_198_47, L_198_48, C_198, A_199, A_200, A_201, A_202, A_203, A_204, A_205, A_206, A_207, A_208, A_209, A_210, A_211, A_212, A_213, A_214, A_215, A_216, A_217, A_218, A_219, A_220, A_221, A_222, A_223, A_224, A_225, A_226, A_227, A_228, A_128, A_191, A_rf, A_rs, A_rt, Q_4, Q_67, Q_130, t_130_0_1, t_130_0_2, t_130_0_3, t_130_0_4, t_130_0_5, t_130_0_6, t_130_0_7, t_130_0_8, t_130_0_9, t_130_0_10, t_130_0_11, t_130_0_12, t_130_0_13, t_130_0_14, M_0_8, M_0_9, M_0_10, M_0_11, M_0_12, M_0_13, M_0_14, M_0_15, M_1_0, M_1_1, M_1_2, M_2_0, M_2_1, M_2_2, M_3_0, M_3_1, M_3_2, M_65_0, M_65_1, M_65_2, M_65_3, M_65_4, M_66_2, M_129_2, M_198_0, M_198_1, M_198_2, M_198_3, M_198_4, M_198_5, M_198_7, M_198_17, M_198_18, M_198_28, M_198_31, M_198_32, M_198_33, M_198_36, M_198_37, M_198_38, M_198_39, M_198_41, M_198_48, S_199, S_200, S_201, S_202, S_203, S_204, S_205, S_206, S_207, S_208, S_209, S_210, S_211, S_212, S_213, S_214, S_215, S_216, S_217, S_218, S_219, S_220, S_221, S_222, S_223, S_224, S_225, S_226, S_227, S_228, S_128, S_191, S_rf, S_rs, S_rt, sI_eq, sI_ne, sI_21, sI_22, sA_eq, sA_ne, sA_1, sA_3, iltT, iltF, ileT, ileF, ieqT, ieqF, cif_T, cif_F, not_true_eq_false, not_false_eq_true, or_true, or_false, true_or, false_or, false_and, and_false, ne_eq, w_148, c1, e, T0]
  · have hk : k_addCloth (tw B) n = 1 := by
      unfold k_addCloth
      rw [cifT (Or.inl c1)]
    rw [hk]
    unfold t_130_0
    simp (disch := omega) only [rI_d, rJ_d, rR_d, rN_d, wF_d, xI_d, xJ_d, xD_d, xQ_d, yI_d, yJ_d, yD_d, yQ_d, dI_s, dJ_s, dR_s, dN_s, dN_n, dH_s, dX_s, dL_s, dD_s, dQ_s, bC_r, bC_t, kI_s, kJ_s, kF_s, kD_s, kR_s, kV_s, I_lit, I_neg, I_add, I_sub, I_mul, I_ltT, I_ltF, I_leT, I_leF, I_eqT, I_eqF, c_int, c_long, c_obj, c_arr, c_bool, c_boolN, c_boolF, vn_bool, c_charN, vn_char, b2_f, b2_t, Int.toNat_natCast, ↓reduceIte, eq_self, and_self, and_true, true_and, not_false_eq_true, not_true_eq_false, L_0_0, L_0_1, L_0_2, L_0_3, L_0_4, L_0_5, L_0_6, L_0_7, L_0_8, L_0_9, L_0_10, L_0_11, L_0_12, L_0_13, L_0_14, L_0_15, C_0, L_1_0, L_1_1, L_1_2, C_1, L_2_0, L_2_1, L_2_2, C_2, L_3_0, L_3_1, L_3_2, C_3, L_65_0, L_65_1, L_65_2, L_65_3, L_65_4, C_65, L_66_0, L_66_1, L_66_2, L_66_3, C_66, L_129_0, L_129_1, L_129_2, L_129_3, C_129, L_198_0, L_198_1, L_198_2, L_198_3, L_198_4, L_198_5, L_198_6, L_198_7, L_198_8, L_198_9, L_198_10, L_198_11, L_198_12, L_198_13, L_198_14, L_198_15, L_198_16, L_198_17, L_198_18, L_198_19, L_198_20, L_198_21, L_198_22, L_198_23, L_198_24, L_198_25, L_198_26, L_198_27, L_198_28, L_198_29, L_198_30, L_198_31, L_198_32, L_198_33, L_198_34, L_198_35, L_198_36, L_198_37, L_198_38, L_198_39, L_198_40, L_198_41, L_198_42, L_198_43, L_198_44, L_198_45, L_198_46, L_198_47, L_198_48, C_198, A_199, A_200, A_201, A_202, A_203, A_204, A_205, A_206, A_207, A_208, A_209, A_210, A_211, A_212, A_213, A_214, A_215, A_216, A_217, A_218, A_219, A_220, A_221, A_222, A_223, A_224, A_225, A_226, A_227, A_228, A_128, A_191, A_rf, A_rs, A_rt, Q_4, Q_67, Q_130, t_130_0_1, t_130_0_2, t_130_0_3, t_130_0_4, t_130_0_5, t_130_0_6, t_130_0_7, t_130_0_8, t_130_0_9, t_130_0_10, t_130_0_11, t_130_0_12, t_130_0_13, t_130_0_14, M_0_8, M_0_9, M_0_10, M_0_11, M_0_12, M_0_13, M_0_14, M_0_15, M_1_0, M_1_1, M_1_2, M_2_0, M_2_1, M_2_2, M_3_0, M_3_1, M_3_2, M_65_0, M_65_1, M_65_2, M_65_3, M_65_4, M_66_2, M_129_2, M_198_0, M_198_1, M_198_2, M_198_3, M_198_4, M_198_5, M_198_7, M_198_17, M_198_18, M_198_28, M_198_31, M_198_32, M_198_33, M_198_36, M_198_37, M_198_38, M_198_39, M_198_41, M_198_48, S_199, S_200, S_201, S_202, S_203, S_204, S_205, S_206, S_207, S_208, S_209, S_210, S_211, S_212, S_213, S_214, S_215, S_216, S_217, S_218, S_219, S_220, S_221, S_222, S_223, S_224, S_225, S_226, S_227, S_228, S_128, S_191, S_rf, S_rs, S_rt, sI_eq, sI_ne, sI_21, sI_22, sA_eq, sA_ne, sA_1, sA_3, iltT, iltF, ileT, ileF, ieqT, ieqF, cif_T, cif_F, not_true_eq_false, not_false_eq_true, or_true, or_false, true_or, false_or, false_and, and_false, ne_eq, w_148, c1, F0, gjunk_hH]
end
