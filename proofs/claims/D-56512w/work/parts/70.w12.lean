/-! PURE 21: the model's queue -/
set_option maxRecDepth 100000
def qn (M : gM) (st z : Int) : Int := if (M.1 3) ≠ 0 ∧ M.2 201 z.toNat = 0 then (M.2 218 (8 * st + z).toNat + 1) / 2 else M.2 218 (8 * st + z).toNat
def qo (M : gM) (st z : Int) : Int := if M.2 201 z.toNat ≠ 0 ∧ (M.1 3) = 0 then M.2 218 (8 * st + z).toNat else 0
def qK (M : gM) (st z : Int) : List Int := List.replicate (qn M st z).toNat z ++ List.replicate (qo M st z).toNat (z + 8)
def qP (M : gM) (st : Int) : Nat → List Int
  | 0 => []
  | n + 1 => qP M st n ++ qK M st (n : Int)
/-- the pieces of a garment -/
def qQ (M : gM) (st : Int) : List Int := qP M st ((M.1 7)).toNat
def QF (f : Nat → Int) (L : List Int) : Prop := (∀ j x, L[j]? = some x → j < 4 → f j = x) ∧ ∀ j, 0 ≤ f j ∧ f j ≤ 15
def qm (n : Nat) : Int := if n ≤ 4 then n else 4
def qB (B : gB) (f : Nat → Int) (n : Nat) : gB := stA (sI B 198 41 (qm n)) 222 f
theorem QF.app {f : Nat → Int} {L : List Int} {x : Int} (h : QF f L) (hx : 0 ≤ x ∧ x ≤ 15) (hl : L.length < 4) : QF (fun q => if q = L.length then x else f q) (L ++ [x]) := by
  refine ⟨fun j y hj h4 => ?_, fun j => ?_⟩
  · show (if j = L.length then x else f j) = y
    by_cases e : j = L.length
    · subst e
      rw [List.getElem?_append_right (Nat.le_refl _), Nat.sub_self] at hj
      cases hj
      exact if_pos rfl
    · rw [if_neg e]
      have hj2 := (List.getElem?_eq_some_iff.mp hj).1
      rw [List.length_append] at hj2
      have : j < L.length := by
        have : [x].length = 1 := rfl
        omega
      rw [List.getElem?_append_left this] at hj
      exact h.1 j y hj h4
  · show 0 ≤ (if j = L.length then x else f j) ∧ (if j = L.length then x else f j) ≤ 15
    split
    · exact hx
    · exact h.2 j
theorem QF.big {f : Nat → Int} {L : List Int} {x : Int} (h : QF f L) (hl : 4 ≤ L.length) : QF f (L ++ [x]) := by
  refine ⟨fun j y hj h4 => ?_, h.2⟩
  rw [List.getElem?_append_left (by omega)] at hj
  exact h.1 j y hj h4
theorem qK_at {M : gM} {st z : Int} {j : Nat} (hn : 0 ≤ qn M st z) (ho : 0 ≤ qo M st z) (hj : (j : Int) < qn M st z + qo M st z) : (qK M st z)[j]? = some (if (j : Int) < qn M st z then z else z + 8) := by
  unfold qK
  by_cases h : (j : Int) < qn M st z
  · rw [if_pos h, List.getElem?_append_left (by rw [List.length_replicate]; omega), List.getElem?_replicate, if_pos (by omega)]
  · rw [if_neg h, List.getElem?_append_right (by rw [List.length_replicate]; omega), List.length_replicate, List.getElem?_replicate, if_pos (by omega)]
theorem qK_len {M : gM} {st z : Int} (hn : 0 ≤ qn M st z) (ho : 0 ≤ qo M st z) : ((qK M st z).length : Int) = qn M st z + qo M st z := by
  unfold qK
  rw [List.length_append, List.length_replicate, List.length_replicate]
  omega
theorem q_b {B : gB} (hw : MW B) {st z : Int} : (0 ≤ qn (tw B) st z ∧ qn (tw B) st z ≤ 4) ∧ 0 ≤ qo (tw B) st z ∧ qo (tw B) st z ≤ 4 := by
  have h := mw_count hw (8 * st + z).toNat
  unfold qn qo
  dsimp only [tw]
  repeat' split
  all_goals omega
section
variable {K : gK} {d N : Nat} {G : gH} {B : gB}
theorem l_127_2 (hw : MW B) {s z : Int} {L0 : List Int} {R : List Int} (hz : 0 ≤ z ∧ z < 8) (hlen : L0.length ≤ 64)
    (hout : ∀ (f : Nat → Int) (o4 o5 o6 o7 : Option Value), QF f (L0 ++ qK (tw B) s z) → ∃ f', gRn K d 127 9 [some (.ref (N + 198)), some (.int (I s)), some (.int (I (b2 ((L0 ++ qK (tw B) s z).length ≤ 4)))), some (.int (I (z + 1))), o4, o5, o6, o7] [] (hH K N G (qB B f (L0 ++ qK (tw B) s z).length)) = some (.inl (some (.int (I (b2 (1 ≤ R.length ∧ R.length ≤ 4))))), hH K N G (qB B f' R.length)) ∧ QF f' R) (y : Int) :
    ∀ (n : Nat) (j : Int) (f : Nat → Int), 0 ≤ j → j + n = qn (tw B) s z + qo (tw B) s z → QF f (L0 ++ (qK (tw B) s z).take j.toNat) →
      ∃ f', gRn K d 127 86 [some (.ref (N + 198)), some (.int (I s)), some (.int (I (b2 ((L0 ++ (qK (tw B) s z).take j.toNat).length ≤ 4)))), some (.int (I z)), some (.int (I y)), some (.int (I (qn (tw B) s z))), some (.int (I (qo (tw B) s z))), some (.int (I j))] [] (hH K N G (qB B f (L0 ++ (qK (tw B) s z).take j.toNat).length)) = some (.inl (some (.int (I (b2 (1 ≤ R.length ∧ R.length ≤ 4))))), hH K N G (qB B f' R.length)) ∧ QF f' R := by
  intro n
  have hb := q_b hw (st := s) (z := z)
  have hl := qK_len (M := tw B) (st := s) (z := z) hb.1.1 hb.2.1
  induction n with
  | zero =>
    intro j f hj hn hq
    rw [List.take_of_length_le (by omega)] at hq ⊢
    obtain ⟨f', h1, h2⟩ := hout f (some (.int (I y))) (some (.int (I (qn (tw B) s z)))) (some (.int (I (qo (tw B) s z)))) (some (.int (I j))) hq
    refine ⟨f', e_127_86 _ ?_, h2⟩
    unfold t_127_86
    generalize qn (tw B) s z = Q1 at *
    generalize qo (tw B) s z = Q2 at *
    simp (disch := omega) only [rI_d, rJ_d, rR_d, rN_d, wF_d, xI_d, xJ_d, xD_d, xQ_d, yI_d, yJ_d, yD_d, yQ_d, dI_s, dJ_s, dR_s, dN_s, dN_n, dH_s, dX_s, dL_s, dD_s, dQ_s, bC_r, bC_t, kI_s, kJ_s, kF_s, kD_s, kR_s, kV_s, I_lit, I_neg, I_add, I_sub, I_mul, I_ltT, I_ltF, I_leT, I_leF, I_eqT, I_eqF, c_int, c_long, c_obj, c_arr, c_bool, c_boolN, c_boolF, vn_bool, c_charN, vn_char, b2_f, b2_t, Int.toNat_natCast, ↓reduceIte, eq_self, and_self, and_true, true_and, not_false_eq_true, not_true_eq_false, L_0_0, L_0_1, L_0_2, L_0_3, L_0_4, L_0_5, L_0_6, L_0_7, L_0_8, L_0_9, L_0_10, L_0_11, L_0_12, L_0_13, L_0_14, L_0_15, C_0, L_1_0, L_1_1, L_1_2, C_1, L_2_0, L_2_1, L_2_2, C_2, L_3_0, L_3_1, L_3_2, C_3, L_65_0, L_65_1, L_65_2, L_65_3, L_65_4, C_65, L_66_0, L_66_1, L_66_2, L_66_3, C_66, L_129_0, L_129_1, L_129_2, L_129_3, C_129, L_198_0, L_198_1, L_198_2, L_198_3, L_198_4, L_198_5, L_198_6, L_198_7, L_198_8, L_198_9, L_198_10, L_198_11, L_198_12, L_198_13, L_198_14, L_198_15, L_198_16, L_198_17, L_198_18, L_198_19, L_198_20, L_198_21, L_198_22, L_198_23, L_198_24, L_198_25, L_198_26, L_198_27, L_198_28, L_198_29, L_198_30, L_198_31, L_198_32, L_198_33, L_198_34, L_198_35, L_198_36, L_198_37, L_198_38, L_198_39, L_198_40, L_198_41, L_198_42, L_198_43, L_198_44, L_198_45, L_198_46, L_198_47, L_198_48, C_198, A_199, A_200, A_201, A_202, A_203, A_204, A_205, A_206, A_207, A_208, A_209, A_210, A_211, A_212, A_213, A_214, A_215, A_216, A_217, A_218, A_219, A_220, A_221, A_222, A_223, A_224, A_225, A_226, A_227, A_228, A_128, A_191, A_rf, A_rs, A_rt, Q_4, Q_67, Q_130, t_127_0_1, t_127_9_1, t_127_9_2, t_127_9_3, t_127_9_4, t_127_9_5, t_127_9_6, t_127_9_7, t_127_9_8, t_127_9_9, t_127_9_10, t_127_9_11, t_127_9_12, t_127_9_13, t_127_9_14, t_127_9_15, t_127_9_16, t_127_86_1, t_127_86_2, t_127_86_3, t_127_86_4, t_127_86_5, t_127_86_6, t_127_86_7, t_127_86_8, t_127_86_9, t_127_86_10, t_127_86_11, t_127_86_12, t_127_86_13, t_127_86_14, t_127_86_15, t_127_86_16, t_127_86_17, t_127_86_18, t_127_86_19, t_127_86_20, t_127_86_21, t_127_86_22, t_127_86_23, t_127_86_24, t_127_86_25, h1]
  | succ n ih =>
    intro j f hj hn hq
    have hat := qK_at (M := tw B) (st := s) (z := z) (j := j.toNat) hb.1.1 hb.2.1 (by omega)
    rw [show ((j.toNat : Nat) : Int) = j by omega] at hat
    have ih := fun f => ih (j + 1) f (by omega) (by omega)
    rw [show (j + 1).toNat = j.toNat + 1 by omega, List.take_add_one, hat] at ih
    simp only [Option.toList_some, ← List.append_assoc] at ih
    generalize hX : (if j < qn (tw B) s z then z else z + 8) = X at *
    have hX2 : 0 ≤ X ∧ X ≤ 15 := by
      rw [← hX]
      split <;> omega
    have hlt : (L0 ++ (qK (tw B) s z).take j.toNat).length ≤ 100 := by
      rw [List.length_append, List.length_take]
      omega
    generalize hLL : L0 ++ (qK (tw B) s z).take j.toNat = L at *
    have e41 : ∀ f n, (qB B f n).1 198 41 = qm n := fun f n => (show (sI B 198 41 (qm n)).1 198 41 = qm n from sI_eq rfl)
    have e222 : ∀ f n, (qB B f n).2.1 222 = f := fun f n => rfl
    by_cases c1 : L.length < 4
    · obtain ⟨f', h1, h2⟩ := ih _ (hq.app hX2 c1)
      rw [List.length_append, b2T (show L.length + [X].length ≤ 4 by have : [X].length = 1 := rfl; omega)] at h1
      have eq1 : sI (sA (qB B f L.length) 222 (qm L.length).toNat X) 198 41 (qm L.length + 1) = qB B (fun q => if q = L.length then X else f q) (L.length + 1) := by
        have e1 : qm L.length = L.length := if_pos (by omega)
        have e2 : qm (L.length + 1) = L.length + 1 := if_pos (by omega)
        unfold qB
        rw [e1, e2, Int.toNat_natCast, st_sA]
        refine Prod.ext (funext fun o' => funext fun k' => ?_) rfl
        by_cases e : o' = 198 ∧ k' = 41
        · rw [e.1, e.2, sI_eq rfl, st_1, sI_eq rfl]
        · rw [sI_ne (by omega), st_1, st_1, sI_ne (by omega), sI_ne (by omega)]
      refine ⟨f', e_127_86 _ ?_, h2⟩
      rw [b2T (show L.length ≤ 4 by omega)]
      have e1 : qm L.length = L.length := if_pos (by omega)
      rw [show [X].length = 1 from rfl, ← eq1, e1, Int.toNat_natCast] at h1
      unfold t_127_86
      generalize qn (tw B) s z = Q1 at *
      generalize qo (tw B) s z = Q2 at *
      by_cases c2 : j < Q1
      · rw [if_pos c2] at hX
        subst hX
        simp (disch := omega) only [rI_d, rJ_d, rR_d, rN_d, wF_d, xI_d, xJ_d, xD_d, xQ_d, yI_d, yJ_d, yD_d, yQ_d, dI_s, dJ_s, dR_s, dN_s, dN_n, dH_s, dX_s, dL_s, dD_s, dQ_s, bC_r, bC_t, kI_s, kJ_s, kF_s, kD_s, kR_s, kV_s, I_lit, I_neg, I_add, I_sub, I_mul, I_ltT, I_ltF, I_leT, I_leF, I_eqT, I_eqF, c_int, c_long, c_obj, c_arr, c_bool, c_boolN, c_boolF, vn_bool, c_charN, vn_char, b2_f, b2_t, Int.toNat_natCast, ↓reduceIte, eq_self, and_self, and_true, true_and, not_false_eq_true, not_true_eq_false, L_0_0, L_0_1, L_0_2, L_0_3, L_0_4, L_0_5, L_0_6, L_0_7, L_0_8, L_0_9, L_0_10, L_0_11, L_0_12, L_0_13, L_0_14, L_0_15, C_0, L_1_0, L_1_1, L_1_2, C_1, L_2_0, L_2_1, L_2_2, C_2, L_3_0, L_3_1, L_3_2, C_3, L_65_0, L_65_1, L_65_2, L_65_3, L_65_4, C_65, L_66_0, L_66_1, L_66_2, L_66_3, C_66, L_129_0, L_129_1, L_129_2, L_129_3, C_129, L_198_0, L_198_1, L_198_2, L_198_3, L_198_4, L_198_5, L_198_6, L_198_7, L_198_8, L_198_9, L_198_10, L_198_11, L_198_12, L_198_13, L_198_14, L_198_15, L_198_16, L_198_17, L_198_18, L_198_19, L_198_20, L_198_21, L_198_22, L_198_23, L_198_24, L_198_25, L_198_26, L_198_27, L_198_28, L_198_29, L_198_30, L_198_31, L_198_32, L_198_33, L_198_34, L_198_35, L_198_36, L_198_37, L_198_38, L_198_39, L_198_40, L_198_41, L_198_42, L_198_43, L_198_44, L_198_45, L_198_46, L_198_47, L_198_48, C_198, A_199, A_200, A_201, A_202, A_203, A_204, A_205, A_206, A_207, A_208, A_209, A_210, A_211, A_212, A_213, A_214, A_215, A_216, A_217, A_218, A_219, A_220, A_221, A_222, A_223, A_224, A_225, A_226, A_227, A_228, A_128, A_191, A_rf, A_rs, A_rt, Q_4, Q_67, Q_130, t_127_0_1, t_127_9_1, t_127_9_2, t_127_9_3, t_127_9_4, t_127_9_5, t_127_9_6, t_127_9_7, t_127_9_8, t_127_9_9, t_127_9_10, t_127_9_11, t_127_9_12, t_127_9_13, t_127_9_14, t_127_9_15, t_127_9_16, t_127_86_1, t_127_86_2, t_127_86_3, t_127_86_4, t_127_86_5, t_127_86_6, t_127_86_7, t_127_86_8, t_127_86_9, t_127_86_10, t_127_86_11, t_127_86_12, t_127_86_13, t_127_86_14, t_127_86_15, t_127_86_16, t_127_86_17, t_127_86_18, t_127_86_19, t_127_86_20, t_127_86_21, t_127_86_22, t_127_86_23, t_127_86_24, t_127_86_25, M_0_8, M_0_9, M_0_10, M_0_11, M_0_12, M_0_13, M_0_14, M_0_15, M_1_0, M_1_1, M_1_2, M_2_0, M_2_1, M_2_2, M_3_0, M_3_1, M_3_2, M_65_0, M_65_1, M_65_2, M_65_3, M_65_4, M_66_2, M_129_2, M_198_0, M_198_1, M_198_2, M_198_3, M_198_4, M_198_5, M_198_7, M_198_17, M_198_18, M_198_28, M_198_31, M_198_32, M_198_33, M_198_36, M_198_37, M_198_38, M_198_39, M_198_41, M_198_48, S_199, S_200, S_201, S_202, S_203, S_204, S_205, S_206, S_207, S_208, S_209, S_210, S_211, S_212, S_213, S_214, S_215, S_216, S_217, S_218, S_219, S_220, S_221, S_222, S_223, S_224, S_225, S_226, S_227, S_228, S_128, S_191, S_rf, S_rs, S_rt, sI_eq, sI_ne, sI_21, sI_22, sA_eq, sA_ne, sA_1, sA_3, e41, e1, h1]
      · rw [if_neg c2] at hX
        subst hX
        simp (disch := omega) only [rI_d, rJ_d, rR_d, rN_d, wF_d, xI_d, xJ_d, xD_d, xQ_d, yI_d, yJ_d, yD_d, yQ_d, dI_s, dJ_s, dR_s, dN_s, dN_n, dH_s, dX_s, dL_s, dD_s, dQ_s, bC_r, bC_t, kI_s, kJ_s, kF_s, kD_s, kR_s, kV_s, I_lit, I_neg, I_add, I_sub, I_mul, I_ltT, I_ltF, I_leT, I_leF, I_eqT, I_eqF, c_int, c_long, c_obj, c_arr, c_bool, c_boolN, c_boolF, vn_bool, c_charN, vn_char, b2_f, b2_t, Int.toNat_natCast, ↓reduceIte, eq_self, and_self, and_true, true_and, not_false_eq_true, not_true_eq_false, L_0_0, L_0_1, L_0_2, L_0_3, L_0_4, L_0_5, L_0_6, L_0_7, L_0_8, L_0_9, L_0_10, L_0_11, L_0_12, L_0_13, L_0_14, L_0_15, C_0, L_1_0, L_1_1, L_1_2, C_1, L_2_0, L_2_1, L_2_2, C_2, L_3_0, L_3_1, L_3_2, C_3, L_65_0, L_65_1, L_65_2, L_65_3, L_65_4, C_65, L_66_0, L_66_1, L_66_2, L_66_3, C_66, L_129_0, L_129_1, L_129_2, L_129_3, C_129, L_198_0, L_198_1, L_198_2, L_198_3, L_198_4, L_198_5, L_198_6, L_198_7, L_198_8, L_198_9, L_198_10, L_198_11, L_198_12, L_198_13, L_198_14, L_198_15, L_198_16, L_198_17, L_198_18, L_198_19, L_198_20, L_198_21, L_198_22, L_198_23, L_198_24, L_198_25, L_198_26, L_198_27, L_198_28, L_198_29, L_198_30, L_198_31, L_198_32, L_198_33, L_198_34, L_198_35, L_198_36, L_198_37, L_198_38, L_198_39, L_198_40, L_198_41, L_198_42, L_198_43, L_198_44, L_198_45, L_198_46, L_198_47, L_198_48, C_198, A_199, A_200, A_201, A_202, A_203, A_204, A_205, A_206, A_207, A_208, A_209, A_210, A_211, A_212, A_213, A_214, A_215, A_216, A_217, A_218, A_219, A_220, A_221, A_222, A_223, A_224, A_225, A_226, A_227, A_228, A_128, A_191, A_rf, A_rs, A_rt, Q_4, Q_67, Q_130, t_127_0_1, t_127_9_1, t_127_9_2, t_127_9_3, t_127_9_4, t_127_9_5, t_127_9_6, t_127_9_7, t_127_9_8, t_127_9_9, t_127_9_10, t_127_9_11, t_127_9_12, t_127_9_13, t_127_9_14, t_127_9_15, t_127_9_16, t_127_86_1, t_127_86_2, t_127_86_3, t_127_86_4, t_127_86_5, t_127_86_6, t_127_86_7, t_127_86_8, t_127_86_9, t_127_86_10, t_127_86_11, t_127_86_12, t_127_86_13, t_127_86_14, t_127_86_15, t_127_86_16, t_127_86_17, t_127_86_18, t_127_86_19, t_127_86_20, t_127_86_21, t_127_86_22, t_127_86_23, t_127_86_24, t_127_86_25, M_0_8, M_0_9, M_0_10, M_0_11, M_0_12, M_0_13, M_0_14, M_0_15, M_1_0, M_1_1, M_1_2, M_2_0, M_2_1, M_2_2, M_3_0, M_3_1, M_3_2, M_65_0, M_65_1, M_65_2, M_65_3, M_65_4, M_66_2, M_129_2, M_198_0, M_198_1, M_198_2, M_198_3, M_198_4, M_198_5, M_198_7, M_198_17, M_198_18, M_198_28, M_198_31, M_198_32, M_198_33, M_198_36, M_198_37, M_198_38, M_198_39, M_198_41, M_198_48, S_199, S_200, S_201, S_202, S_203, S_204, S_205, S_206, S_207, S_208, S_209, S_210, S_211, S_212, S_213, S_214, S_215, S_216, S_217, S_218, S_219, S_220, S_221, S_222, S_223, S_224, S_225, S_226, S_227, S_228, S_128, S_191, S_rf, S_rs, S_rt, sI_eq, sI_ne, sI_21, sI_22, sA_eq, sA_ne, sA_1, sA_3, e41, e1, h1]
    · obtain ⟨f', h1, h2⟩ := ih f (hq.big (by omega))
      rw [List.length_append, b2F (show ¬ L.length + [X].length ≤ 4 by have : [X].length = 1 := rfl; omega)] at h1
      have eq1 : qB B f (L.length + [X].length) = qB B f L.length := by
        unfold qB
        rw [show qm (L.length + [X].length) = qm L.length by unfold qm; have : [X].length = 1 := rfl; split <;> split <;> omega]
      rw [eq1] at h1
      refine ⟨f', e_127_86 _ ?_, h2⟩
      unfold t_127_86
      have e1 : qm L.length = 4 := by
        unfold qm
        split <;> omega
      generalize qn (tw B) s z = Q1 at *
      generalize qo (tw B) s z = Q2 at *
      by_cases c2 : L.length ≤ 4
      · rw [b2T c2]
        simp (disch := omega) only [rI_d, rJ_d, rR_d, rN_d, wF_d, xI_d, xJ_d, xD_d, xQ_d, yI_d, yJ_d, yD_d, yQ_d, dI_s, dJ_s, dR_s, dN_s, dN_n, dH_s, dX_s, dL_s, dD_s, dQ_s, bC_r, bC_t, kI_s, kJ_s, kF_s, kD_s, kR_s, kV_s, I_lit, I_neg, I_add, I_sub, I_mul, I_ltT, I_ltF, I_leT, I_leF, I_eqT, I_eqF, c_int, c_long, c_obj, c_arr, c_bool, c_boolN, c_boolF, vn_bool, c_charN, vn_char, b2_f, b2_t, Int.toNat_natCast, ↓reduceIte, eq_self, and_self, and_true, true_and, not_false_eq_true, not_true_eq_false, L_0_0, L_0_1, L_0_2, L_0_3, L_0_4, L_0_5, L_0_6, L_0_7, L_0_8, L_0_9, L_0_10, L_0_11, L_0_12, L_0_13, L_0_14, L_0_15, C_0, L_1_0, L_1_1, L_1_2, C_1, L_2_0, L_2_1, L_2_2, C_2, L_3_0, L_3_1, L_3_2, C_3, L_65_0, L_65_1, L_65_2, L_65_3, L_65_4, C_65, L_66_0, L_66_1, L_66_2, L_66_3, C_66, L_129_0, L_129_1, L_129_2, L_129_3, C_129, L_198_0, L_198_1, L_198_2, L_198_3, L_198_4, L_198_5, L_198_6, L_198_7, L_198_8, L_198_9, L_198_10, L_198_11, L_198_12, L_198_13, L_198_14, L_198_15, L_198_16, L_198_17, L_198_18, L_198_19, L_198_20, L_198_21, L_198_22, L_198_23, L_198_24, L_198_25, L_198_26, L_198_27, L_198_28, L_198_29, L_198_30, L_198_31, L_198_32, L_198_33, L_198_34, L_198_35, L_198_36, L_198_37, L_198_38, L_198_39, L_198_40, L_198_41, L_198_42, L_198_43, L_198_44, L_198_45, L_198_46, L_198_47, L_198_48, C_198, A_199, A_200, A_201, A_202, A_203, A_204, A_205, A_206, A_207, A_208, A_209, A_210, A_211, A_212, A_213, A_214, A_215, A_216, A_217, A_218, A_219, A_220, A_221, A_222, A_223, A_224, A_225, A_226, A_227, A_228, A_128, A_191, A_rf, A_rs, A_rt, Q_4, Q_67, Q_130, t_127_0_1, t_127_9_1, t_127_9_2, t_127_9_3, t_127_9_4, t_127_9_5, t_127_9_6, t_127_9_7, t_127_9_8, t_127_9_9, t_127_9_10, t_127_9_11, t_127_9_12, t_127_9_13, t_127_9_14, t_127_9_15, t_127_9_16, t_127_86_1, t_127_86_2, t_127_86_3, t_127_86_4, t_127_86_5, t_127_86_6, t_127_86_7, t_127_86_8, t_127_86_9, t_127_86_10, t_127_86_11, t_127_86_12, t_127_86_13, t_127_86_14, t_127_86_15, t_127_86_16, t_127_86_17, t_127_86_18, t_127_86_19, t_127_86_20, t_127_86_21, t_127_86_22, t_127_86_23, t_127_86_24, t_127_86_25, M_0_8, M_0_9, M_0_10, M_0_11, M_0_12, M_0_13, M_0_14, M_0_15, M_1_0, M_1_1, M_1_2, M_2_0, M_2_1, M_2_2, M_3_0, M_3_1, M_3_2, M_65_0, M_65_1, M_65_2, M_65_3, M_65_4, M_66_2, M_129_2, M_198_0, M_198_1, M_198_2, M_198_3, M_198_4, M_198_5, M_198_7, M_198_17, M_198_18, M_198_28, M_198_31, M_198_32, M_198_33, M_198_36, M_198_37, M_198_38, M_198_39, M_198_41, M_198_48, S_199, S_200, S_201, S_202, S_203, S_204, S_205, S_206, S_207, S_208, S_209, S_210, S_211, S_212, S_213, S_214, S_215, S_216, S_217, S_218, S_219, S_220, S_221, S_222, S_223, S_224, S_225, S_226, S_227, S_228, S_128, S_191, S_rf, S_rs, S_rt, sI_eq, sI_ne, sI_21, sI_22, sA_eq, sA_ne, sA_1, sA_3, e41, e1, h1]
      · rw [b2F c2]
        simp (disch := omega) only [rI_d, rJ_d, rR_d, rN_d, wF_d, xI_d, xJ_d, xD_d, xQ_d, yI_d, yJ_d, yD_d, yQ_d, dI_s, dJ_s, dR_s, dN_s, dN_n, dH_s, dX_s, dL_s, dD_s, dQ_s, bC_r, bC_t, kI_s, kJ_s, kF_s, kD_s, kR_s, kV_s, I_lit, I_neg, I_add, I_sub, I_mul, I_ltT, I_ltF, I_leT, I_leF, I_eqT, I_eqF, c_int, c_long, c_obj, c_arr, c_bool, c_boolN, c_boolF, vn_bool, c_charN, vn_char, b2_f, b2_t, Int.toNat_natCast, ↓reduceIte, eq_self, and_self, and_true, true_and, not_false_eq_true, not_true_eq_false, L_0_0, L_0_1, L_0_2, L_0_3, L_0_4, L_0_5, L_0_6, L_0_7, L_0_8, L_0_9, L_0_10, L_0_11, L_0_12, L_0_13, L_0_14, L_0_15, C_0, L_1_0, L_1_1, L_1_2, C_1, L_2_0, L_2_1, L_2_2, C_2, L_3_0, L_3_1, L_3_2, C_3, L_65_0, L_65_1, L_65_2, L_65_3, L_65_4, C_65, L_66_0, L_66_1, L_66_2, L_66_3, C_66, L_129_0, L_129_1, L_129_2, L_129_3, C_129, L_198_0, L_198_1, L_198_2, L_198_3, L_198_4, L_198_5, L_198_6, L_198_7, L_198_8, L_198_9, L_198_10, L_198_11, L_198_12, L_198_13, L_198_14, L_198_15, L_198_16, L_198_17, L_198_18, L_198_19, L_198_20, L_198_21, L_198_22, L_198_23, L_198_24, L_198_25, L_198_26, L_198_27, L_198_28, L_198_29, L_198_30, L_198_31, L_198_32, L_198_33, L_198_34, L_198_35, L_198_36, L_198_37, L_198_38, L_198_39, L_198_40, L_198_41, L_198_42, L_198_43, L_198_44, L_198_45, L_198_46, L_198_47, L_198_48, C_198, A_199, A_200, A_201, A_202, A_203, A_204, A_205, A_206, A_207, A_208, A_209, A_210, A_211, A_212, A_213, A_214, A_215, A_216, A_217, A_218, A_219, A_220, A_221, A_222, A_223, A_224, A_225, A_226, A_227, A_228, A_128, A_191, A_rf, A_rs, A_rt, Q_4, Q_67, Q_130, t_127_0_1, t_127_9_1, t_127_9_2, t_127_9_3, t_127_9_4, t_127_9_5, t_127_9_6, t_127_9_7, t_127_9_8, t_127_9_9, t_127_9_10, t_127_9_11, t_127_9_12, t_127_9_13, t_127_9_14, t_127_9_15, t_127_9_16, t_127_86_1, t_127_86_2, t_127_86_3, t_127_86_4, t_127_86_5, t_127_86_6, t_127_86_7, t_127_86_8, t_127_86_9, t_127_86_10, t_127_86_11, t_127_86_12, t_127_86_13, t_127_86_14, t_127_86_15, t_127_86_16, t_127_86_17, t_127_86_18, t_127_86_19, t_127_86_20, t_127_86_21, t_127_86_22, t_127_86_23, t_127_86_24, t_127_86_25, M_0_8, M_0_9, M_0_10, M_0_11, M_0_12, M_0_13, M_0_14, M_0_15, M_1_0, M_1_1, M_1_2, M_2_0, M_2_1, M_2_2, M_3_0, M_3_1, M_3_2, M_65_0, M_65_1, M_65_2, M_65_3, M_65_4, M_66_2, M_129_2, M_198_0, M_198_1, M_198_2, M_198_3, M_198_4, M_198_5, M_198_7, M_198_17, M_198_18, M_198_28, M_198_31, M_198_32, M_198_33, M_198_36, M_198_37, M_198_38, M_198_39, M_198_41, M_198_48, S_199, S_200, S_201, S_202, S_203, S_204, S_205, S_206, S_207, S_208, S_209, S_210, S_211, S_212, S_213, S_214, S_215, S_216, S_217, S_218, S_219, S_220, S_221, S_222, S_223, S_224, S_225, S_226, S_227, S_228, S_128, S_191, S_rf, S_rs, S_rt, sI_eq, sI_ne, sI_21, sI_22, sA_eq, sA_ne, sA_1, sA_3, e41, e1, h1]
theorem qP_len (hw : MW B) {s : Int} : ∀ n : Nat, ((qP (tw B) s n).length : Int) ≤ 8 * n
  | 0 => by simp only [qP, List.length_nil]; omega
  | n + 1 => by
    have := qP_len hw (s := s) n
    have hb := q_b hw (st := s) (z := (n : Int))
    have hl := qK_len (M := tw B) (st := s) (z := (n : Int)) hb.1.1 hb.2.1
    unfold qP
    rw [List.length_append]
    omega
theorem l_127_1 (hw : MW B) {s : Int} (hs : 0 ≤ s ∧ s < 4) : ∀ (n : Nat) (z : Int) (f : Nat → Int) (o4 o5 o6 o7 : Option Value), 0 ≤ z → z + n = (B.1 198 7) → QF f (qP (tw B) s z.toNat) →
    ∃ f', gRn K d 127 9 [some (.ref (N + 198)), some (.int (I s)), some (.int (I (b2 ((qP (tw B) s z.toNat).length ≤ 4)))), some (.int (I z)), o4, o5, o6, o7] [] (hH K N G (qB B f (qP (tw B) s z.toNat).length)) = some (.inl (some (.int (I (b2 (1 ≤ (qQ (tw B) s).length ∧ (qQ (tw B) s).length ≤ 4))))), hH K N G (qB B f' (qQ (tw B) s).length)) ∧ QF f' (qQ (tw B) s) := by
  intro n
  have hm := mw_shapes hw
  have e41 : ∀ f n, (qB B f n).1 198 41 = qm n := fun f n => (show (sI B 198 41 (qm n)).1 198 41 = qm n from sI_eq rfl)
  have e7 : ∀ f n, (qB B f n).1 198 7 = (B.1 198 7) := fun f n => (show (sI B 198 41 (qm n)).1 198 7 = (B.1 198 7) from sI_ne (by omega))
  have e3 : ∀ f n, (qB B f n).1 198 3 = (B.1 198 3) := fun f n => (show (sI B 198 41 (qm n)).1 198 3 = (B.1 198 3) from sI_ne (by omega))
  have e9 : ∀ f n, (qB B f n).2.1 201 = B.2.1 201 := fun f n => rfl
  have e29 : ∀ f n, (qB B f n).2.1 218 = B.2.1 218 := fun f n => rfl
  induction n with
  | zero =>
    intro z f o4 o5 o6 o7 hz hn hq
    have eQ : qP (tw B) s z.toNat = qQ (tw B) s := by
      unfold qQ
      exact congrArg (qP (tw B) s) (by dsimp only [tw]; omega)
    rw [eQ] at hq ⊢
    refine ⟨f, e_127_9 _ ?_, hq⟩
    unfold t_127_9
    have hqm : 0 ≤ qm (qQ (tw B) s).length ∧ qm (qQ (tw B) s).length ≤ 4 := by
      unfold qm
      split <;> omega
    by_cases c1 : (qQ (tw B) s).length ≤ 4
    · have e1 : qm (qQ (tw B) s).length = (qQ (tw B) s).length := if_pos c1
      rw [b2T c1]
      by_cases c2 : 1 ≤ (qQ (tw B) s).length
      · rw [b2T ⟨c2, c1⟩]
        simp (disch := omega) only [rI_d, rJ_d, rR_d, rN_d, wF_d, xI_d, xJ_d, xD_d, xQ_d, yI_d, yJ_d, yD_d, yQ_d, dI_s, dJ_s, dR_s, dN_s, dN_n, dH_s, dX_s, dL_s, dD_s, dQ_s, bC_r, bC_t, kI_s, kJ_s, kF_s, kD_s, kR_s, kV_s, I_lit, I_neg, I_add, I_sub, I_mul, I_ltT, I_ltF, I_leT, I_leF, I_eqT, I_eqF, c_int, c_long, c_obj, c_arr, c_bool, c_boolN, c_boolF, vn_bool, c_charN, vn_char, b2_f, b2_t, Int.toNat_natCast, ↓reduceIte, eq_self, and_self, and_true, true_and, not_false_eq_true, not_true_eq_false, L_0_0, L_0_1, L_0_2, L_0_3, L_0_4, L_0_5, L_0_6, L_0_7, L_0_8, L_0_9, L_0_10, L_0_11, L_0_12, L_0_13, L_0_14, L_0_15, C_0, L_1_0, L_1_1, L_1_2, C_1, L_2_0, L_2_1, L_2_2, C_2, L_3_0, L_3_1, L_3_2, C_3, L_65_0, L_65_1, L_65_2, L_65_3, L_65_4, C_65, L_66_0, L_66_1, L_66_2, L_66_3, C_66, L_129_0, L_129_1, L_129_2, L_129_3, C_129, L_198_0, L_198_1, L_198_2, L_198_3, L_198_4, L_198_5, L_198_6, L_198_7, L_198_8, L_198_9, L_198_10, L_198_11, L_198_12, L_198_13, L_198_14, L_198_15, L_198_16, L_198_17, L_198_18, L_198_19, L_198_20, L_198_21, L_198_22, L_198_23, L_198_24, L_198_25, L_198_26, L_198_27, L_198_28, L_198_29, L_198_30, L_198_31, L_198_32, L_198_33, L_198_34, L_198_35, L_198_36, L_198_37, L_198_38, L_198_39, L_198_40, L_198_41, L_198_42, L_198_43, L_198_44, L_198_45, L_198_46, L_198_47, L_198_48, C_198, A_199, A_200, A_201, A_202, A_203, A_204, A_205, A_206, A_207, A_208, A_209, A_210, A_211, A_212, A_213, A_214, A_215, A_216, A_217, A_218, A_219, A_220, A_221, A_222, A_223, A_224, A_225, A_226, A_227, A_228, A_128, A_191, A_rf, A_rs, A_rt, Q_4, Q_67, Q_130, t_127_0_1, t_127_9_1, t_127_9_2, t_127_9_3, t_127_9_4, t_127_9_5, t_127_9_6, t_127_9_7, t_127_9_8, t_127_9_9, t_127_9_10, t_127_9_11, t_127_9_12, t_127_9_13, t_127_9_14, t_127_9_15, t_127_9_16, t_127_86_1, t_127_86_2, t_127_86_3, t_127_86_4, t_127_86_5, t_127_86_6, t_127_86_7, t_127_86_8, t_127_86_9, t_127_86_10, t_127_86_11, t_127_86_12, t_127_86_13, t_127_86_14, t_127_86_15, t_127_86_16, t_127_86_17, t_127_86_18, t_127_86_19, t_127_86_20, t_127_86_21, t_127_86_22, t_127_86_23, t_127_86_24, t_127_86_25, e7, e41, e1]
      · rw [b2F (fun h => c2 h.1)]
        simp (disch := omega) only [rI_d, rJ_d, rR_d, rN_d, wF_d, xI_d, xJ_d, xD_d, xQ_d, yI_d, yJ_d, yD_d, yQ_d, dI_s, dJ_s, dR_s, dN_s, dN_n, dH_s, dX_s, dL_s, dD_s, dQ_s, bC_r, bC_t, kI_s, kJ_s, kF_s, kD_s, kR_s, kV_s, I_lit, I_neg, I_add, I_sub, I_mul, I_ltT, I_ltF, I_leT, I_leF, I_eqT, I_eqF, c_int, c_long, c_obj, c_arr, c_bool, c_boolN, c_boolF, vn_bool, c_charN, vn_char, b2_f, b2_t, Int.toNat_natCast, ↓reduceIte, eq_self, and_self, and_true, true_and, not_false_eq_true, not_true_eq_false, L_0_0, L_0_1, L_0_2, L_0_3, L_0_4, L_0_5, L_0_6, L_0_7, L_0_8, L_0_9, L_0_10, L_0_11, L_0_12, L_0_13, L_0_14, L_0_15, C_0, L_1_0, L_1_1, L_1_2, C_1, L_2_0, L_2_1, L_2_2, C_2, L_3_0, L_3_1, L_3_2, C_3, L_65_0, L_65_1, L_65_2, L_65_3, L_65_4, C_65, L_66_0, L_66_1, L_66_2, L_66_3, C_66, L_129_0, L_129_1, L_129_2, L_129_3, C_129, L_198_0, L_198_1, L_198_2, L_198_3, L_198_4, L_198_5, L_198_6, L_198_7, L_198_8, L_198_9, L_198_10, L_198_11, L_198_12, L_198_13, L_198_14, L_198_15, L_198_16, L_198_17, L_198_18, L_198_19, L_198_20, L_198_21, L_198_22, L_198_23, L_198_24, L_198_25, L_198_26, L_198_27, L_198_28, L_198_29, L_198_30, L_198_31, L_198_32, L_198_33, L_198_34, L_198_35, L_198_36, L_198_37, L_198_38, L_198_39, L_198_40, L_198_41, L_198_42, L_198_43, L_198_44, L_198_45, L_198_46, L_198_47, L_198_48, C_198, A_199, A_200, A_201, A_202, A_203, A_204, A_205, A_206, A_207, A_208, A_209, A_210, A_211, A_212, A_213, A_214, A_215, A_216, A_217, A_218, A_219, A_220, A_221, A_222, A_223, A_224, A_225, A_226, A_227, A_228, A_128, A_191, A_rf, A_rs, A_rt, Q_4, Q_67, Q_130, t_127_0_1, t_127_9_1, t_127_9_2, t_127_9_3, t_127_9_4, t_127_9_5, t_127_9_6, t_127_9_7, t_127_9_8, t_127_9_9, t_127_9_10, t_127_9_11, t_127_9_12, t_127_9_13, t_127_9_14, t_127_9_15, t_127_9_16, t_127_86_1, t_127_86_2, t_127_86_3, t_127_86_4, t_127_86_5, t_127_86_6, t_127_86_7, t_127_86_8, t_127_86_9, t_127_86_10, t_127_86_11, t_127_86_12, t_127_86_13, t_127_86_14, t_127_86_15, t_127_86_16, t_127_86_17, t_127_86_18, t_127_86_19, t_127_86_20, t_127_86_21, t_127_86_22, t_127_86_23, t_127_86_24, t_127_86_25, e7, e41, e1]
    · rw [b2F c1, b2F (fun h => c1 h.2)]
      simp (disch := omega) only [rI_d, rJ_d, rR_d, rN_d, wF_d, xI_d, xJ_d, xD_d, xQ_d, yI_d, yJ_d, yD_d, yQ_d, dI_s, dJ_s, dR_s, dN_s, dN_n, dH_s, dX_s, dL_s, dD_s, dQ_s, bC_r, bC_t, kI_s, kJ_s, kF_s, kD_s, kR_s, kV_s, I_lit, I_neg, I_add, I_sub, I_mul, I_ltT, I_ltF, I_leT, I_leF, I_eqT, I_eqF, c_int, c_long, c_obj, c_arr, c_bool, c_boolN, c_boolF, vn_bool, c_charN, vn_char, b2_f, b2_t, Int.toNat_natCast, ↓reduceIte, eq_self, and_self, and_true, true_and, not_false_eq_true, not_true_eq_false, L_0_0, L_0_1, L_0_2, L_0_3, L_0_4, L_0_5, L_0_6, L_0_7, L_0_8, L_0_9, L_0_10, L_0_11, L_0_12, L_0_13, L_0_14, L_0_15, C_0, L_1_0, L_1_1, L_1_2, C_1, L_2_0, L_2_1, L_2_2, C_2, L_3_0, L_3_1, L_3_2, C_3, L_65_0, L_65_1, L_65_2, L_65_3, L_65_4, C_65, L_66_0, L_66_1, L_66_2, L_66_3, C_66, L_129_0, L_129_1, L_129_2, L_129_3, C_129, L_198_0, L_198_1, L_198_2, L_198_3, L_198_4, L_198_5, L_198_6, L_198_7, L_198_8, L_198_9, L_198_10, L_198_11, L_198_12, L_198_13, L_198_14, L_198_15, L_198_16, L_198_17, L_198_18, L_198_19, L_198_20, L_198_21, L_198_22, L_198_23, L_198_24, L_198_25, L_198_26, L_198_27, L_198_28, L_198_29, L_198_30, L_198_31, L_198_32, L_198_33, L_198_34, L_198_35, L_198_36, L_198_37, L_198_38, L_198_39, L_198_40, L_198_41, L_198_42, L_198_43, L_198_44, L_198_45, L_198_46, L_198_47, L_198_48, C_198, A_199, A_200, A_201, A_202, A_203, A_204, A_205, A_206, A_207, A_208, A_209, A_210, A_211, A_212, A_213, A_214, A_215, A_216, A_217, A_218, A_219, A_220, A_221, A_222, A_223, A_224, A_225, A_226, A_227, A_228, A_128, A_191, A_rf, A_rs, A_rt, Q_4, Q_67, Q_130, t_127_0_1, t_127_9_1, t_127_9_2, t_127_9_3, t_127_9_4, t_127_9_5, t_127_9_6, t_127_9_7, t_127_9_8, t_127_9_9, t_127_9_10, t_127_9_11, t_127_9_12, t_127_9_13, t_127_9_14, t_127_9_15, t_127_9_16, t_127_86_1, t_127_86_2, t_127_86_3, t_127_86_4, t_127_86_5, t_127_86_6, t_127_86_7, t_127_86_8, t_127_86_9, t_127_86_10, t_127_86_11, t_127_86_12, t_127_86_13, t_127_86_14, t_127_86_15, t_127_86_16, t_127_86_17, t_127_86_18, t_127_86_19, t_127_86_20, t_127_86_21, t_127_86_22, t_127_86_23, t_127_86_24, t_127_86_25, e7, e41]
  | succ n ih =>
    intro z f o4 o5 o6 o7 hz hn hq
    have ih := fun f o4 o5 o6 o7 => ih (z + 1) f o4 o5 o6 o7 (by omega) (by omega)
    have eS : qP (tw B) s (z + 1).toNat = qP (tw B) s z.toNat ++ qK (tw B) s z := by
      rw [show (z + 1).toNat = z.toNat + 1 by omega]
      show qP (tw B) s z.toNat ++ qK (tw B) s (z.toNat : Int) = _
      rw [show ((z.toNat : Nat) : Int) = z by omega]
    rw [eS] at ih
    have hb := q_b hw (st := s) (z := z)
    have hcn := mw_count hw (8 * s + z).toNat
    have hpr := mw_paired hw z.toNat
    have hfo := mw_folded hw
    have hql := qP_len hw (s := s) z.toNat
    obtain ⟨f', h1, h2⟩ := l_127_2 (K := K) (d := d) (N := N) (G := G) hw (s := s) (z := z) (L0 := qP (tw B) s z.toNat) (R := qQ (tw B) s) (by omega) (by omega) ih (B.2.1 218 (8 * s + z).toNat) (qn (tw B) s z + qo (tw B) s z).toNat 0 f (by omega) (by omega) (by rw [show (0 : Int).toNat = 0 from rfl, List.take_zero, List.append_nil]; exact hq)
    rw [show (0 : Int).toNat = 0 from rfl, List.take_zero, List.append_nil] at h1
    refine ⟨f', e_127_9 _ ?_, h2⟩
    unfold t_127_9
    unfold qn qo at h1
    dsimp only [tw] at h1 ⊢
    generalize b2 ((qP (B.1 198, B.2.1) s z.toNat).length ≤ 4) = FF at *
    by_cases c1 : (B.1 198 3) = 0
    · by_cases c2 : B.2.1 201 z.toNat = 0
      · rw [if_neg (by omega), if_neg (by omega)] at h1
        simp (disch := omega) only [rI_d, rJ_d, rR_d, rN_d, wF_d, xI_d, xJ_d, xD_d, xQ_d, yI_d, yJ_d, yD_d, yQ_d, dI_s, dJ_s, dR_s, dN_s, dN_n, dH_s, dX_s, dL_s, dD_s, dQ_s, bC_r, bC_t, kI_s, kJ_s, kF_s, kD_s, kR_s, kV_s, I_lit, I_neg, I_add, I_sub, I_mul, I_ltT, I_ltF, I_leT, I_leF, I_eqT, I_eqF, c_int, c_long, c_obj, c_arr, c_bool, c_boolN, c_boolF, vn_bool, c_charN, vn_char, b2_f, b2_t, Int.toNat_natCast, ↓reduceIte, eq_self, and_self, and_true, true_and, not_false_eq_true, not_true_eq_false, L_0_0, L_0_1, L_0_2, L_0_3, L_0_4, L_0_5, L_0_6, L_0_7, L_0_8, L_0_9, L_0_10, L_0_11, L_0_12, L_0_13, L_0_14, L_0_15, C_0, L_1_0, L_1_1, L_1_2, C_1, L_2_0, L_2_1, L_2_2, C_2, L_3_0, L_3_1, L_3_2, C_3, L_65_0, L_65_1, L_65_2, L_65_3, L_65_4, C_65, L_66_0, L_66_1, L_66_2, L_66_3, C_66, L_129_0, L_129_1, L_129_2, L_129_3, C_129, L_198_0, L_198_1, L_198_2, L_198_3, L_198_4, L_198_5, L_198_6, L_198_7, L_198_8, L_198_9, L_198_10, L_198_11, L_198_12, L_198_13, L_198_14, L_198_15, L_198_16, L_198_17, L_198_18, L_198_19, L_198_20, L_198_21, L_198_22, L_198_23, L_198_24, L_198_25, L_198_26, L_198_27, L_198_28, L_198_29, L_198_30, L_198_31, L_198_32, L_198_33, L_198_34, L_198_35, L_198_36, L_198_37, L_198_38, L_198_39, L_198_40, L_198_41, L_198_42, L_198_43, L_198_44, L_198_45, L_198_46, L_198_47, L_198_48, C_198, A_199, A_200, A_201, A_202, A_203, A_204, A_205, A_206, A_207, A_208, A_209, A_210, A_211, A_212, A_213, A_214, A_215, A_216, A_217, A_218, A_219, A_220, A_221, A_222, A_223, A_224, A_225, A_226, A_227, A_228, A_128, A_191, A_rf, A_rs, A_rt, Q_4, Q_67, Q_130, t_127_0_1, t_127_9_1, t_127_9_2, t_127_9_3, t_127_9_4, t_127_9_5, t_127_9_6, t_127_9_7, t_127_9_8, t_127_9_9, t_127_9_10, t_127_9_11, t_127_9_12, t_127_9_13, t_127_9_14, t_127_9_15, t_127_9_16, t_127_86_1, t_127_86_2, t_127_86_3, t_127_86_4, t_127_86_5, t_127_86_6, t_127_86_7, t_127_86_8, t_127_86_9, t_127_86_10, t_127_86_11, t_127_86_12, t_127_86_13, t_127_86_14, t_127_86_15, t_127_86_16, t_127_86_17, t_127_86_18, t_127_86_19, t_127_86_20, t_127_86_21, t_127_86_22, t_127_86_23, t_127_86_24, t_127_86_25, e7, e41, e3, e9, e29, I_div, h1]
      · rw [if_neg (by omega), if_pos (by omega)] at h1
        simp (disch := omega) only [rI_d, rJ_d, rR_d, rN_d, wF_d, xI_d, xJ_d, xD_d, xQ_d, yI_d, yJ_d, yD_d, yQ_d, dI_s, dJ_s, dR_s, dN_s, dN_n, dH_s, dX_s, dL_s, dD_s, dQ_s, bC_r, bC_t, kI_s, kJ_s, kF_s, kD_s, kR_s, kV_s, I_lit, I_neg, I_add, I_sub, I_mul, I_ltT, I_ltF, I_leT, I_leF, I_eqT, I_eqF, c_int, c_long, c_obj, c_arr, c_bool, c_boolN, c_boolF, vn_bool, c_charN, vn_char, b2_f, b2_t, Int.toNat_natCast, ↓reduceIte, eq_self, and_self, and_true, true_and, not_false_eq_true, not_true_eq_false, L_0_0, L_0_1, L_0_2, L_0_3, L_0_4, L_0_5, L_0_6, L_0_7, L_0_8, L_0_9, L_0_10, L_0_11, L_0_12, L_0_13, L_0_14, L_0_15, C_0, L_1_0, L_1_1, L_1_2, C_1, L_2_0, L_2_1, L_2_2, C_2, L_3_0, L_3_1, L_3_2, C_3, L_65_0, L_65_1, L_65_2, L_65_3, L_65_4, C_65, L_66_0, L_66_1, L_66_2, L_66_3, C_66, L_129_0, L_129_1, L_129_2, L_129_3, C_129, L_198_0, L_198_1, L_198_2, L_198_3, L_198_4, L_198_5, L_198_6, L_198_7, L_198_8, L_198_9, L_198_10, L_198_11, L_198_12, L_198_13, L_198_14, L_198_15, L_198_16, L_198_17, L_198_18, L_198_19, L_198_20, L_198_21, L_198_22, L_198_23, L_198_24, L_198_25, L_198_26, L_198_27, L_198_28, L_198_29, L_198_30, L_198_31, L_198_32, L_198_33, L_198_34, L_198_35, L_198_36, L_198_37, L_198_38, L_198_39, L_198_40, L_198_41, L_198_42, L_198_43, L_198_44, L_198_45, L_198_46, L_198_47, L_198_48, C_198, A_199, A_200, A_201, A_202, A_203, A_204, A_205, A_206, A_207, A_208, A_209, A_210, A_211, A_212, A_213, A_214, A_215, A_216, A_217, A_218, A_219, A_220, A_221, A_222, A_223, A_224, A_225, A_226, A_227, A_228, A_128, A_191, A_rf, A_rs, A_rt, Q_4, Q_67, Q_130, t_127_0_1, t_127_9_1, t_127_9_2, t_127_9_3, t_127_9_4, t_127_9_5, t_127_9_6, t_127_9_7, t_127_9_8, t_127_9_9, t_127_9_10, t_127_9_11, t_127_9_12, t_127_9_13, t_127_9_14, t_127_9_15, t_127_9_16, t_127_86_1, t_127_86_2, t_127_86_3, t_127_86_4, t_127_86_5, t_127_86_6, t_127_86_7, t_127_86_8, t_127_86_9, t_127_86_10, t_127_86_11, t_127_86_12, t_127_86_13, t_127_86_14, t_127_86_15, t_127_86_16, t_127_86_17, t_127_86_18, t_127_86_19, t_127_86_20, t_127_86_21, t_127_86_22, t_127_86_23, t_127_86_24, t_127_86_25, e7, e41, e3, e9, e29, I_div, h1]
    · by_cases c2 : B.2.1 201 z.toNat = 0
      · rw [if_pos (by omega), if_neg (by omega)] at h1
        simp (disch := omega) only [rI_d, rJ_d, rR_d, rN_d, wF_d, xI_d, xJ_d, xD_d, xQ_d, yI_d, yJ_d, yD_d, yQ_d, dI_s, dJ_s, dR_s, dN_s, dN_n, dH_s, dX_s, dL_s, dD_s, dQ_s, bC_r, bC_t, kI_s, kJ_s, kF_s, kD_s, kR_s, kV_s, I_lit, I_neg, I_add, I_sub, I_mul, I_ltT, I_ltF, I_leT, I_leF, I_eqT, I_eqF, c_int, c_long, c_obj, c_arr, c_bool, c_boolN, c_boolF, vn_bool, c_charN, vn_char, b2_f, b2_t, Int.toNat_natCast, ↓reduceIte, eq_self, and_self, and_true, true_and, not_false_eq_true, not_true_eq_false, L_0_0, L_0_1, L_0_2, L_0_3, L_0_4, L_0_5, L_0_6, L_0_7, L_0_8, L_0_9, L_0_10, L_0_11, L_0_12, L_0_13, L_0_14, L_0_15, C_0, L_1_0, L_1_1, L_1_2, C_1, L_2_0, L_2_1, L_2_2, C_2, L_3_0, L_3_1, L_3_2, C_3, L_65_0, L_65_1, L_65_2, L_65_3, L_65_4, C_65, L_66_0, L_66_1, L_66_2, L_66_3, C_66, L_129_0, L_129_1, L_129_2, L_129_3, C_129, L_198_0, L_198_1, L_198_2, L_198_3, L_198_4, L_198_5, L_198_6, L_198_7, L_198_8, L_198_9, L_198_10, L_198_11, L_198_12, L_198_13, L_198_14, L_198_15, L_198_16, L_198_17, L_198_18, L_198_19, L_198_20, L_198_21, L_198_22, L_198_23, L_198_24, L_198_25, L_198_26, L_198_27, L_198_28, L_198_29, L_198_30, L_198_31, L_198_32, L_198_33, L_198_34, L_198_35, L_198_36, L_198_37, L_198_38, L_198_39, L_198_40, L_198_41, L_198_42, L_198_43, L_198_44, L_198_45, L_198_46, L_198_47, L_198_48, C_198, A_199, A_200, A_201, A_202, A_203, A_204, A_205, A_206, A_207, A_208, A_209, A_210, A_211, A_212, A_213, A_214, A_215, A_216, A_217, A_218, A_219, A_220, A_221, A_222, A_223, A_224, A_225, A_226, A_227, A_228, A_128, A_191, A_rf, A_rs, A_rt, Q_4, Q_67, Q_130, t_127_0_1, t_127_9_1, t_127_9_2, t_127_9_3, t_127_9_4, t_127_9_5, t_127_9_6, t_127_9_7, t_127_9_8, t_127_9_9, t_127_9_10, t_127_9_11, t_127_9_12, t_127_9_13, t_127_9_14, t_127_9_15, t_127_9_16, t_127_86_1, t_127_86_2, t_127_86_3, t_127_86_4, t_127_86_5, t_127_86_6, t_127_86_7, t_127_86_8, t_127_86_9, t_127_86_10, t_127_86_11, t_127_86_12, t_127_86_13, t_127_86_14, t_127_86_15, t_127_86_16, t_127_86_17, t_127_86_18, t_127_86_19, t_127_86_20, t_127_86_21, t_127_86_22, t_127_86_23, t_127_86_24, t_127_86_25, e7, e41, e3, e9, e29, I_div, h1]
      · rw [if_neg (by omega), if_neg (by omega)] at h1
        simp (disch := omega) only [rI_d, rJ_d, rR_d, rN_d, wF_d, xI_d, xJ_d, xD_d, xQ_d, yI_d, yJ_d, yD_d, yQ_d, dI_s, dJ_s, dR_s, dN_s, dN_n, dH_s, dX_s, dL_s, dD_s, dQ_s, bC_r, bC_t, kI_s, kJ_s, kF_s, kD_s, kR_s, kV_s, I_lit, I_neg, I_add, I_sub, I_mul, I_ltT, I_ltF, I_leT, I_leF, I_eqT, I_eqF, c_int, c_long, c_obj, c_arr, c_bool, c_boolN, c_boolF, vn_bool, c_charN, vn_char, b2_f, b2_t, Int.toNat_natCast, ↓reduceIte, eq_self, and_self, and_true, true_and, not_false_eq_true, not_true_eq_false, L_0_0, L_0_1, L_0_2, L_0_3, L_0_4, L_0_5, L_0_6, L_0_7, L_0_8, L_0_9, L_0_10, L_0_11, L_0_12, L_0_13, L_0_14, L_0_15, C_0, L_1_0, L_1_1, L_1_2, C_1, L_2_0, L_2_1, L_2_2, C_2, L_3_0, L_3_1, L_3_2, C_3, L_65_0, L_65_1, L_65_2, L_65_3, L_65_4, C_65, L_66_0, L_66_1, L_66_2, L_66_3, C_66, L_129_0, L_129_1, L_129_2, L_129_3, C_129, L_198_0, L_198_1, L_198_2, L_198_3, L_198_4, L_198_5, L_198_6, L_198_7, L_198_8, L_198_9, L_198_10, L_198_11, L_198_12, L_198_13, L_198_14, L_198_15, L_198_16, L_198_17, L_198_18, L_198_19, L_198_20, L_198_21, L_198_22, L_198_23, L_198_24, L_198_25, L_198_26, L_198_27, L_198_28, L_198_29, L_198_30, L_198_31, L_198_32, L_198_33, L_198_34, L_198_35, L_198_36, L_198_37, L_198_38, L_198_39, L_198_40, L_198_41, L_198_42, L_198_43, L_198_44, L_198_45, L_198_46, L_198_47, L_198_48, C_198, A_199, A_200, A_201, A_202, A_203, A_204, A_205, A_206, A_207, A_208, A_209, A_210, A_211, A_212, A_213, A_214, A_215, A_216, A_217, A_218, A_219, A_220, A_221, A_222, A_223, A_224, A_225, A_226, A_227, A_228, A_128, A_191, A_rf, A_rs, A_rt, Q_4, Q_67, Q_130, t_127_0_1, t_127_9_1, t_127_9_2, t_127_9_3, t_127_9_4, t_127_9_5, t_127_9_6, t_127_9_7, t_127_9_8, t_127_9_9, t_127_9_10, t_127_9_11, t_127_9_12, t_127_9_13, t_127_9_14, t_127_9_15, t_127_9_16, t_127_86_1, t_127_86_2, t_127_86_3, t_127_86_4, t_127_86_5, t_127_86_6, t_127_86_7, t_127_86_8, t_127_86_9, t_127_86_10, t_127_86_11, t_127_86_12, t_127_86_13, t_127_86_14, t_127_86_15, t_127_86_16, t_127_86_17, t_127_86_18, t_127_86_19, t_127_86_20, t_127_86_21, t_127_86_22, t_127_86_23, t_127_86_24, t_127_86_25, e7, e41, e3, e9, e29, I_div, h1]
theorem w_127 (hd : 1 ≤ d) (hw : MW B) {s : Int} (hs : 0 ≤ s ∧ s < 4) : ∃ f, gCa K d 127 [.ref (N + 198), .int (I s)] (hH K N G B) = some (.inl (some (.int (I (b2 (1 ≤ (qQ (tw B) s).length ∧ (qQ (tw B) s).length ≤ 4))))), hH K N G (qB B f (qQ (tw B) s).length)) ∧ QF f (qQ (tw B) s) := by
  obtain ⟨d, rfl, hd'⟩ := d_succ hd
  have hm := mw_shapes hw
  obtain ⟨f, h1, h2⟩ := l_127_1 (K := K) (d := d) (N := N) (G := G) hw hs ((B.1 198 7)).toNat 0 (B.2.1 222) none none none none (by omega) (by omega) ⟨fun j x h => (by cases h), mw_queue hw⟩
  rw [show qP (tw B) s (0 : Int).toNat = [] from rfl, b2T (by decide)] at h1
  refine ⟨f, c_127 _ ?_, h2⟩
  unfold t_127_0
  simp (disch := omega) only [rI_d, rJ_d, rR_d, rN_d, wF_d, xI_d, xJ_d, xD_d, xQ_d, yI_d, yJ_d, yD_d, yQ_d, dI_s, dJ_s, dR_s, dN_s, dN_n, dH_s, dX_s, dL_s, dD_s, dQ_s, bC_r, bC_t, kI_s, kJ_s, kF_s, kD_s, kR_s, kV_s, I_lit, I_neg, I_add, I_sub, I_mul, I_ltT, I_ltF, I_leT, I_leF, I_eqT, I_eqF, c_int, c_long, c_obj, c_arr, c_bool, c_boolN, c_boolF, vn_bool, c_charN, vn_char, b2_f, b2_t, Int.toNat_natCast, ↓reduceIte, eq_self, and_self, and_true, true_and, not_false_eq_true, not_true_eq_false, L_0_0, L_0_1, L_0_2, L_0_3, L_0_4, L_0_5, L_0_6, L_0_7, L_0_8, L_0_9, L_0_10, L_0_11, L_0_12, L_0_13, L_0_14, L_0_15, C_0, L_1_0, L_1_1, L_1_2, C_1, L_2_0, L_2_1, L_2_2, C_2, L_3_0, L_3_1, L_3_2, C_3, L_65_0, L_65_1, L_65_2, L_65_3, L_65_4, C_65, L_66_0, L_66_1, L_66_2, L_66_3, C_66, L_129_0, L_129_1, L_129_2, L_129_3, C_129, L_198_0, L_198_1, L_198_2, L_198_3, L_198_4, L_198_5, L_198_6, L_198_7, L_198_8, L_198_9, L_198_10, L_198_11, L_198_12, L_198_13, L_198_14, L_198_15, L_198_16, L_198_17, L_198_18, L_198_19, L_198_20, L_198_21, L_198_22, L_198_23, L_198_24, L_198_25, L_198_26, L_198_27, L_198_28, L_198_29, L_198_30, L_198_31, L_198_32, L_198_33, L_198_34, L_198_35, L_198_36, L_198_37, L_198_38, L_198_39, L_198_40, L_198_41, L_198_42, L_198_43, L_198_44, L_198_45, L_198_46, L_198_47, L_198_48, C_198, A_199, A_200, A_201, A_202, A_203, A_204, A_205, A_206, A_207, A_208, A_209, A_210, A_211, A_212, A_213, A_214, A_215, A_216, A_217, A_218, A_219, A_220, A_221, A_222, A_223, A_224, A_225, A_226, A_227, A_228, A_128, A_191, A_rf, A_rs, A_rt, Q_4, Q_67, Q_130, t_127_0_1, t_127_9_1, t_127_9_2, t_127_9_3, t_127_9_4, t_127_9_5, t_127_9_6, t_127_9_7, t_127_9_8, t_127_9_9, t_127_9_10, t_127_9_11, t_127_9_12, t_127_9_13, t_127_9_14, t_127_9_15, t_127_9_16, t_127_86_1, t_127_86_2, t_127_86_3, t_127_86_4, t_127_86_5, t_127_86_6, t_127_86_7, t_127_86_8, t_127_86_9, t_127_86_10, t_127_86_11, t_127_86_12, t_127_86_13, t_127_86_14, t_127_86_15, t_127_86_16, t_127_86_17, t_127_86_18, t_127_86_19, t_127_86_20, t_127_86_21, t_127_86_22, t_127_86_23, t_127_86_24, t_127_86_25, M_0_8, M_0_9, M_0_10, M_0_11, M_0_12, M_0_13, M_0_14, M_0_15, M_1_0, M_1_1, M_1_2, M_2_0, M_2_1, M_2_2, M_3_0, M_3_1, M_3_2, M_65_0, M_65_1, M_65_2, M_65_3, M_65_4, M_66_2, M_129_2, M_198_0, M_198_1, M_198_2, M_198_3, M_198_4, M_198_5, M_198_7, M_198_17, M_198_18, M_198_28, M_198_31, M_198_32, M_198_33, M_198_36, M_198_37, M_198_38, M_198_39, M_198_41, M_198_48, S_199, S_200, S_201, S_202, S_203, S_204, S_205, S_206, S_207, S_208, S_209, S_210, S_211, S_212, S_213, S_214, S_215, S_216, S_217, S_218, S_219, S_220, S_221, S_222, S_223, S_224, S_225, S_226, S_227, S_228, S_128, S_191, S_rf, S_rs, S_rt]
  refine Eq.trans (congrArg (fun X => gRn K d 127 9 [some (.ref (N + 198)), some (.int (I s)), some (.int (I 1)), some (.int (I 0)), none, none, none, none] [] (hH K N G X)) ?_) h1
  show sI B 198 41 0 = stA (sI B 198 41 0) 222 (B.2.1 222)
  exact (st_self (B := sI B 198 41 0) (o := 222)).symm
end
