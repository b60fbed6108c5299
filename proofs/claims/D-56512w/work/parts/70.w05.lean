/-! PURE 14: the model's reason -/
set_option maxRecDepth 100000
/-- what nobody else reads left out -/
def ns (M : gM) : gM := (fun k => if k = 33 then 0 else if k = 36 then 0 else if k = 37 then 0 else if k = 38 then 0 else if k = 39 then 0 else M.1 k, fun o => if o = 220 then (fun _ => 0) else if o = 221 then (fun _ => 0) else M.2 o)
theorem ns_sc {B B' : gB} (h : SC B B') : ns (tw B') = ns (tw B) := by
  refine Prod.ext (funext fun k => ?_) (funext fun o => ?_)
  · dsimp only [ns, tw]
    repeat' split
    all_goals first | rfl | exact h.f (Or.inr ⟨‹_›, ‹_›, ‹_›, ‹_›, ‹_›⟩)
  · dsimp only [ns, tw]
    repeat' split
    all_goals first | rfl | exact h.2.1 _ ‹_› ‹_›
theorem scf {α : Type} (f : gM → α) (hf : ∀ M, f M = f (ns M)) {B B' : gB} (h : SC B B') : f (tw B') = f (tw B) := by rw [hf, ns_sc h, ← hf]
theorem scP (f : gM → Prop) (hf : ∀ M, f M = f (ns M)) {B B' : gB} (h : SC B B') : f (tw B') = f (tw B) := by rw [hf, ns_sc h, ← hf]
noncomputable def wsc (M : gM) (cl : Nat → Int) (l : List Nat) (t m r c : Int) (k : Nat) : Int := cif (60 ≤ r + oR l t m k ∨ cols M ≤ c + oC l t m k) 3 (cif (bad M (r + oR l t m k) (c + oC l t m k)) 2 (cif (cl (12 * (r + oR l t m k) + (c + oC l t m k)).toNat = -1) 0 1))
def fmax (f : Nat → Int) (l : List Nat) : Int := l.foldl (fun a k => if f k ≤ a then a else f k) 0
theorem fmax_app (f : Nat → Int) (l : List Nat) (k : Nat) : fmax f (l ++ [k]) = if f k ≤ fmax f l then fmax f l else f k := by
  unfold fmax
  rw [List.foldl_append]; rfl
theorem fmax_aux (f : Nat → Int) : ∀ (l : List Nat) (a : Int), a ≤ l.foldl (fun a k => if f k ≤ a then a else f k) a ∧ (∀ k ∈ l, f k ≤ l.foldl (fun a k => if f k ≤ a then a else f k) a) ∧ (l.foldl (fun a k => if f k ≤ a then a else f k) a = a ∨ ∃ k ∈ l, f k = l.foldl (fun a k => if f k ≤ a then a else f k) a)
  | [], a => ⟨Int.le_refl _, fun _ h => (by cases h), Or.inl rfl⟩
  | k :: l, a => by
    have ih := fmax_aux f l (if f k ≤ a then a else f k)
    rw [List.foldl_cons]
    refine ⟨?_, fun j hj => ?_, ?_⟩
    · have := ih.1
      split at this <;> omega
    · rcases List.mem_cons.mp hj with rfl | hj
      · have := ih.1
        split at this <;> omega
      · exact ih.2.1 j hj
    · rcases ih.2.2 with q | ⟨j, hj, q⟩
      · by_cases e : f k ≤ a
        · rw [if_pos e] at q ⊢
          exact Or.inl q
        · rw [if_neg e] at q ⊢
          exact Or.inr ⟨k, List.mem_cons_self, q.symm⟩
      · exact Or.inr ⟨j, List.mem_cons_of_mem _ hj, q⟩
theorem fmax_ge {f : Nat → Int} {l : List Nat} {k : Nat} (h : k ∈ l) : f k ≤ fmax f l := (fmax_aux f l 0).2.1 k h
theorem fmax_of (f : Nat → Int) (l : List Nat) : fmax f l = 0 ∨ ∃ k ∈ l, f k = fmax f l := (fmax_aux f l 0).2.2
theorem fmax_0 (f : Nat → Int) (l : List Nat) : 0 ≤ fmax f l := (fmax_aux f l 0).1
noncomputable def wrst (M : gM) (cl : Nat → Int) (l : List Nat) (t m r c : Int) : Int := cif (0 ≤ r ∧ r ≤ 59 ∧ 0 ≤ c ∧ c ≤ cols M - 1) (fmax (wsc M cl l t m r c) l) 3
theorem wsc_b {M : gM} {cl : Nat → Int} {l : List Nat} {t m r c : Int} {k : Nat} : 0 ≤ wsc M cl l t m r c k ∧ wsc M cl l t m r c k ≤ 3 := by
  unfold wsc
  by_cases h1 : 60 ≤ r + oR l t m k ∨ cols M ≤ c + oC l t m k
  · rw [cifT h1]; decide
  · rw [cifF h1]
    by_cases h2 : bad M (r + oR l t m k) (c + oC l t m k)
    · rw [cifT h2]; decide
    · rw [cifF h2]
      by_cases h3 : cl (12 * (r + oR l t m k) + (c + oC l t m k)).toNat = -1
      · rw [cifT h3]; decide
      · rw [cifF h3]; decide
theorem wrst_eq {M : gM} {cl : Nat → Int} {l : List Nat} {t m r c : Int} : wrst M cl l t m r c = cif (¬ ins M l t m r c) 3 (cif (onF M l t m r c) 2 (cif (onP cl l t m r c) 1 0)) := by
  unfold wrst
  by_cases hin : 0 ≤ r ∧ r ≤ 59 ∧ 0 ≤ c ∧ c ≤ cols M - 1
  · rw [cifT hin]
    by_cases h1 : ins M l t m r c
    · rw [cifF (fun h => h h1)]
      have q : ∀ k ∈ l, ¬ (60 ≤ r + oR l t m k ∨ cols M ≤ c + oC l t m k) := fun k hk h => by
        have := h1.2 k hk
        omega
      by_cases h2 : onF M l t m r c
      · rw [cifT h2]
        obtain ⟨k, hk, hb⟩ := h2
        have e : wsc M cl l t m r c k = 2 := by
          unfold wsc
          rw [cifF (q k hk), cifT hb]
        have g := fmax_ge (f := wsc M cl l t m r c) hk
        rcases fmax_of (wsc M cl l t m r c) l with o | ⟨j, hj, o⟩
        · omega
        · have : wsc M cl l t m r c j ≤ 2 := by
            unfold wsc
            rw [cifF (q j hj)]
            by_cases h2 : bad M (r + oR l t m j) (c + oC l t m j)
            · rw [cifT h2]; decide
            · rw [cifF h2]
              by_cases h3 : cl (12 * (r + oR l t m j) + (c + oC l t m j)).toNat = -1
              · rw [cifT h3]; decide
              · rw [cifF h3]; decide
          omega
      · rw [cifF h2]
        have q2 : ∀ k ∈ l, wsc M cl l t m r c k = cif (cl (12 * (r + oR l t m k) + (c + oC l t m k)).toNat = -1) 0 1 := fun k hk => by
          unfold wsc
          rw [cifF (q k hk), cifF (fun h => h2 ⟨k, hk, h⟩)]
        by_cases h3 : onP cl l t m r c
        · rw [cifT h3]
          obtain ⟨k, hk, hb⟩ := h3
          have e : wsc M cl l t m r c k = 1 := by rw [q2 k hk, cifF hb]
          have g := fmax_ge (f := wsc M cl l t m r c) hk
          rcases fmax_of (wsc M cl l t m r c) l with o | ⟨j, hj, o⟩
          · omega
          · rw [q2 j hj] at o
            by_cases h3 : cl (12 * (r + oR l t m j) + (c + oC l t m j)).toNat = -1
            · rw [cifT h3] at o; omega
            · rw [cifF h3] at o; omega
        · rw [cifF h3]
          rcases fmax_of (wsc M cl l t m r c) l with o | ⟨j, hj, o⟩
          · exact o
          · rw [q2 j hj, cifT] at o
            · exact o.symm
            · refine Classical.byContradiction fun h => h3 ⟨j, hj, h⟩
    · rw [cifT h1]
      have : ∃ k ∈ l, 60 ≤ r + oR l t m k ∨ cols M ≤ c + oC l t m k := by
        refine Classical.byContradiction fun h => h1 ⟨hin, fun k hk => ?_⟩
        have : ¬ (60 ≤ r + oR l t m k ∨ cols M ≤ c + oC l t m k) := fun e => h ⟨k, hk, e⟩
        omega
      obtain ⟨k, hk, hb⟩ := this
      have e : wsc M cl l t m r c k = 3 := by
        unfold wsc
        rw [cifT hb]
      have g := fmax_ge (f := wsc M cl l t m r c) hk
      rcases fmax_of (wsc M cl l t m r c) l with o | ⟨j, hj, o⟩
      · omega
      · have := (wsc_b (M := M) (cl := cl) (l := l) (t := t) (m := m) (r := r) (c := c) (k := j)).2
        omega
  · rw [cifF hin, cifT (fun h => hin h.1)]
section
variable {K : gK} {d N : Nat} {G : gH} {B : gB}
theorem l_170 (hd : 2 ≤ d) (hw : MW B) {M0 : gM} {s : Nat} {t m r c : Int} {l : List Nat} (hl : l.length ≤ 25) (hl2 : ∀ k ∈ l, k < 25) (hT : Tn M0 B s l t m) (hr : 0 ≤ r ∧ r ≤ 59) (hc : 0 ≤ c ∧ c < cols (tw B)) : ∀ (n : Nat) (z : Int) (o5 o6 o7 : Option Value), 0 ≤ z → z + n = l.length →
    gRn K d 170 31 [some (.ref (N + 198)), some (.int (I r)), some (.int (I c)), some (.int (I (fmax (wsc (tw B) (B.2.1 215) l t m r c) (l.take z.toNat)))), some (.int (I z)), o5, o6, o7] [] (hH K N G B) = some (.inl (some (.int (I (fmax (wsc (tw B) (B.2.1 215) l t m r c) l)))), hH K N G B) := by
  intro n
  have hcm : (B.1 198 33) = (l.length : Int) := hT.1
  have hco := cols_b hw
  have hcw : cols (tw B) ≤ (B.1 198 1) := by
    have := mw_width hw
    unfold cols
    dsimp only [tw]
    split <;> omega
  induction n with
  | zero =>
    intro z o5 o6 o7 hz hn
    refine e_170_31 _ ?_
    unfold t_170_31
    rw [List.take_of_length_le (by omega)]
    simp (disch := omega) only [rI_d, rJ_d, rR_d, rN_d, wF_d, xI_d, xJ_d, xD_d, xQ_d, yI_d, yJ_d, yD_d, yQ_d, dI_s, dJ_s, dR_s, dN_s, dN_n, dH_s, dX_s, dL_s, dD_s, dQ_s, bC_r, bC_t, kI_s, kJ_s, kF_s, kD_s, kR_s, kV_s, I_lit, I_neg, I_add, I_sub, I_mul, I_ltT, I_ltF, I_leT, I_leF, I_eqT, I_eqF, c_int, c_long, c_obj, c_arr, c_bool, c_boolN, c_boolF, vn_bool, c_charN, vn_char, b2_f, b2_t, Int.toNat_natCast, ↓reduceIte, eq_self, and_self, and_true, true_and, not_false_eq_true, not_true_eq_false, L_0_0, L_0_1, L_0_2, L_0_3, L_0_4, L_0_5, L_0_6, L_0_7, L_0_8, L_0_9, L_0_10, L_0_11, L_0_12, L_0_13, L_0_14, L_0_15, C_0, L_1_0, L_1_1, L_1_2, C_1, L_2_0, L_2_1, L_2_2, C_2, L_3_0, L_3_1, L_3_2, C_3, L_65_0, L_65_1, L_65_2, L_65_3, L_65_4, C_65, L_66_0, L_66_1, L_66_2, L_66_3, C_66, L_129_0, L_129_1, L_129_2, L_129_3, C_129, L_198_0, L_198_1, L_198_2, L_198_3, L_198_4, L_198_5, L_198_6, L_198_7, L_198_8, L_198_9, L_198_10, L_198_11, L_198_12, L_198_13, L_198_14, L_198_15, L_198_16, L_198_17, L_198_18, L_198_19, L_198_20, L_198_21, L_198_22, L_198_23, L_198_24, L_198_25, L_198_26, L_198_27, L_198_28, L_198_29, L_198_30, L_198_31, L_198_32, L_198_33, L_198_34, L_198_35, L_198_36, L_198_37, L_198_38, L_198_39, L_198_40, L_198_41, L_198_42, L_198_43, L_198_44, L_198_45, L_198_46, L_198_47, L_198_48, C_198, A_199, A_200, A_201, A_202, A_203, A_204, A_205, A_206, A_207, A_208, A_209, A_210, A_211, A_212, A_213, A_214, A_215, A_216, A_217, A_218, A_219, A_220, A_221, A_222, A_223, A_224, A_225, A_226, A_227, A_228, A_128, A_191, A_rf, A_rs, A_rt, Q_4, Q_67, Q_130, t_170_0_1, t_170_0_2, t_170_0_3, t_170_31_1, t_170_31_2, t_170_31_3, t_170_31_4, t_170_31_5, t_170_31_6, t_170_31_7, t_170_31_8, t_170_31_9, hcm]
  | succ n ih =>
    intro z o5 o6 o7 hz hn
    have ih := fun o5 o6 o7 => ih (z + 1) o5 o6 o7 (by omega) (by omega)
    obtain ⟨k, hk⟩ : ∃ k, l[z.toNat]? = some k := ⟨_, List.getElem?_eq_getElem (by omega)⟩
    have hkm := List.mem_of_getElem? hk
    have b1 := oR_b (t := t) (m := m) hl2 hkm
    have b2 := oC_b (t := t) (m := m) hl2 hkm
    obtain ⟨c1, c2⟩ := hT.2.1 _ _ hk
    rw [show (z + 1).toNat = z.toNat + 1 by omega, List.take_add_one, hk] at ih
    simp only [Option.toList_some, fmax_app] at ih
    have hb := wsc_b (M := tw B) (cl := B.2.1 215) (l := l) (t := t) (m := m) (r := r) (c := c) (k := k)
    generalize hW : wsc (tw B) (B.2.1 215) l t m r c k = W at ih hb
    have hf0 := fmax_0 (wsc (tw B) (B.2.1 215) l t m r c) (l.take z.toNat)
    have hf3 : fmax (wsc (tw B) (B.2.1 215) l t m r c) (l.take z.toNat) ≤ 3 := by
      rcases fmax_of (wsc (tw B) (B.2.1 215) l t m r c) (l.take z.toNat) with o | ⟨j, hj, o⟩
      · omega
      · rw [← o]
        exact wsc_b.2
    generalize hF : fmax (wsc (tw B) (B.2.1 215) l t m r c) (l.take z.toNat) = F at ih hf0 hf3 ⊢
    refine e_170_31 _ ?_
    unfold t_170_31
    unfold wsc at hW
    have hcl := mw_cloth hw (12 * (r + oR l t m k) + (c + oC l t m k)).toNat
    generalize hX : oR l t m k = X at *
    generalize hY : oC l t m k = Y at *
    by_cases q1 : 60 ≤ r + X
    · rw [cifT (Or.inl q1)] at hW
      subst hW
      by_cases q : 3 ≤ F
      · rw [if_pos q] at ih
        simp (disch := omega) only [rI_d, rJ_d, rR_d, rN_d, wF_d, xI_d, xJ_d, xD_d, xQ_d, yI_d, yJ_d, yD_d, yQ_d, dI_s, dJ_s, dR_s, dN_s, dN_n, dH_s, dX_s, dL_s, dD_s, dQ_s, bC_r, bC_t, kI_s, kJ_s, kF_s, kD_s, kR_s, kV_s, I_lit, I_neg, I_add, I_sub, I_mul, I_ltT, I_ltF, I_leT, I_leF, I_eqT, I_eqF, c_int, c_long, c_obj, c_arr, c_bool, c_boolN, c_boolF, vn_bool, c_charN, vn_char, b2_f, b2_t, Int.toNat_natCast, ↓reduceIte, eq_self, and_self, and_true, true_and, not_false_eq_true, not_true_eq_false, L_0_0, L_0_1, L_0_2, L_0_3, L_0_4, L_0_5, L_0_6, L_0_7, L_0_8, L_0_9, L_0_10, L_0_11, L_0_12, L_0_13, L_0_14, L_0_15, C_0, L_1_0, L_1_1, L_1_2, C_1, L_2_0, L_2_1, L_2_2, C_2, L_3_0, L_3_1, L_3_2, C_3, L_65_0, L_65_1, L_65_2, L_65_3, L_65_4, C_65, L_66_0, L_66_1, L_66_2, L_66_3, C_66, L_129_0, L_129_1, L_129_2, L_129_3, C_129, L_198_0, L_198_1, L_198_2, L_198_3, L_198_4, L_198_5, L_198_6, L_198_7, L_198_8, L_198_9, L_198_10, L_198_11, L_198_12, L_198_13, L_198_14, L_198_15, L_198_16, L_198_17, L_198_18, L_198_19, L_198_20, L_198_21, L_198_22, L_198_23, L_198_24, L_198_25, L_198_26, L_198_27, L_198_28, L_198_29, L_198_30, L_198_31, L_198_32, L_198_33, L_198_34, L_198_35, L_198_36, L_198_37, L_198_38, L_198_39, L_198_40, L_198_41, L_198_42, L_198_43, L_198_44, L_198_45, L_198_46, L_198_47, L_198_48, C_198, A_199, A_200, A_201, A_202, A_203, A_204, A_205, A_206, A_207, A_208, A_209, A_210, A_211, A_212, A_213, A_214, A_215, A_216, A_217, A_218, A_219, A_220, A_221, A_222, A_223, A_224, A_225, A_226, A_227, A_228, A_128, A_191, A_rf, A_rs, A_rt, Q_4, Q_67, Q_130, t_170_0_1, t_170_0_2, t_170_0_3, t_170_31_1, t_170_31_2, t_170_31_3, t_170_31_4, t_170_31_5, t_170_31_6, t_170_31_7, t_170_31_8, t_170_31_9, hcm, c1, c2, w_143, ih]
      · rw [if_neg q] at ih
        simp (disch := omega) only [rI_d, rJ_d, rR_d, rN_d, wF_d, xI_d, xJ_d, xD_d, xQ_d, yI_d, yJ_d, yD_d, yQ_d, dI_s, dJ_s, dR_s, dN_s, dN_n, dH_s, dX_s, dL_s, dD_s, dQ_s, bC_r, bC_t, kI_s, kJ_s, kF_s, kD_s, kR_s, kV_s, I_lit, I_neg, I_add, I_sub, I_mul, I_ltT, I_ltF, I_leT, I_leF, I_eqT, I_eqF, c_int, c_long, c_obj, c_arr, c_bool, c_boolN, c_boolF, vn_bool, c_charN, vn_char, b2_f, b2_t, Int.toNat_natCast, ↓reduceIte, eq_self, and_self, and_true, true_and, not_false_eq_true, not_true_eq_false, L_0_0, L_0_1, L_0_2, L_0_3, L_0_4, L_0_5, L_0_6, L_0_7, L_0_8, L_0_9, L_0_10, L_0_11, L_0_12, L_0_13, L_0_14, L_0_15, C_0, L_1_0, L_1_1, L_1_2, C_1, L_2_0, L_2_1, L_2_2, C_2, L_3_0, L_3_1, L_3_2, C_3, L_65_0, L_65_1, L_65_2, L_65_3, L_65_4, C_65, L_66_0, L_66_1, L_66_2, L_66_3, C_66, L_129_0, L_129_1, L_129_2, L_129_3, C_129, L_198_0, L_198_1, L_198_2, L_198_3, L_198_4, L_198_5, L_198_6, L_198_7, L_198_8, L_198_9, L_198_10, L_198_11, L_198_12, L_198_13, L_198_14, L_198_15, L_198_16, L_198_17, L_198_18, L_198_19, L_198_20, L_198_21, L_198_22, L_198_23, L_198_24, L_198_25, L_198_26, L_198_27, L_198_28, L_198_29, L_198_30, L_198_31, L_198_32, L_198_33, L_198_34, L_198_35, L_198_36, L_198_37, L_198_38, L_198_39, L_198_40, L_198_41, L_198_42, L_198_43, L_198_44, L_198_45, L_198_46, L_198_47, L_198_48, C_198, A_199, A_200, A_201, A_202, A_203, A_204, A_205, A_206, A_207, A_208, A_209, A_210, A_211, A_212, A_213, A_214, A_215, A_216, A_217, A_218, A_219, A_220, A_221, A_222, A_223, A_224, A_225, A_226, A_227, A_228, A_128, A_191, A_rf, A_rs, A_rt, Q_4, Q_67, Q_130, t_170_0_1, t_170_0_2, t_170_0_3, t_170_31_1, t_170_31_2, t_170_31_3, t_170_31_4, t_170_31_5, t_170_31_6, t_170_31_7, t_170_31_8, t_170_31_9, hcm, c1, c2, w_143, ih]
    · by_cases q2 : cols (tw B) ≤ c + Y
      · rw [cifT (Or.inr q2)] at hW
        subst hW
        by_cases q : 3 ≤ F
        · rw [if_pos q] at ih
          simp (disch := omega) only [rI_d, rJ_d, rR_d, rN_d, wF_d, xI_d, xJ_d, xD_d, xQ_d, yI_d, yJ_d, yD_d, yQ_d, dI_s, dJ_s, dR_s, dN_s, dN_n, dH_s, dX_s, dL_s, dD_s, dQ_s, bC_r, bC_t, kI_s, kJ_s, kF_s, kD_s, kR_s, kV_s, I_lit, I_neg, I_add, I_sub, I_mul, I_ltT, I_ltF, I_leT, I_leF, I_eqT, I_eqF, c_int, c_long, c_obj, c_arr, c_bool, c_boolN, c_boolF, vn_bool, c_charN, vn_char, b2_f, b2_t, Int.toNat_natCast, ↓reduceIte, eq_self, and_self, and_true, true_and, not_false_eq_true, not_true_eq_false, L_0_0, L_0_1, L_0_2, L_0_3, L_0_4, L_0_5, L_0_6, L_0_7, L_0_8, L_0_9, L_0_10, L_0_11, L_0_12, L_0_13, L_0_14, L_0_15, C_0, L_1_0, L_1_1, L_1_2, C_1, L_2_0, L_2_1, L_2_2, C_2, L_3_0, L_3_1, L_3_2, C_3, L_65_0, L_65_1, L_65_2, L_65_3, L_65_4, C_65, L_66_0, L_66_1, L_66_2, L_66_3, C_66, L_129_0, L_129_1, L_129_2, L_129_3, C_129, L_198_0, L_198_1, L_198_2, L_198_3, L_198_4, L_198_5, L_198_6, L_198_7, L_198_8, L_198_9, L_198_10, L_198_11, L_198_12, L_198_13, L_198_14, L_198_15, L_198_16, L_198_17, L_198_18, L_198_19, L_198_20, L_198_21, L_198_22, L_198_23, L_198_24, L_198_25, L_198_26, L_198_27, L_198_28, L_198_29, L_198_30, L_198_31, L_198_32, L_198_33, L_198_34, L_198_35, L_198_36, L_198_37, L_198_38, L_198_39, L_198_40, L_198_41, L_198_42, L_198_43, L_198_44, L_198_45, L_198_46, L_198_47, L_198_48, C_198, A_199, A_200, A_201, A_202, A_203, A_204, A_205, A_206, A_207, A_208, A_209, A_210, A_211, A_212, A_213, A_214, A_215, A_216, A_217, A_218, A_219, A_220, A_221, A_222, A_223, A_224, A_225, A_226, A_227, A_228, A_128, A_191, A_rf, A_rs, A_rt, Q_4, Q_67, Q_130, t_170_0_1, t_170_0_2, t_170_0_3, t_170_31_1, t_170_31_2, t_170_31_3, t_170_31_4, t_170_31_5, t_170_31_6, t_170_31_7, t_170_31_8, t_170_31_9, hcm, c1, c2, w_143 _ hw, ih]
        · rw [if_neg q] at ih
          simp (disch := omega) only [rI_d, rJ_d, rR_d, rN_d, wF_d, xI_d, xJ_d, xD_d, xQ_d, yI_d, yJ_d, yD_d, yQ_d, dI_s, dJ_s, dR_s, dN_s, dN_n, dH_s, dX_s, dL_s, dD_s, dQ_s, bC_r, bC_t, kI_s, kJ_s, kF_s, kD_s, kR_s, kV_s, I_lit, I_neg, I_add, I_sub, I_mul, I_ltT, I_ltF, I_leT, I_leF, I_eqT, I_eqF, c_int, c_long, c_obj, c_arr, c_bool, c_boolN, c_boolF, vn_bool, c_charN, vn_char, b2_f, b2_t, Int.toNat_natCast, ↓reduceIte, eq_self, and_self, and_true, true_and, not_false_eq_true, not_true_eq_false, L_0_0, L_0_1, L_0_2, L_0_3, L_0_4, L_0_5, L_0_6, L_0_7, L_0_8, L_0_9, L_0_10, L_0_11, L_0_12, L_0_13, L_0_14, L_0_15, C_0, L_1_0, L_1_1, L_1_2, C_1, L_2_0, L_2_1, L_2_2, C_2, L_3_0, L_3_1, L_3_2, C_3, L_65_0, L_65_1, L_65_2, L_65_3, L_65_4, C_65, L_66_0, L_66_1, L_66_2, L_66_3, C_66, L_129_0, L_129_1, L_129_2, L_129_3, C_129, L_198_0, L_198_1, L_198_2, L_198_3, L_198_4, L_198_5, L_198_6, L_198_7, L_198_8, L_198_9, L_198_10, L_198_11, L_198_12, L_198_13, L_198_14, L_198_15, L_198_16, L_198_17, L_198_18, L_198_19, L_198_20, L_198_21, L_198_22, L_198_23, L_198_24, L_198_25, L_198_26, L_198_27, L_198_28, L_198_29, L_198_30, L_198_31, L_198_32, L_198_33, L_198_34, L_198_35, L_198_36, L_198_37, L_198_38, L_198_39, L_198_40, L_198_41, L_198_42, L_198_43, L_198_44, L_198_45, L_198_46, L_198_47, L_198_48, C_198, A_199, A_200, A_201, A_202, A_203, A_204, A_205, A_206, A_207, A_208, A_209, A_210, A_211, A_212, A_213, A_214, A_215, A_216, A_217, A_218, A_219, A_220, A_221, A_222, A_223, A_224, A_225, A_226, A_227, A_228, A_128, A_191, A_rf, A_rs, A_rt, Q_4, Q_67, Q_130, t_170_0_1, t_170_0_2, t_170_0_3, t_170_31_1, t_170_31_2, t_170_31_3, t_170_31_4, t_170_31_5, t_170_31_6, t_170_31_7, t_170_31_8, t_170_31_9, hcm, c1, c2, w_143 _ hw, ih]
      · rw [cifF (by omega)] at hW
        have wb := w_211 (K := K) (d := d) (N := N) (G := G) (by omega) hw (r := r + X) (c := c + Y) (by omega) (by omega) (by omega)
        have w0 := w_143 (K := K) (d := d) (N := N) (G := G) (by omega) hw
        by_cases q3 : bad (tw B) (r + X) (c + Y)
        · rw [cifT q3] at hW
          subst hW
          rw [b2T q3] at wb
          by_cases q : 2 ≤ F
          · rw [if_pos q] at ih
            simp (disch := omega) only [rI_d, rJ_d, rR_d, rN_d, wF_d, xI_d, xJ_d, xD_d, xQ_d, yI_d, yJ_d, yD_d, yQ_d, dI_s, dJ_s, dR_s, dN_s, dN_n, dH_s, dX_s, dL_s, dD_s, dQ_s, bC_r, bC_t, kI_s, kJ_s, kF_s, kD_s, kR_s, kV_s, I_lit, I_neg, I_add, I_sub, I_mul, I_ltT, I_ltF, I_leT, I_leF, I_eqT, I_eqF, c_int, c_long, c_obj, c_arr, c_bool, c_boolN, c_boolF, vn_bool, c_charN, vn_char, b2_f, b2_t, Int.toNat_natCast, ↓reduceIte, eq_self, and_self, and_true, true_and, not_false_eq_true, not_true_eq_false, L_0_0, L_0_1, L_0_2, L_0_3, L_0_4, L_0_5, L_0_6, L_0_7, L_0_8, L_0_9, L_0_10, L_0_11, L_0_12, L_0_13, L_0_14, L_0_15, C_0, L_1_0, L_1_1, L_1_2, C_1, L_2_0, L_2_1, L_2_2, C_2, L_3_0, L_3_1, L_3_2, C_3, L_65_0, L_65_1, L_65_2, L_65_3, L_65_4, C_65, L_66_0, L_66_1, L_66_2, L_66_3, C_66, L_129_0, L_129_1, L_129_2, L_129_3, C_129, L_198_0, L_198_1, L_198_2, L_198_3, L_198_4, L_198_5, L_198_6, L_198_7, L_198_8, L_198_9, L_198_10, L_198_11, L_198_12, L_198_13, L_198_14, L_198_15, L_198_16, L_198_17, L_198_18, L_198_19, L_198_20, L_198_21, L_198_22, L_198_23, L_198_24, L_198_25, L_198_26, L_198_27, L_198_28, L_198_29, L_198_30, L_198_31, L_198_32, L_198_33, L_198_34, L_198_35, L_198_36, L_198_37, L_198_38, L_198_39, L_198_40, L_198_41, L_198_42, L_198_43, L_198_44, L_198_45, L_198_46, L_198_47, L_198_48, C_198, A_199, A_200, A_201, A_202, A_203, A_204, A_205, A_206, A_207, A_208, A_209, A_210, A_211, A_212, A_213, A_214, A_215, A_216, A_217, A_218, A_219, A_220, A_221, A_222, A_223, A_224, A_225, A_226, A_227, A_228, A_128, A_191, A_rf, A_rs, A_rt, Q_4, Q_67, Q_130, t_170_0_1, t_170_0_2, t_170_0_3, t_170_31_1, t_170_31_2, t_170_31_3, t_170_31_4, t_170_31_5, t_170_31_6, t_170_31_7, t_170_31_8, t_170_31_9, hcm, c1, c2, w0, wb, ih]
          · rw [if_neg q] at ih
            simp (disch := omega) only [rI_d, rJ_d, rR_d, rN_d, wF_d, xI_d, xJ_d, xD_d, xQ_d, yI_d, yJ_d, yD_d, yQ_d, dI_s, dJ_s, dR_s, dN_s, dN_n, dH_s, dX_s, dL_s, dD_s, dQ_s, bC_r, bC_t, kI_s, kJ_s, kF_s, kD_s, kR_s, kV_s, I_lit, I_neg, I_add, I_sub, I_mul, I_ltT, I_ltF, I_leT, I_leF, I_eqT, I_eqF, c_int, c_long, c_obj, c_arr, c_bool, c_boolN, c_boolF, vn_bool, c_charN, vn_char, b2_f, b2_t, Int.toNat_natCast, ↓reduceIte, eq_self, and_self, and_true, true_and, not_false_eq_true, not_true_eq_false, L_0_0, L_0_1, L_0_2, L_0_3, L_0_4, L_0_5, L_0_6, L_0_7, L_0_8, L_0_9, L_0_10, L_0_11, L_0_12, L_0_13, L_0_14, L_0_15, C_0, L_1_0, L_1_1, L_1_2, C_1, L_2_0, L_2_1, L_2_2, C_2, L_3_0, L_3_1, L_3_2, C_3, L_65_0, L_65_1, L_65_2, L_65_3, L_65_4, C_65, L_66_0, L_66_1, L_66_2, L_66_3, C_66, L_129_0, L_129_1, L_129_2, L_129_3, C_129, L_198_0, L_198_1, L_198_2, L_198_3, L_198_4, L_198_5, L_198_6, L_198_7, L_198_8, L_198_9, L_198_10, L_198_11, L_198_12, L_198_13, L_198_14, L_198_15, L_198_16, L_198_17, L_198_18, L_198_19, L_198_20, L_198_21, L_198_22, L_198_23, L_198_24, L_198_25, L_198_26, L_198_27, L_198_28, L_198_29, L_198_30, L_198_31, L_198_32, L_198_33, L_198_34, L_198_35, L_198_36, L_198_37, L_198_38, L_198_39, L_198_40, L_198_41, L_198_42, L_198_43, L_198_44, L_198_45, L_198_46, L_198_47, L_198_48, C_198, A_199, A_200, A_201, A_202, A_203, A_204, A_205, A_206, A_207, A_208, A_209, A_210, A_211, A_212, A_213, A_214, A_215, A_216, A_217, A_218, A_219, A_220, A_221, A_222, A_223, A_224, A_225, A_226, A_227, A_228, A_128, A_191, A_rf, A_rs, A_rt, Q_4, Q_67, Q_130, t_170_0_1, t_170_0_2, t_170_0_3, t_170_31_1, t_170_31_2, t_170_31_3, t_170_31_4, t_170_31_5, t_170_31_6, t_170_31_7, t_170_31_8, t_170_31_9, hcm, c1, c2, w0, wb, ih]
        · rw [cifF q3] at hW
          rw [b2F q3] at wb
          by_cases q4 : B.2.1 215 (12 * (r + X) + (c + Y)).toNat = -1
          · rw [cifT q4] at hW
            subst hW
            rw [if_pos hf0] at ih
            simp (disch := omega) only [rI_d, rJ_d, rR_d, rN_d, wF_d, xI_d, xJ_d, xD_d, xQ_d, yI_d, yJ_d, yD_d, yQ_d, dI_s, dJ_s, dR_s, dN_s, dN_n, dH_s, dX_s, dL_s, dD_s, dQ_s, bC_r, bC_t, kI_s, kJ_s, kF_s, kD_s, kR_s, kV_s, I_lit, I_neg, I_add, I_sub, I_mul, I_ltT, I_ltF, I_leT, I_leF, I_eqT, I_eqF, c_int, c_long, c_obj, c_arr, c_bool, c_boolN, c_boolF, vn_bool, c_charN, vn_char, b2_f, b2_t, Int.toNat_natCast, ↓reduceIte, eq_self, and_self, and_true, true_and, not_false_eq_true, not_true_eq_false, L_0_0, L_0_1, L_0_2, L_0_3, L_0_4, L_0_5, L_0_6, L_0_7, L_0_8, L_0_9, L_0_10, L_0_11, L_0_12, L_0_13, L_0_14, L_0_15, C_0, L_1_0, L_1_1, L_1_2, C_1, L_2_0, L_2_1, L_2_2, C_2, L_3_0, L_3_1, L_3_2, C_3, L_65_0, L_65_1, L_65_2, L_65_3, L_65_4, C_65, L_66_0, L_66_1, L_66_2, L_66_3, C_66, L_129_0, L_129_1, L_129_2, L_129_3, C_129, L_198_0, L_198_1, L_198_2, L_198_3, L_198_4, L_198_5, L_198_6, L_198_7, L_198_8, L_198_9, L_198_10, L_198_11, L_198_12, L_198_13, L_198_14, L_198_15, L_198_16, L_198_17, L_198_18, L_198_19, L_198_20, L_198_21, L_198_22, L_198_23, L_198_24, L_198_25, L_198_26, L_198_27, L_198_28, L_198_29, L_198_30, L_198_31, L_198_32, L_198_33, L_198_34, L_198_35, L_198_36, L_198_37, L_198_38, L_198_39, L_198_40, L_198_41, L_198_42, L_198_43, L_198_44, L_198_45, L_198_46, L_198_47, L_198_48, C_198, A_199, A_200, A_201, A_202, A_203, A_204, A_205, A_206, A_207, A_208, A_209, A_210, A_211, A_212, A_213, A_214, A_215, A_216, A_217, A_218, A_219, A_220, A_221, A_222, A_223, A_224, A_225, A_226, A_227, A_228, A_128, A_191, A_rf, A_rs, A_rt, Q_4, Q_67, Q_130, t_170_0_1, t_170_0_2, t_170_0_3, t_170_31_1, t_170_31_2, t_170_31_3, t_170_31_4, t_170_31_5, t_170_31_6, t_170_31_7, t_170_31_8, t_170_31_9, hcm, c1, c2, w0, wb, q4, ih]
          · rw [cifF q4] at hW
            subst hW
            by_cases q : 1 ≤ F
            · rw [if_pos q] at ih
              simp (disch := omega) only [rI_d, rJ_d, rR_d, rN_d, wF_d, xI_d, xJ_d, xD_d, xQ_d, yI_d, yJ_d, yD_d, yQ_d, dI_s, dJ_s, dR_s, dN_s, dN_n, dH_s, dX_s, dL_s, dD_s, dQ_s, bC_r, bC_t, kI_s, kJ_s, kF_s, kD_s, kR_s, kV_s, I_lit, I_neg, I_add, I_sub, I_mul, I_ltT, I_ltF, I_leT, I_leF, I_eqT, I_eqF, c_int, c_long, c_obj, c_arr, c_bool, c_boolN, c_boolF, vn_bool, c_charN, vn_char, b2_f, b2_t, Int.toNat_natCast, ↓reduceIte, eq_self, and_self, and_true, true_and, not_false_eq_true, not_true_eq_false, L_0_0, L_0_1, L_0_2, L_0_3, L_0_4, L_0_5, L_0_6, L_0_7, L_0_8, L_0_9, L_0_10, L_0_11, L_0_12, L_0_13, L_0_14, L_0_15, C_0, L_1_0, L_1_1, L_1_2, C_1, L_2_0, L_2_1, L_2_2, C_2, L_3_0, L_3_1, L_3_2, C_3, L_65_0, L_65_1, L_65_2, L_65_3, L_65_4, C_65, L_66_0, L_66_1, L_66_2, L_66_3, C_66, L_129_0, L_129_1, L_129_2, L_129_3, C_129, L_198_0, L_198_1, L_198_2, L_198_3, L_198_4, L_198_5, L_198_6, L_198_7, L_198_8, L_198_9, L_198_10, L_198_11, L_198_12, L_198_13, L_198_14, L_198_15, L_198_16, L_198_17, L_198_18, L_198_19, L_198_20, L_198_21, L_198_22, L_198_23, L_198_24, L_198_25, L_198_26, L_198_27, L_198_28, L_198_29, L_198_30, L_198_31, L_198_32, L_198_33, L_198_34, L_198_35, L_198_36, L_198_37, L_198_38, L_198_39, L_198_40, L_198_41, L_198_42, L_198_43, L_198_44, L_198_45, L_198_46, L_198_47, L_198_48, C_198, A_199, A_200, A_201, A_202, A_203, A_204, A_205, A_206, A_207, A_208, A_209, A_210, A_211, A_212, A_213, A_214, A_215, A_216, A_217, A_218, A_219, A_220, A_221, A_222, A_223, A_224, A_225, A_226, A_227, A_228, A_128, A_191, A_rf, A_rs, A_rt, Q_4, Q_67, Q_130, t_170_0_1, t_170_0_2, t_170_0_3, t_170_31_1, t_170_31_2, t_170_31_3, t_170_31_4, t_170_31_5, t_170_31_6, t_170_31_7, t_170_31_8, t_170_31_9, hcm, c1, c2, w0, wb, ih]
            · rw [if_neg q] at ih
              simp (disch := omega) only [rI_d, rJ_d, rR_d, rN_d, wF_d, xI_d, xJ_d, xD_d, xQ_d, yI_d, yJ_d, yD_d, yQ_d, dI_s, dJ_s, dR_s, dN_s, dN_n, dH_s, dX_s, dL_s, dD_s, dQ_s, bC_r, bC_t, kI_s, kJ_s, kF_s, kD_s, kR_s, kV_s, I_lit, I_neg, I_add, I_sub, I_mul, I_ltT, I_ltF, I_leT, I_leF, I_eqT, I_eqF, c_int, c_long, c_obj, c_arr, c_bool, c_boolN, c_boolF, vn_bool, c_charN, vn_char, b2_f, b2_t, Int.toNat_natCast, ↓reduceIte, eq_self, and_self, and_true, true_and, not_false_eq_true, not_true_eq_false, L_0_0, L_0_1, L_0_2, L_0_3, L_0_4, L_0_5, L_0_6, L_0_7, L_0_8, L_0_9, L_0_10, L_0_11, L_0_12, L_0_13, L_0_14, L_0_15, C_0, L_1_0, L_1_1, L_1_2, C_1, L_2_0, L_2_1, L_2_2, C_2, L_3_0, L_3_1, L_3_2, C_3, L_65_0, L_65_1, L_65_2, L_65_3, L_65_4, C_65, L_66_0, L_66_1, L_66_2, L_66_3, C_66, L_129_0, L_129_1, L_129_2, L_129_3, C_129, L_198_0, L_198_1, L_198_2, L_198_3, L_198_4, L_198_5, L_198_6, L_198_7, L_198_8, L_198_9, L_198_10, L_198_11, L_198_12, L_198_13, L_198_14, L_198_15, L_198_16, L_198_17, L_198_18, L_198_19, L_198_20, L_198_21, L_198_22, L_198_23, L_198_24, L_198_25, L_198_26, L_198_27, L_198_28, L_198_29, L_198_30, L_198_31, L_198_32, L_198_33, L_198_34, L_198_35, L_198_36, L_198_37, L_198_38, L_198_39, L_198_40, L_198_41, L_198_42, L_198_43, L_198_44, L_198_45, L_198_46, L_198_47, L_198_48, C_198, A_199, A_200, A_201, A_202, A_203, A_204, A_205, A_206, A_207, A_208, A_209, A_210, A_211, A_212, A_213, A_214, A_215, A_216, A_217, A_218, A_219, A_220, A_221, A_222, A_223, A_224, A_225, A_226, A_227, A_228, A_128, A_191, A_rf, A_rs, A_rt, Q_4, Q_67, Q_130, t_170_0_1, t_170_0_2, t_170_0_3, t_170_31_1, t_170_31_2, t_170_31_3, t_170_31_4, t_170_31_5, t_170_31_6, t_170_31_7, t_170_31_8, t_170_31_9, hcm, c1, c2, w0, wb, ih]
theorem w_170 (hd : 3 ≤ d) (hw : MW B) {M0 : gM} {s : Nat} {t m r c : Int} {l : List Nat} (hl : l.length ≤ 25) (hl2 : ∀ k ∈ l, k < 25) (hT : Tn M0 B s l t m) (hr : R32 r) (hc : R32 c) : gCa K d 170 [.ref (N + 198), .int (I r), .int (I c)] (hH K N G B) = some (.inl (some (.int (I (wrst (tw B) (B.2.1 215) l t m r c)))), hH K N G B) := by
  obtain ⟨d, rfl, hd'⟩ := d_succ hd
  have hco := cols_b hw
  have w0 := w_143 (K := K) (d := d) (N := N) (G := G) (by omega) hw
  refine c_170 _ ?_
  unfold t_170_0 wrst
  by_cases h1 : 0 ≤ r ∧ r ≤ 59
  · by_cases h2 : 0 ≤ c ∧ c ≤ cols (tw B) - 1
    · rw [cifT ⟨h1.1, h1.2, h2⟩]
      have := l_170 (K := K) (N := N) (G := G) hd' hw hl hl2 hT h1 (c := c) (by omega) l.length 0 none none none (by omega) (by omega)
      have e0 : fmax (wsc (tw B) (B.2.1 215) l t m r c) (l.take (0 : Int).toNat) = 0 := rfl
      rw [e0] at this
      simp (disch := omega) only [rI_d, rJ_d, rR_d, rN_d, wF_d, xI_d, xJ_d, xD_d, xQ_d, yI_d, yJ_d, yD_d, yQ_d, dI_s, dJ_s, dR_s, dN_s, dN_n, dH_s, dX_s, dL_s, dD_s, dQ_s, bC_r, bC_t, kI_s, kJ_s, kF_s, kD_s, kR_s, kV_s, I_lit, I_neg, I_add, I_sub, I_mul, I_ltT, I_ltF, I_leT, I_leF, I_eqT, I_eqF, c_int, c_long, c_obj, c_arr, c_bool, c_boolN, c_boolF, vn_bool, c_charN, vn_char, b2_f, b2_t, Int.toNat_natCast, ↓reduceIte, eq_self, and_self, and_true, true_and, not_false_eq_true, not_true_eq_false, L_0_0, L_0_1, L_0_2, L_0_3, L_0_4, L_0_5, L_0_6, L_0_7, L_0_8, L_0_9, L_0_10, L_0_11, L_0_12, L_0_13, L_0_14, L_0_15, C_0, L_1_0, L_1_1, L_1_2, C_1, L_2_0, L_2_1, L_2_2, C_2, L_3_0, L_3_1, L_3_2, C_3, L_65_0, L_65_1, L_65_2, L_65_3, L_65_4, C_65, L_66_0, L_66_1, L_66_2, L_66_3, C_66, L_129_0, L_129_1, L_129_2, L_129_3, C_129, L_198_0, L_198_1, L_198_2, L_198_3, L_198_4, L_198_5, L_198_6, L_198_7, L_198_8, L_198_9, L_198_10, L_198_11, L_198_12, L_198_13, L_198_14, L_198_15, L_198_16, L_198_17, L_198_18, L_198_19, L_198_20, L_198_21, L_198_22, L_198_23, L_198_24, L_198_25, L_198_26, L_198_27, L_198_28, L_198_29, L_198_30, L_198_31, L_198_32, L_198_33, L_198_34, L_198_35, L_198_36, L_198_37, L_198_38, L_198_39, L_198_40, L_198_41, L_198_42, L_198_43, L_198_44, L_198_45, L_198_46, L_198_47, L_198_48, C_198, A_199, A_200, A_201, A_202, A_203, A_204, A_205, A_206, A_207, A_208, A_209, A_210, A_211, A_212, A_213, A_214, A_215, A_216, A_217, A_218, A_219, A_220, A_221, A_222, A_223, A_224, A_225, A_226, A_227, A_228, A_128, A_191, A_rf, A_rs, A_rt, Q_4, Q_67, Q_130, t_170_0_1, t_170_0_2, t_170_0_3, t_170_31_1, t_170_31_2, t_170_31_3, t_170_31_4, t_170_31_5, t_170_31_6, t_170_31_7, t_170_31_8, t_170_31_9, w_89, w0, b2T h1, b2T h2, this]
    · rw [cifF (fun h => h2 h.2.2)]
      simp (disch := omega) only [rI_d, rJ_d, rR_d, rN_d, wF_d, xI_d, xJ_d, xD_d, xQ_d, yI_d, yJ_d, yD_d, yQ_d, dI_s, dJ_s, dR_s, dN_s, dN_n, dH_s, dX_s, dL_s, dD_s, dQ_s, bC_r, bC_t, kI_s, kJ_s, kF_s, kD_s, kR_s, kV_s, I_lit, I_neg, I_add, I_sub, I_mul, I_ltT, I_ltF, I_leT, I_leF, I_eqT, I_eqF, c_int, c_long, c_obj, c_arr, c_bool, c_boolN, c_boolF, vn_bool, c_charN, vn_char, b2_f, b2_t, Int.toNat_natCast, ↓reduceIte, eq_self, and_self, and_true, true_and, not_false_eq_true, not_true_eq_false, L_0_0, L_0_1, L_0_2, L_0_3, L_0_4, L_0_5, L_0_6, L_0_7, L_0_8, L_0_9, L_0_10, L_0_11, L_0_12, L_0_13, L_0_14, L_0_15, C_0, L_1_0, L_1_1, L_1_2, C_1, L_2_0, L_2_1, L_2_2, C_2, L_3_0, L_3_1, L_3_2, C_3, L_65_0, L_65_1, L_65_2, L_65_3, L_65_4, C_65, L_66_0, L_66_1, L_66_2, L_66_3, C_66, L_129_0, L_129_1, L_129_2, L_129_3, C_129, L_198_0, L_198_1, L_198_2, L_198_3, L_198_4, L_198_5, L_198_6, L_198_7, L_198_8, L_198_9, L_198_10, L_198_11, L_198_12, L_198_13, L_198_14, L_198_15, L_198_16, L_198_17, L_198_18, L_198_19, L_198_20, L_198_21, L_198_22, L_198_23, L_198_24, L_198_25, L_198_26, L_198_27, L_198_28, L_198_29, L_198_30, L_198_31, L_198_32, L_198_33, L_198_34, L_198_35, L_198_36, L_198_37, L_198_38, L_198_39, L_198_40, L_198_41, L_198_42, L_198_43, L_198_44, L_198_45, L_198_46, L_198_47, L_198_48, C_198, A_199, A_200, A_201, A_202, A_203, A_204, A_205, A_206, A_207, A_208, A_209, A_210, A_211, A_212, A_213, A_214, A_215, A_216, A_217, A_218, A_219, A_220, A_221, A_222, A_223, A_224, A_225, A_226, A_227, A_228, A_128, A_191, A_rf, A_rs, A_rt, Q_4, Q_67, Q_130, t_170_0_1, t_170_0_2, t_170_0_3, t_170_31_1, t_170_31_2, t_170_31_3, t_170_31_4, t_170_31_5, t_170_31_6, t_170_31_7, t_170_31_8, t_170_31_9, w_89, w0, b2T h1, b2F h2]
  · rw [cifF (fun h => h1 ⟨h.1, h.2.1⟩)]
    simp (disch := omega) only [rI_d, rJ_d, rR_d, rN_d, wF_d, xI_d, xJ_d, xD_d, xQ_d, yI_d, yJ_d, yD_d, yQ_d, dI_s, dJ_s, dR_s, dN_s, dN_n, dH_s, dX_s, dL_s, dD_s, dQ_s, bC_r, bC_t, kI_s, kJ_s, kF_s, kD_s, kR_s, kV_s, I_lit, I_neg, I_add, I_sub, I_mul, I_ltT, I_ltF, I_leT, I_leF, I_eqT, I_eqF, c_int, c_long, c_obj, c_arr, c_bool, c_boolN, c_boolF, vn_bool, c_charN, vn_char, b2_f, b2_t, Int.toNat_natCast, ↓reduceIte, eq_self, and_self, and_true, true_and, not_false_eq_true, not_true_eq_false, L_0_0, L_0_1, L_0_2, L_0_3, L_0_4, L_0_5, L_0_6, L_0_7, L_0_8, L_0_9, L_0_10, L_0_11, L_0_12, L_0_13, L_0_14, L_0_15, C_0, L_1_0, L_1_1, L_1_2, C_1, L_2_0, L_2_1, L_2_2, C_2, L_3_0, L_3_1, L_3_2, C_3, L_65_0, L_65_1, L_65_2, L_65_3, L_65_4, C_65, L_66_0, L_66_1, L_66_2, L_66_3, C_66, L_129_0, L_129_1, L_129_2, L_129_3, C_129, L_198_0, L_198_1, L_198_2, L_198_3, L_198_4, L_198_5, L_198_6, L_198_7, L_198_8, L_198_9, L_198_10, L_198_11, L_198_12, L_198_13, L_198_14, L_198_15, L_198_16, L_198_17, L_198_18, L_198_19, L_198_20, L_198_21, L_198_22, L_198_23, L_198_24, L_198_25, L_198_26, L_198_27, L_198_28, L_198_29, L_198_30, L_198_31, L_198_32, L_198_33, L_198_34, L_198_35, L_198_36, L_198_37, L_198_38, L_198_39, L_198_40, L_198_41, L_198_42, L_198_43, L_198_44, L_198_45, L_198_46, L_198_47, L_198_48, C_198, A_199, A_200, A_201, A_202, A_203, A_204, A_205, A_206, A_207, A_208, A_209, A_210, A_211, A_212, A_213, A_214, A_215, A_216, A_217, A_218, A_219, A_220, A_221, A_222, A_223, A_224, A_225, A_226, A_227, A_228, A_128, A_191, A_rf, A_rs, A_rt, Q_4, Q_67, Q_130, t_170_0_1, t_170_0_2, t_170_0_3, t_170_31_1, t_170_31_2, t_170_31_3, t_170_31_4, t_170_31_5, t_170_31_6, t_170_31_7, t_170_31_8, t_170_31_9, w_89, w0, b2F h1]
end
