/-! PURE 16: the model's pieces laid and taken -/
set_option maxRecDepth 100000
/-- an array anew -/
def stA (B : gB) (o : Nat) (f : Nat → Int) : gB := (B.1, fun o' => if o' = o then f else B.2.1 o', B.2.2)
theorem st_eq {B : gB} {o : Nat} {f : Nat → Int} : (stA B o f).2.1 o = f := if_pos rfl
theorem st_ne {B : gB} {o o' : Nat} {f : Nat → Int} (h : o' ≠ o) : (stA B o f).2.1 o' = B.2.1 o' := if_neg h
theorem st_1 {B : gB} {o : Nat} {f : Nat → Int} : (stA B o f).1 = B.1 := rfl
theorem st_3 {B : gB} {o : Nat} {f : Nat → Int} : (stA B o f).2.2 = B.2.2 := rfl
theorem st_self {B : gB} {o : Nat} : stA B o (B.2.1 o) = B := by
  refine Prod.ext rfl (Prod.ext (funext fun o' => ?_) rfl)
  by_cases h : o' = o
  · subst h; exact st_eq
  · exact st_ne h
theorem st_sA {B : gB} {o j : Nat} {f : Nat → Int} {v : Int} : sA (stA B o f) o j v = stA B o (fun q => if q = j then v else f q) := by
  refine Prod.ext rfl (Prod.ext (funext fun o' => funext fun j' => ?_) rfl)
  show (if o' = o ∧ j' = j then v else (if o' = o then f else B.2.1 o') j') = (if o' = o then (fun q => if q = j then v else f q) else B.2.1 o') j'
  by_cases h : o' = o
  · rw [if_pos h, if_pos h]
    by_cases h2 : j' = j
    · rw [if_pos ⟨h, h2⟩, if_pos h2]
    · rw [if_neg (fun e => h2 e.2), if_neg h2]
  · rw [if_neg h, if_neg h, if_neg (fun e => h e.1)]
theorem st_of {B : gB} {o j : Nat} {v : Int} {f : Nat → Int} (h : ∀ q, f q = if q = j then v else B.2.1 o q) : sA B o j v = stA B o f := by
  rw [show sA B o j v = sA (stA B o (B.2.1 o)) o j v by rw [st_self], st_sA]
  exact congrArg (stA B o) (funext fun q => (h q).symm)
theorem mwst {B : gB} (h : MW B) {o : Nat} {f : Nat → Int} (hv : ∀ j, loA o ≤ f j ∧ f j ≤ hiA o) : MW (stA B o f) := by
  refine ⟨h.1, fun o' j h1 h2 => ?_⟩
  by_cases e : o' = o
  · subst e; rw [st_eq]; exact hv j
  · rw [st_ne e]; exact h.2 o' j h1 h2
noncomputable def putC (cl : Nat → Int) (l : List Nat) (t m r c v : Int) (P : List Nat) : Nat → Int := fun q => cif (∃ k ∈ P, q = (12 * (r + oR l t m k) + (c + oC l t m k)).toNat) v (cl q)
theorem putC_nil {cl : Nat → Int} {l : List Nat} {t m r c v : Int} : putC cl l t m r c v [] = cl := funext fun q => cifF (by rintro ⟨k, h, -⟩; cases h)
theorem putC_app {cl : Nat → Int} {l : List Nat} {t m r c v : Int} {P : List Nat} {k : Nat} : putC cl l t m r c v (P ++ [k]) = fun q => if q = (12 * (r + oR l t m k) + (c + oC l t m k)).toNat then v else putC cl l t m r c v P q := by
  funext q
  unfold putC
  by_cases h : q = (12 * (r + oR l t m k) + (c + oC l t m k)).toNat
  · rw [if_pos h, cifT ⟨k, List.mem_append_right _ List.mem_cons_self, h⟩]
  · rw [if_neg h]
    refine cif_of ⟨?_, ?_⟩ (fun _ => rfl) (fun _ => rfl)
    · rintro ⟨k', h1, h2⟩
      rcases List.mem_append.mp h1 with h1 | h1
      · exact ⟨k', h1, h2⟩
      · cases List.mem_singleton.mp h1
        exact absurd h2 h
    · rintro ⟨k', h1, h2⟩
      exact ⟨k', List.mem_append_left _ h1, h2⟩
/-- the groups when a piece is laid -/
noncomputable def putG (B : gB) (s : Nat) (l : List Nat) (t r m : Int) : gB := cif (marked (tw B) s) (sA (sA B 216 (B.2.1 204 s).toNat (rem (tw B) (r + mb (tw B) s l t m))) 217 (B.2.1 204 s).toNat (B.2.1 217 (B.2.1 204 s).toNat + 1)) B
/-- a piece's row -/
def putR (B : gB) (s : Nat) (t r c m : Int) : gB := sI (sI (sA (sA (sA (sA (sA (sA B 209 ((B.1 198 17)).toNat ((B.1 198 18))) 210 ((B.1 198 17)).toNat s) 211 ((B.1 198 17)).toNat r) 212 ((B.1 198 17)).toNat c) 213 ((B.1 198 17)).toNat t) 214 ((B.1 198 17)).toNat m) 198 17 ((B.1 198 17) + 1)) 198 18 ((B.1 198 18) + 1)
noncomputable def putB (B : gB) (s : Nat) (l : List Nat) (t r c m : Int) : gB := putR (putG (stA B 215 (putC (B.2.1 215) l t m r c ((B.1 198 18)) l)) s l t r m) s t r c m
def rcB (cl : Nat → Int) (v : Int) (z : Nat) : Nat → Int := fun q => if q < z then (if cl q = v then -1 else cl q) else cl q
def shB (f : Nat → Int) (p z : Nat) : Nat → Int := fun j => if p ≤ j ∧ j < z then f (j + 1) else f j
/-- the place p closed up to z -/
def shA (B : gB) (p z : Nat) : gB := stA (stA (stA (stA (stA (stA B 209 (shB (B.2.1 209) p z)) 210 (shB (B.2.1 210) p z)) 211 (shB (B.2.1 211) p z)) 212 (shB (B.2.1 212) p z)) 213 (shB (B.2.1 213) p z)) 214 (shB (B.2.1 214) p z)
noncomputable def tkG (B : gB) (s : Nat) : gB := cif (marked (tw B) s) (sA B 217 (B.2.1 204 s).toNat (B.2.1 217 (B.2.1 204 s).toNat - 1)) B
noncomputable def tkB (B : gB) (p : Nat) : gB := shA (sI (tkG (stA B 215 (rcB (B.2.1 215) (B.2.1 209 p) 720)) (B.2.1 210 p).toNat) 198 17 ((B.1 198 17) - 1)) p ((B.1 198 17) - 1).toNat
section
variable {K : gK} {d N : Nat} {G : gH} {B : gB}
theorem putC_b (hw : MW B) {l : List Nat} {t m r c v : Int} {P : List Nat} (hv : -1 ≤ v ∧ v ≤ 1000) : ∀ j, -1 ≤ putC (B.2.1 215) l t m r c v P j ∧ putC (B.2.1 215) l t m r c v P j ≤ 1000 := by
  intro j
  unfold putC
  by_cases h : ∃ k ∈ P, j = (12 * (r + oR l t m k) + (c + oC l t m k)).toNat
  · rw [cifT h]; exact hv
  · rw [cifF h]; exact mw_cloth hw j
theorem l_102 (hd : 1 ≤ d) (hw : MW B) {s t r c m : Int} {l : List Nat} (hs : 0 ≤ s ∧ s < 8) (ht : 0 ≤ t ∧ t ≤ 3) (hm : 0 ≤ m ∧ m ≤ 1) (hl : l.length ≤ 25) (hl2 : ∀ k ∈ l, k < 25) (hT : Tn (tw B) B s.toNat l t m) (hin : ins (tw B) l t m r c) (hmy : (B.1 198 17) < 40) (hnx : (B.1 198 18) < 1000) : ∀ (n : Nat) (z : Int), 0 ≤ z → z + n = l.length →
    gRn K d 102 3 [some (.ref (N + 198)), some (.int (I s)), some (.int (I t)), some (.int (I r)), some (.int (I c)), some (.int (I m)), some (.int (I z))] [] (hH K N G (stA B 215 (putC (B.2.1 215) l t m r c ((B.1 198 18)) (l.take z.toNat)))) = some (.inl (some (.int (I ((B.1 198 18))))), hH K N G (putB B s.toNat l t r c m)) := by
  intro n
  have hcm : (B.1 198 33) = (l.length : Int) := hT.1
  have hco := cols_b hw
  have h1 := mw_many hw
  have h2 := mw_next hw
  induction n with
  | zero =>
    intro z hz hn
    rw [List.take_of_length_le (by omega)]
    have hw1 : MW (stA B 215 (putC (B.2.1 215) l t m r c ((B.1 198 18)) l)) := mwst hw (putC_b hw (by omega))
    have g6 := w_171 (K := K) (d := d) (N := N) (G := G) (by omega) hw1 hs
    have hgr := mw_group hw s.toNat
    have hog := mw_ofGroup hw (B.2.1 204 s.toNat).toNat
    refine e_102_3 _ ?_
    unfold t_102_3 putB putG putR
    by_cases e : marked (tw B) s.toNat
    · have e' : marked (tw (stA B 215 (putC (B.2.1 215) l t m r c ((B.1 198 18)) l))) s.toNat := e
      rw [b2T e'] at g6
      rw [cifT e']
      have g7 := w_172 (K := K) (d := d) (N := N) (G := G) (r := r) (by omega) hw1 ⟨hin.1.1, hin.1.2.1⟩ e.2
      rw [st_1, hT.2.2] at g7
      have q1 : rem (tw (stA B 215 (putC (B.2.1 215) l t m r c ((B.1 198 18)) l))) (r + mb (tw B) s.toNat l t m) = rem (tw B) (r + mb (tw B) s.toNat l t m) := rfl
      have q2 : rem (tw (stA B 215 (putC (B.2.1 215) l t m r c ((B.1 198 18)) l))) (r + mb (tw (stA B 215 (putC (B.2.1 215) l t m r c ((B.1 198 18)) l))) s.toNat l t m) = rem (tw B) (r + mb (tw B) s.toNat l t m) := rfl
      rw [q1] at g7
      rw [q2]
      have hgn : 0 ≤ B.2.1 204 s.toNat := by have := e.1; dsimp only [tw] at this; omega
      simp (disch := omega) only [rI_d, rJ_d, rR_d, rN_d, wF_d, xI_d, xJ_d, xD_d, xQ_d, yI_d, yJ_d, yD_d, yQ_d, dI_s, dJ_s, dR_s, dN_s, dN_n, dH_s, dX_s, dL_s, dD_s, dQ_s, bC_r, bC_t, kI_s, kJ_s, kF_s, kD_s, kR_s, kV_s, I_lit, I_neg, I_add, I_sub, I_mul, I_ltT, I_ltF, I_leT, I_leF, I_eqT, I_eqF, c_int, c_long, c_obj, c_arr, c_bool, c_boolN, c_boolF, vn_bool, c_charN, vn_char, b2_f, b2_t, Int.toNat_natCast, ↓reduceIte, eq_self, and_self, and_true, true_and, not_false_eq_true, not_true_eq_false, L_0_0, L_0_1, L_0_2, L_0_3, L_0_4, L_0_5, L_0_6, L_0_7, L_0_8, L_0_9, L_0_10, L_0_11, L_0_12, L_0_13, L_0_14, L_0_15, C_0, L_1_0, L_1_1, L_1_2, C_1, L_2_0, L_2_1, L_2_2, C_2, L_3_0, L_3_1, L_3_2, C_3, L_65_0, L_65_1, L_65_2, L_65_3, L_65_4, C_65, L_66_0, L_66_1, L_66_2, L_66_3, C_66, L_129_0, L_129_1, L_129_2, L_129_3, C_129, L_198_0, L_198_1, L_198_2, L_198_3, L_198_4, L_198_5, L_198_6, L_198_7, L_198_8, L_198_9, L_198_10, L_198_11, L_198_12, L_198_13, L_198_14, L_198_15, L_198_16, L_198_17, L_198_18, L_198_19, L_198_20, L_198_21, L_198_22, L_198_23, L_198_24, L_198_25, L_198_26, L_198_27, L_198_28, L_198_29, L_198_30, L_198_31, L_198_32, L_198_33, L_198_34, L_198_35, L_198_36, L_198_37, L_198_38, L_198_39, L_198_40, L_198_41, L_198_42, L_198_43, L_198_44, L_198_45, L_198_46, L_198_47, L_198_48, C_198, A_199, A_200, A_201, A_202, A_203, A_204, A_205, A_206, A_207, A_208, A_209, A_210, A_211, A_212, A_213, A_214, A_215, A_216, A_217, A_218, A_219, A_220, A_221, A_222, A_223, A_224, A_225, A_226, A_227, A_228, A_128, A_191, A_rf, A_rs, A_rt, Q_4, Q_67, Q_130, t_102_3_1, t_102_3_2, t_102_3_3, t_102_3_4, t_102_3_5, t_102_3_6, t_102_3_7, t_102_3_8, t_102_3_9, t_102_3_10, t_102_3_11, t_102_3_12, t_102_3_13, t_102_3_14, t_102_3_15, t_102_3_16, t_102_3_17, t_102_3_18, t_102_3_19, t_102_3_20, t_102_3_21, t_102_3_22, t_102_3_23, t_102_3_24, t_102_3_25, t_102_3_26, t_102_3_27, t_102_3_28, t_102_3_29, t_102_3_30, t_102_3_31, t_102_3_32, t_102_3_33, t_102_3_34, t_102_3_35, t_102_3_36, t_102_3_37, t_102_3_38, t_102_3_39, t_102_3_40, t_102_3_41, t_102_3_42, t_102_3_43, t_102_3_44, t_102_3_45, t_102_3_46, t_102_3_47, t_102_3_48, t_102_3_49, t_102_3_50, t_102_3_51, t_102_3_52, t_102_3_53, t_102_3_54, t_102_3_55, t_102_3_56, t_102_3_57, t_102_3_58, t_102_3_59, t_102_3_60, t_102_3_61, t_102_3_62, t_102_3_63, t_102_3_64, t_102_3_65, t_102_3_66, t_102_3_67, M_0_8, M_0_9, M_0_10, M_0_11, M_0_12, M_0_13, M_0_14, M_0_15, M_1_0, M_1_1, M_1_2, M_2_0, M_2_1, M_2_2, M_3_0, M_3_1, M_3_2, M_65_0, M_65_1, M_65_2, M_65_3, M_65_4, M_66_2, M_129_2, M_198_0, M_198_1, M_198_2, M_198_3, M_198_4, M_198_5, M_198_7, M_198_17, M_198_18, M_198_28, M_198_31, M_198_32, M_198_33, M_198_36, M_198_37, M_198_38, M_198_39, M_198_41, M_198_48, S_199, S_200, S_201, S_202, S_203, S_204, S_205, S_206, S_207, S_208, S_209, S_210, S_211, S_212, S_213, S_214, S_215, S_216, S_217, S_218, S_219, S_220, S_221, S_222, S_223, S_224, S_225, S_226, S_227, S_228, S_128, S_191, S_rf, S_rs, S_rt, sI_eq, sI_ne, sI_21, sI_22, sA_eq, sA_ne, sA_1, sA_3, st_1, st_ne, hcm, g6, g7, Int.add_sub_cancel, Int.toNat_of_nonneg]
    · have e' : ¬ marked (tw (stA B 215 (putC (B.2.1 215) l t m r c ((B.1 198 18)) l))) s.toNat := e
      rw [b2F e'] at g6
      rw [cifF e']
      simp (disch := omega) only [rI_d, rJ_d, rR_d, rN_d, wF_d, xI_d, xJ_d, xD_d, xQ_d, yI_d, yJ_d, yD_d, yQ_d, dI_s, dJ_s, dR_s, dN_s, dN_n, dH_s, dX_s, dL_s, dD_s, dQ_s, bC_r, bC_t, kI_s, kJ_s, kF_s, kD_s, kR_s, kV_s, I_lit, I_neg, I_add, I_sub, I_mul, I_ltT, I_ltF, I_leT, I_leF, I_eqT, I_eqF, c_int, c_long, c_obj, c_arr, c_bool, c_boolN, c_boolF, vn_bool, c_charN, vn_char, b2_f, b2_t, Int.toNat_natCast, ↓reduceIte, eq_self, and_self, and_true, true_and, not_false_eq_true, not_true_eq_false, L_0_0, L_0_1, L_0_2, L_0_3, L_0_4, L_0_5, L_0_6, L_0_7, L_0_8, L_0_9, L_0_10, L_0_11, L_0_12, L_0_13, L_0_14, L_0_15, C_0, L_1_0, L_1_1, L_1_2, C_1, L_2_0, L_2_1, L_2_2, C_2, L_3_0, L_3_1, L_3_2, C_3, L_65_0, L_65_1, L_65_2, L_65_3, L_65_4, C_65, L_66_0, L_66_1, L_66_2, L_66_3, C_66, L_129_0, L_129_1, L_129_2, L_129_3, C_129, L_198_0, L_198_1, L_198_2, L_198_3, L_198_4, L_198_5, L_198_6, L_198_7, L_198_8, L_198_9, L_198_10, L_198_11, L_198_12, L_198_13, L_198_14, L_198_15, L_198_16, L_198_17, L_198_18, L_198_19, L_198_20, L_198_21, L_198_22, L_198_23, L_198_24, L_198_25, L_198_26, L_198_27, L_198_28, L_198_29, L_198_30, L_198_31, L_198_32, L_198_33, L_198_34, L_198_35, L_198_36, L_198_37, L_198_38, L_198_39, L_198_40, L_198_41, L_198_42, L_198_43, L_198_44, L_198_45, L_198_46, L_198_47, L_198_48, C_198, A_199, A_200, A_201, A_202, A_203, A_204, A_205, A_206, A_207, A_208, A_209, A_210, A_211, A_212, A_213, A_214, A_215, A_216, A_217, A_218, A_219, A_220, A_221, A_222, A_223, A_224, A_225, A_226, A_227, A_228, A_128, A_191, A_rf, A_rs, A_rt, Q_4, Q_67, Q_130, t_102_3_1, t_102_3_2, t_102_3_3, t_102_3_4, t_102_3_5, t_102_3_6, t_102_3_7, t_102_3_8, t_102_3_9, t_102_3_10, t_102_3_11, t_102_3_12, t_102_3_13, t_102_3_14, t_102_3_15, t_102_3_16, t_102_3_17, t_102_3_18, t_102_3_19, t_102_3_20, t_102_3_21, t_102_3_22, t_102_3_23, t_102_3_24, t_102_3_25, t_102_3_26, t_102_3_27, t_102_3_28, t_102_3_29, t_102_3_30, t_102_3_31, t_102_3_32, t_102_3_33, t_102_3_34, t_102_3_35, t_102_3_36, t_102_3_37, t_102_3_38, t_102_3_39, t_102_3_40, t_102_3_41, t_102_3_42, t_102_3_43, t_102_3_44, t_102_3_45, t_102_3_46, t_102_3_47, t_102_3_48, t_102_3_49, t_102_3_50, t_102_3_51, t_102_3_52, t_102_3_53, t_102_3_54, t_102_3_55, t_102_3_56, t_102_3_57, t_102_3_58, t_102_3_59, t_102_3_60, t_102_3_61, t_102_3_62, t_102_3_63, t_102_3_64, t_102_3_65, t_102_3_66, t_102_3_67, M_0_8, M_0_9, M_0_10, M_0_11, M_0_12, M_0_13, M_0_14, M_0_15, M_1_0, M_1_1, M_1_2, M_2_0, M_2_1, M_2_2, M_3_0, M_3_1, M_3_2, M_65_0, M_65_1, M_65_2, M_65_3, M_65_4, M_66_2, M_129_2, M_198_0, M_198_1, M_198_2, M_198_3, M_198_4, M_198_5, M_198_7, M_198_17, M_198_18, M_198_28, M_198_31, M_198_32, M_198_33, M_198_36, M_198_37, M_198_38, M_198_39, M_198_41, M_198_48, S_199, S_200, S_201, S_202, S_203, S_204, S_205, S_206, S_207, S_208, S_209, S_210, S_211, S_212, S_213, S_214, S_215, S_216, S_217, S_218, S_219, S_220, S_221, S_222, S_223, S_224, S_225, S_226, S_227, S_228, S_128, S_191, S_rf, S_rs, S_rt, sI_eq, sI_ne, sI_21, sI_22, sA_eq, sA_ne, sA_1, sA_3, st_1, st_ne, hcm, g6, Int.add_sub_cancel, Int.toNat_of_nonneg]
  | succ n ih =>
    intro z hz hn
    have ih := ih (z + 1) (by omega) (by omega)
    obtain ⟨k, hk⟩ : ∃ k, l[z.toNat]? = some k := ⟨_, List.getElem?_eq_getElem (by omega)⟩
    have hkm := List.mem_of_getElem? hk
    have b1 := oR_b (t := t) (m := m) hl2 hkm
    have b2 := oC_b (t := t) (m := m) hl2 hkm
    obtain ⟨c1, c2⟩ := hT.2.1 _ _ hk
    have hi := hin.2 k hkm
    have hin1 := hin.1
    rw [show (z + 1).toNat = z.toNat + 1 by omega, List.take_add_one, hk] at ih
    simp only [Option.toList_some, putC_app] at ih
    rw [← st_sA] at ih
    refine e_102_3 _ ?_
    unfold t_102_3
    generalize oR l t m k = X at *
    generalize oC l t m k = Y at *
    have ea : 12 * (r + X) + (c + Y) = 12 * (r + X) + c + Y := by omega
    rw [ea] at ih
    simp (disch := omega) only [rI_d, rJ_d, rR_d, rN_d, wF_d, xI_d, xJ_d, xD_d, xQ_d, yI_d, yJ_d, yD_d, yQ_d, dI_s, dJ_s, dR_s, dN_s, dN_n, dH_s, dX_s, dL_s, dD_s, dQ_s, bC_r, bC_t, kI_s, kJ_s, kF_s, kD_s, kR_s, kV_s, I_lit, I_neg, I_add, I_sub, I_mul, I_ltT, I_ltF, I_leT, I_leF, I_eqT, I_eqF, c_int, c_long, c_obj, c_arr, c_bool, c_boolN, c_boolF, vn_bool, c_charN, vn_char, b2_f, b2_t, Int.toNat_natCast, ↓reduceIte, eq_self, and_self, and_true, true_and, not_false_eq_true, not_true_eq_false, L_0_0, L_0_1, L_0_2, L_0_3, L_0_4, L_0_5, L_0_6, L_0_7, L_0_8, L_0_9, L_0_10, L_0_11, L_0_12, L_0_13, L_0_14, L_0_15, C_0, L_1_0, L_1_1, L_1_2, C_1, L_2_0, L_2_1, L_2_2, C_2, L_3_0, L_3_1, L_3_2, C_3, L_65_0, L_65_1, L_65_2, L_65_3, L_65_4, C_65, L_66_0, L_66_1, L_66_2, L_66_3, C_66, L_129_0, L_129_1, L_129_2, L_129_3, C_129, L_198_0, L_198_1, L_198_2, L_198_3, L_198_4, L_198_5, L_198_6, L_198_7, L_198_8, L_198_9, L_198_10, L_198_11, L_198_12, L_198_13, L_198_14, L_198_15, L_198_16, L_198_17, L_198_18, L_198_19, L_198_20, L_198_21, L_198_22, L_198_23, L_198_24, L_198_25, L_198_26, L_198_27, L_198_28, L_198_29, L_198_30, L_198_31, L_198_32, L_198_33, L_198_34, L_198_35, L_198_36, L_198_37, L_198_38, L_198_39, L_198_40, L_198_41, L_198_42, L_198_43, L_198_44, L_198_45, L_198_46, L_198_47, L_198_48, C_198, A_199, A_200, A_201, A_202, A_203, A_204, A_205, A_206, A_207, A_208, A_209, A_210, A_211, A_212, A_213, A_214, A_215, A_216, A_217, A_218, A_219, A_220, A_221, A_222, A_223, A_224, A_225, A_226, A_227, A_228, A_128, A_191, A_rf, A_rs, A_rt, Q_4, Q_67, Q_130, t_102_3_1, t_102_3_2, t_102_3_3, t_102_3_4, t_102_3_5, t_102_3_6, t_102_3_7, t_102_3_8, t_102_3_9, t_102_3_10, t_102_3_11, t_102_3_12, t_102_3_13, t_102_3_14, t_102_3_15, t_102_3_16, t_102_3_17, t_102_3_18, t_102_3_19, t_102_3_20, t_102_3_21, t_102_3_22, t_102_3_23, t_102_3_24, t_102_3_25, t_102_3_26, t_102_3_27, t_102_3_28, t_102_3_29, t_102_3_30, t_102_3_31, t_102_3_32, t_102_3_33, t_102_3_34, t_102_3_35, t_102_3_36, t_102_3_37, t_102_3_38, t_102_3_39, t_102_3_40, t_102_3_41, t_102_3_42, t_102_3_43, t_102_3_44, t_102_3_45, t_102_3_46, t_102_3_47, t_102_3_48, t_102_3_49, t_102_3_50, t_102_3_51, t_102_3_52, t_102_3_53, t_102_3_54, t_102_3_55, t_102_3_56, t_102_3_57, t_102_3_58, t_102_3_59, t_102_3_60, t_102_3_61, t_102_3_62, t_102_3_63, t_102_3_64, t_102_3_65, t_102_3_66, t_102_3_67, M_0_8, M_0_9, M_0_10, M_0_11, M_0_12, M_0_13, M_0_14, M_0_15, M_1_0, M_1_1, M_1_2, M_2_0, M_2_1, M_2_2, M_3_0, M_3_1, M_3_2, M_65_0, M_65_1, M_65_2, M_65_3, M_65_4, M_66_2, M_129_2, M_198_0, M_198_1, M_198_2, M_198_3, M_198_4, M_198_5, M_198_7, M_198_17, M_198_18, M_198_28, M_198_31, M_198_32, M_198_33, M_198_36, M_198_37, M_198_38, M_198_39, M_198_41, M_198_48, S_199, S_200, S_201, S_202, S_203, S_204, S_205, S_206, S_207, S_208, S_209, S_210, S_211, S_212, S_213, S_214, S_215, S_216, S_217, S_218, S_219, S_220, S_221, S_222, S_223, S_224, S_225, S_226, S_227, S_228, S_128, S_191, S_rf, S_rs, S_rt, st_1, st_ne, hcm, c1, c2, ih]
theorem w_102 (hd : 2 ≤ d) (hw : MW B) {s t r c m : Int} {l : List Nat} (hs : 0 ≤ s ∧ s < 8) (ht : 0 ≤ t ∧ t ≤ 3) (hm : 0 ≤ m ∧ m ≤ 1) (hl : l.length ≤ 25) (hl2 : ∀ k ∈ l, k < 25) (hT : Tn (tw B) B s.toNat l t m) (hin : ins (tw B) l t m r c) (hmy : (B.1 198 17) < 40) (hnx : (B.1 198 18) < 1000) :
    gCa K d 102 [.ref (N + 198), .int (I s), .int (I t), .int (I r), .int (I c), .int (I m)] (hH K N G B) = some (.inl (some (.int (I ((B.1 198 18))))), hH K N G (putB B s.toNat l t r c m)) := by
  obtain ⟨d, rfl, hd'⟩ := d_succ hd
  have := l_102 (K := K) (N := N) (G := G) hd' hw hs ht hm hl hl2 hT hin hmy hnx l.length 0 (by omega) (by omega)
  rw [show l.take (0 : Int).toNat = [] from rfl, putC_nil, st_self] at this
  refine c_102 _ ?_
  unfold t_102_0
  simp only [I_lit, I_neg, I_add, I_sub, I_mul, I_ltT, I_ltF, I_leT, I_leF, I_eqT, I_eqF, c_int, c_long, c_obj, c_arr, c_bool, c_boolN, c_boolF, vn_bool, c_charN, vn_char, b2_f, b2_t]
  exact this
theorem rcB_succ {cl : Nat → Int} {v : Int} {z : Nat} : rcB cl v (z + 1) = fun q => if q = z then (if cl z = v then -1 else cl z) else rcB cl v z q := by
  funext q
  unfold rcB
  by_cases h : q = z
  · subst h
    rw [if_pos (by omega), if_pos rfl]
  · rw [if_neg h]
    by_cases h2 : q < z
    · rw [if_pos h2, if_pos (by omega)]
    · rw [if_neg h2, if_neg (by omega)]
theorem rcB_b (hw : MW B) {v : Int} {z : Nat} : ∀ j, -1 ≤ rcB (B.2.1 215) v z j ∧ rcB (B.2.1 215) v z j ≤ 1000 := by
  intro j
  have := mw_cloth hw j
  unfold rcB
  repeat' split
  all_goals omega
theorem shB_succ {f : Nat → Int} {p z : Nat} (h : p ≤ z) : shB f p (z + 1) = fun q => if q = z then f (z + 1) else shB f p z q := by
  funext q
  unfold shB
  by_cases e : q = z
  · subst e
    rw [if_pos (by omega), if_pos rfl]
  · rw [if_neg e]
    by_cases h2 : p ≤ q ∧ q < z
    · rw [if_pos h2, if_pos (by omega)]
    · rw [if_neg h2, if_neg (by omega)]
theorem shB_ge {f : Nat → Int} {p z j : Nat} (h : z ≤ j) : shB f p z j = f j := if_neg (by omega)
theorem shB_self {f : Nat → Int} {p : Nat} : shB f p p = f := funext fun j => if_neg (by omega)
theorem l_108_2 (hw : MW B) {p : Int} : ∀ (n : Nat) (z s : Int), 0 ≤ p → p ≤ z → z + n = (B.1 198 17) → (B.1 198 17) < 40 →
    gRn K d 108 88 [some (.ref (N + 198)), some (.int (I p)), some (.int (I s)), some (.int (I z))] [] (hH K N G (shA B p.toNat z.toNat)) = some (.inl none, hH K N G (shA B p.toNat ((B.1 198 17)).toNat)) := by
  intro n
  have hmy := mw_many hw
  induction n with
  | zero =>
    intro z s hp hz hn h40
    rw [show z.toNat = ((B.1 198 17)).toNat by omega]
    refine e_108_88 _ ?_
    unfold t_108_88
    unfold shA
    simp (disch := omega) only [rI_d, rJ_d, rR_d, rN_d, wF_d, xI_d, xJ_d, xD_d, xQ_d, yI_d, yJ_d, yD_d, yQ_d, dI_s, dJ_s, dR_s, dN_s, dN_n, dH_s, dX_s, dL_s, dD_s, dQ_s, bC_r, bC_t, kI_s, kJ_s, kF_s, kD_s, kR_s, kV_s, I_lit, I_neg, I_add, I_sub, I_mul, I_ltT, I_ltF, I_leT, I_leF, I_eqT, I_eqF, c_int, c_long, c_obj, c_arr, c_bool, c_boolN, c_boolF, vn_bool, c_charN, vn_char, b2_f, b2_t, Int.toNat_natCast, ↓reduceIte, eq_self, and_self, and_true, true_and, not_false_eq_true, not_true_eq_false, L_0_0, L_0_1, L_0_2, L_0_3, L_0_4, L_0_5, L_0_6, L_0_7, L_0_8, L_0_9, L_0_10, L_0_11, L_0_12, L_0_13, L_0_14, L_0_15, C_0, L_1_0, L_1_1, L_1_2, C_1, L_2_0, L_2_1, L_2_2, C_2, L_3_0, L_3_1, L_3_2, C_3, L_65_0, L_65_1, L_65_2, L_65_3, L_65_4, C_65, L_66_0, L_66_1, L_66_2, L_66_3, C_66, L_129_0, L_129_1, L_129_2, L_129_3, C_129, L_198_0, L_198_1, L_198_2, L_198_3, L_198_4, L_198_5, L_198_6, L_198_7, L_198_8, L_198_9, L_198_10, L_198_11, L_198_12, L_198_13, L_198_14, L_198_15, L_198_16, L_198_17, L_198_18, L_198_19, L_198_20, L_198_21, L_198_22, L_198_23, L_198_24, L_198_25, L_198_26, L_198_27, L_198_28, L_198_29, L_198_30, L_198_31, L_198_32, L_198_33, L_198_34, L_198_35, L_198_36, L_198_37, L_198_38, L_198_39, L_198_40, L_198_41, L_198_42, L_198_43, L_198_44, L_198_45, L_198_46, L_198_47, L_198_48, C_198, A_199, A_200, A_201, A_202, A_203, A_204, A_205, A_206, A_207, A_208, A_209, A_210, A_211, A_212, A_213, A_214, A_215, A_216, A_217, A_218, A_219, A_220, A_221, A_222, A_223, A_224, A_225, A_226, A_227, A_228, A_128, A_191, A_rf, A_rs, A_rt, Q_4, Q_67, Q_130, t_108_2_1, t_108_2_2, t_108_2_3, t_108_2_4, t_108_2_5, t_108_2_6, t_108_2_7, t_108_2_8, t_108_2_9, t_108_2_10, t_108_2_11, t_108_2_12, t_108_2_13, t_108_2_14, t_108_2_15, t_108_2_16, t_108_2_17, t_108_2_18, t_108_2_19, t_108_2_20, t_108_2_21, t_108_88_1, t_108_88_2, t_108_88_3, t_108_88_4, t_108_88_5, t_108_88_6, t_108_88_7, t_108_88_8, t_108_88_9, t_108_88_10, t_108_88_11, t_108_88_12, t_108_88_13, t_108_88_14, t_108_88_15, t_108_88_16, t_108_88_17, t_108_88_18, t_108_88_19, t_108_88_20, t_108_88_21, t_108_88_22, t_108_88_23, t_108_88_24, t_108_88_25, st_1]
  | succ n ih =>
    intro z s hp hz hn h40
    have ih := ih (z + 1) s (by omega) (by omega) (by omega) h40
    have v1 := mw_number hw (z.toNat + 1)
    have v2 := mw_mirrored hw (z.toNat + 1)
    rw [show (z + 1).toNat = z.toNat + 1 by omega] at ih
    refine e_108_88 _ ?_
    unfold t_108_88
    unfold shA at ih ⊢
    have hpz : p.toNat ≤ z.toNat := by omega
    have ez : (z + 1).toNat = z.toNat + 1 := by omega
    have hq : ∀ f : Nat → Int, shB f p.toNat z.toNat (z + 1).toNat = f (z.toNat + 1) := fun f => by rw [ez]; exact shB_ge (by omega)
    rw [shB_succ hpz, shB_succ hpz, shB_succ hpz, shB_succ hpz, shB_succ hpz, shB_succ hpz] at ih
    simp (disch := omega) only [rI_d, rJ_d, rR_d, rN_d, wF_d, xI_d, xJ_d, xD_d, xQ_d, yI_d, yJ_d, yD_d, yQ_d, dI_s, dJ_s, dR_s, dN_s, dN_n, dH_s, dX_s, dL_s, dD_s, dQ_s, bC_r, bC_t, kI_s, kJ_s, kF_s, kD_s, kR_s, kV_s, I_lit, I_neg, I_add, I_sub, I_mul, I_ltT, I_ltF, I_leT, I_leF, I_eqT, I_eqF, c_int, c_long, c_obj, c_arr, c_bool, c_boolN, c_boolF, vn_bool, c_charN, vn_char, b2_f, b2_t, Int.toNat_natCast, ↓reduceIte, eq_self, and_self, and_true, true_and, not_false_eq_true, not_true_eq_false, L_0_0, L_0_1, L_0_2, L_0_3, L_0_4, L_0_5, L_0_6, L_0_7, L_0_8, L_0_9, L_0_10, L_0_11, L_0_12, L_0_13, L_0_14, L_0_15, C_0, L_1_0, L_1_1, L_1_2, C_1, L_2_0, L_2_1, L_2_2, C_2, L_3_0, L_3_1, L_3_2, C_3, L_65_0, L_65_1, L_65_2, L_65_3, L_65_4, C_65, L_66_0, L_66_1, L_66_2, L_66_3, C_66, L_129_0, L_129_1, L_129_2, L_129_3, C_129, L_198_0, L_198_1, L_198_2, L_198_3, L_198_4, L_198_5, L_198_6, L_198_7, L_198_8, L_198_9, L_198_10, L_198_11, L_198_12, L_198_13, L_198_14, L_198_15, L_198_16, L_198_17, L_198_18, L_198_19, L_198_20, L_198_21, L_198_22, L_198_23, L_198_24, L_198_25, L_198_26, L_198_27, L_198_28, L_198_29, L_198_30, L_198_31, L_198_32, L_198_33, L_198_34, L_198_35, L_198_36, L_198_37, L_198_38, L_198_39, L_198_40, L_198_41, L_198_42, L_198_43, L_198_44, L_198_45, L_198_46, L_198_47, L_198_48, C_198, A_199, A_200, A_201, A_202, A_203, A_204, A_205, A_206, A_207, A_208, A_209, A_210, A_211, A_212, A_213, A_214, A_215, A_216, A_217, A_218, A_219, A_220, A_221, A_222, A_223, A_224, A_225, A_226, A_227, A_228, A_128, A_191, A_rf, A_rs, A_rt, Q_4, Q_67, Q_130, t_108_2_1, t_108_2_2, t_108_2_3, t_108_2_4, t_108_2_5, t_108_2_6, t_108_2_7, t_108_2_8, t_108_2_9, t_108_2_10, t_108_2_11, t_108_2_12, t_108_2_13, t_108_2_14, t_108_2_15, t_108_2_16, t_108_2_17, t_108_2_18, t_108_2_19, t_108_2_20, t_108_2_21, t_108_88_1, t_108_88_2, t_108_88_3, t_108_88_4, t_108_88_5, t_108_88_6, t_108_88_7, t_108_88_8, t_108_88_9, t_108_88_10, t_108_88_11, t_108_88_12, t_108_88_13, t_108_88_14, t_108_88_15, t_108_88_16, t_108_88_17, t_108_88_18, t_108_88_19, t_108_88_20, t_108_88_21, t_108_88_22, t_108_88_23, t_108_88_24, t_108_88_25, M_0_8, M_0_9, M_0_10, M_0_11, M_0_12, M_0_13, M_0_14, M_0_15, M_1_0, M_1_1, M_1_2, M_2_0, M_2_1, M_2_2, M_3_0, M_3_1, M_3_2, M_65_0, M_65_1, M_65_2, M_65_3, M_65_4, M_66_2, M_129_2, M_198_0, M_198_1, M_198_2, M_198_3, M_198_4, M_198_5, M_198_7, M_198_17, M_198_18, M_198_28, M_198_31, M_198_32, M_198_33, M_198_36, M_198_37, M_198_38, M_198_39, M_198_41, M_198_48, S_199, S_200, S_201, S_202, S_203, S_204, S_205, S_206, S_207, S_208, S_209, S_210, S_211, S_212, S_213, S_214, S_215, S_216, S_217, S_218, S_219, S_220, S_221, S_222, S_223, S_224, S_225, S_226, S_227, S_228, S_128, S_191, S_rf, S_rs, S_rt, sI_eq, sI_ne, sI_21, sI_22, sA_eq, sA_ne, sA_1, sA_3, st_1, st_ne, st_eq, hq]
    refine Eq.trans (congrArg (fun X => gRn K d 108 88 [some (.ref (N + 198)), some (.int (I p)), some (.int (I s)), some (.int (I (z + 1)))] [] (hH K N G X)) ?_) ih
    refine Prod.ext rfl (Prod.ext (funext fun o' => funext fun j => ?_) rfl)
    simp only [sA, stA]
    by_cases c1 : o' = 214
    · subst c1; simp
    by_cases c2 : o' = 213
    · subst c2; simp
    by_cases c3 : o' = 212
    · subst c3; simp
    by_cases c4 : o' = 211
    · subst c4; simp
    by_cases c5 : o' = 210
    · subst c5; simp
    by_cases c6 : o' = 209
    · subst c6; simp
    simp only [if_neg c1, if_neg c2, if_neg c3, if_neg c4, if_neg c5, if_neg c6, c1, c2, c3, c4, c5, c6, false_and, if_false]
theorem shA_self {p : Nat} : shA B p p = B := by
  unfold shA
  simp only [shB_self, st_self]
theorem mwtk (hw : MW B) {s : Nat} (hog : marked (tw B) s → 0 < B.2.1 217 (B.2.1 204 s).toNat) : MW (tkG B s) := by
  unfold tkG
  by_cases e : marked (tw B) s
  · rw [cifT e]
    have := hog e
    have h2 := mw_ofGroup hw (B.2.1 204 s).toNat
    exact ms_ofGroup hw (by omega)
  · rw [cifF e]; exact hw
theorem l_108_1 (hd : 1 ≤ d) (hw : MW B) {p : Int} (hp : 0 ≤ p ∧ p < (B.1 198 17)) (hog : marked (tw B) (B.2.1 210 p.toNat).toNat → 0 < B.2.1 217 (B.2.1 204 (B.2.1 210 p.toNat).toNat).toNat) : ∀ (n : Nat) (z : Int) (o3 : Option Value), 0 ≤ z → z + n = 720 →
    gRn K d 108 2 [some (.ref (N + 198)), some (.int (I p)), some (.int (I z)), o3] [] (hH K N G (stA B 215 (rcB (B.2.1 215) (B.2.1 209 p.toNat) z.toNat))) = some (.inl none, hH K N G (tkB B p.toNat)) := by
  intro n
  have hmy := mw_many hw
  have hnu := mw_number hw p.toNat
  have hsh := mw_shapeOf hw p.toNat
  induction n with
  | zero =>
    intro z o3 hz hn
    rw [show z.toNat = 720 by omega]
    have hw1 : MW (stA B 215 (rcB (B.2.1 215) (B.2.1 209 p.toNat) 720)) := mwst hw (rcB_b hw)
    have g6 := w_171 (K := K) (d := d) (N := N) (G := G) (by omega) hw1 (s := B.2.1 210 p.toNat) (by omega)
    have hgr := mw_group hw (B.2.1 210 p.toNat).toNat
    have hog2 := mw_ofGroup hw (B.2.1 204 (B.2.1 210 p.toNat).toNat).toNat
    have hw2 : MW (tkG (stA B 215 (rcB (B.2.1 215) (B.2.1 209 p.toNat) 720)) (B.2.1 210 p.toNat).toNat) := mwtk hw1 hog
    have hw3 : MW (sI (tkG (stA B 215 (rcB (B.2.1 215) (B.2.1 209 p.toNat) 720)) (B.2.1 210 p.toNat).toNat) 198 17 ((B.1 198 17) - 1)) := ms_many hw2 (by omega)
    have hm3 : (sI (tkG (stA B 215 (rcB (B.2.1 215) (B.2.1 209 p.toNat) 720)) (B.2.1 210 p.toNat).toNat) 198 17 ((B.1 198 17) - 1)).1 198 17 = (B.1 198 17) - 1 := sI_eq rfl
    have ih := fun s => l_108_2 (K := K) (d := d) (N := N) (G := G) hw3 (p := p) (((B.1 198 17) - 1 - p).toNat) p s hp.1 (Int.le_refl _) (by rw [hm3]; omega) (by rw [hm3]; omega)
    rw [hm3, shA_self] at ih
    refine e_108_2 _ ?_
    unfold t_108_2 tkB
    unfold tkG at ih ⊢
    by_cases e : marked (tw B) (B.2.1 210 p.toNat).toNat
    · have e' : marked (tw (stA B 215 (rcB (B.2.1 215) (B.2.1 209 p.toNat) 720))) (B.2.1 210 p.toNat).toNat := e
      rw [b2T e'] at g6
      rw [cifT e'] at ih ⊢
      have hgn : 0 ≤ B.2.1 204 (B.2.1 210 p.toNat).toNat := by have := e.1; dsimp only [tw] at this; omega
      simp (disch := omega) only [st_1, st_ne] at ih ⊢
      simp (disch := omega) only [rI_d, rJ_d, rR_d, rN_d, wF_d, xI_d, xJ_d, xD_d, xQ_d, yI_d, yJ_d, yD_d, yQ_d, dI_s, dJ_s, dR_s, dN_s, dN_n, dH_s, dX_s, dL_s, dD_s, dQ_s, bC_r, bC_t, kI_s, kJ_s, kF_s, kD_s, kR_s, kV_s, I_lit, I_neg, I_add, I_sub, I_mul, I_ltT, I_ltF, I_leT, I_leF, I_eqT, I_eqF, c_int, c_long, c_obj, c_arr, c_bool, c_boolN, c_boolF, vn_bool, c_charN, vn_char, b2_f, b2_t, Int.toNat_natCast, ↓reduceIte, eq_self, and_self, and_true, true_and, not_false_eq_true, not_true_eq_false, L_0_0, L_0_1, L_0_2, L_0_3, L_0_4, L_0_5, L_0_6, L_0_7, L_0_8, L_0_9, L_0_10, L_0_11, L_0_12, L_0_13, L_0_14, L_0_15, C_0, L_1_0, L_1_1, L_1_2, C_1, L_2_0, L_2_1, L_2_2, C_2, L_3_0, L_3_1, L_3_2, C_3, L_65_0, L_65_1, L_65_2, L_65_3, L_65_4, C_65, L_66_0, L_66_1, L_66_2, L_66_3, C_66, L_129_0, L_129_1, L_129_2, L_129_3, C_129, L_198_0, L_198_1, L_198_2, L_198_3, L_198_4, L_198_5, L_198_6, L_198_7, L_198_8, L_198_9, L_198_10, L_198_11, L_198_12, L_198_13, L_198_14, L_198_15, L_198_16, L_198_17, L_198_18, L_198_19, L_198_20, L_198_21, L_198_22, L_198_23, L_198_24, L_198_25, L_198_26, L_198_27, L_198_28, L_198_29, L_198_30, L_198_31, L_198_32, L_198_33, L_198_34, L_198_35, L_198_36, L_198_37, L_198_38, L_198_39, L_198_40, L_198_41, L_198_42, L_198_43, L_198_44, L_198_45, L_198_46, L_198_47, L_198_48, C_198, A_199, A_200, A_201, A_202, A_203, A_204, A_205, A_206, A_207, A_208, A_209, A_210, A_211, A_212, A_213, A_214, A_215, A_216, A_217, A_218, A_219, A_220, A_221, A_222, A_223, A_224, A_225, A_226, A_227, A_228, A_128, A_191, A_rf, A_rs, A_rt, Q_4, Q_67, Q_130, t_108_2_1, t_108_2_2, t_108_2_3, t_108_2_4, t_108_2_5, t_108_2_6, t_108_2_7, t_108_2_8, t_108_2_9, t_108_2_10, t_108_2_11, t_108_2_12, t_108_2_13, t_108_2_14, t_108_2_15, t_108_2_16, t_108_2_17, t_108_2_18, t_108_2_19, t_108_2_20, t_108_2_21, t_108_88_1, t_108_88_2, t_108_88_3, t_108_88_4, t_108_88_5, t_108_88_6, t_108_88_7, t_108_88_8, t_108_88_9, t_108_88_10, t_108_88_11, t_108_88_12, t_108_88_13, t_108_88_14, t_108_88_15, t_108_88_16, t_108_88_17, t_108_88_18, t_108_88_19, t_108_88_20, t_108_88_21, t_108_88_22, t_108_88_23, t_108_88_24, t_108_88_25, M_0_8, M_0_9, M_0_10, M_0_11, M_0_12, M_0_13, M_0_14, M_0_15, M_1_0, M_1_1, M_1_2, M_2_0, M_2_1, M_2_2, M_3_0, M_3_1, M_3_2, M_65_0, M_65_1, M_65_2, M_65_3, M_65_4, M_66_2, M_129_2, M_198_0, M_198_1, M_198_2, M_198_3, M_198_4, M_198_5, M_198_7, M_198_17, M_198_18, M_198_28, M_198_31, M_198_32, M_198_33, M_198_36, M_198_37, M_198_38, M_198_39, M_198_41, M_198_48, S_199, S_200, S_201, S_202, S_203, S_204, S_205, S_206, S_207, S_208, S_209, S_210, S_211, S_212, S_213, S_214, S_215, S_216, S_217, S_218, S_219, S_220, S_221, S_222, S_223, S_224, S_225, S_226, S_227, S_228, S_128, S_191, S_rf, S_rs, S_rt, sI_eq, sI_ne, sI_21, sI_22, sA_eq, sA_ne, sA_1, sA_3, st_1, st_ne, g6, ih]
    · have e' : ¬ marked (tw (stA B 215 (rcB (B.2.1 215) (B.2.1 209 p.toNat) 720))) (B.2.1 210 p.toNat).toNat := e
      rw [b2F e'] at g6
      rw [cifF e'] at ih ⊢
      simp (disch := omega) only [rI_d, rJ_d, rR_d, rN_d, wF_d, xI_d, xJ_d, xD_d, xQ_d, yI_d, yJ_d, yD_d, yQ_d, dI_s, dJ_s, dR_s, dN_s, dN_n, dH_s, dX_s, dL_s, dD_s, dQ_s, bC_r, bC_t, kI_s, kJ_s, kF_s, kD_s, kR_s, kV_s, I_lit, I_neg, I_add, I_sub, I_mul, I_ltT, I_ltF, I_leT, I_leF, I_eqT, I_eqF, c_int, c_long, c_obj, c_arr, c_bool, c_boolN, c_boolF, vn_bool, c_charN, vn_char, b2_f, b2_t, Int.toNat_natCast, ↓reduceIte, eq_self, and_self, and_true, true_and, not_false_eq_true, not_true_eq_false, L_0_0, L_0_1, L_0_2, L_0_3, L_0_4, L_0_5, L_0_6, L_0_7, L_0_8, L_0_9, L_0_10, L_0_11, L_0_12, L_0_13, L_0_14, L_0_15, C_0, L_1_0, L_1_1, L_1_2, C_1, L_2_0, L_2_1, L_2_2, C_2, L_3_0, L_3_1, L_3_2, C_3, L_65_0, L_65_1, L_65_2, L_65_3, L_65_4, C_65, L_66_0, L_66_1, L_66_2, L_66_3, C_66, L_129_0, L_129_1, L_129_2, L_129_3, C_129, L_198_0, L_198_1, L_198_2, L_198_3, L_198_4, L_198_5, L_198_6, L_198_7, L_198_8, L_198_9, L_198_10, L_198_11, L_198_12, L_198_13, L_198_14, L_198_15, L_198_16, L_198_17, L_198_18, L_198_19, L_198_20, L_198_21, L_198_22, L_198_23, L_198_24, L_198_25, L_198_26, L_198_27, L_198_28, L_198_29, L_198_30, L_198_31, L_198_32, L_198_33, L_198_34, L_198_35, L_198_36, L_198_37, L_198_38, L_198_39, L_198_40, L_198_41, L_198_42, L_198_43, L_198_44, L_198_45, L_198_46, L_198_47, L_198_48, C_198, A_199, A_200, A_201, A_202, A_203, A_204, A_205, A_206, A_207, A_208, A_209, A_210, A_211, A_212, A_213, A_214, A_215, A_216, A_217, A_218, A_219, A_220, A_221, A_222, A_223, A_224, A_225, A_226, A_227, A_228, A_128, A_191, A_rf, A_rs, A_rt, Q_4, Q_67, Q_130, t_108_2_1, t_108_2_2, t_108_2_3, t_108_2_4, t_108_2_5, t_108_2_6, t_108_2_7, t_108_2_8, t_108_2_9, t_108_2_10, t_108_2_11, t_108_2_12, t_108_2_13, t_108_2_14, t_108_2_15, t_108_2_16, t_108_2_17, t_108_2_18, t_108_2_19, t_108_2_20, t_108_2_21, t_108_88_1, t_108_88_2, t_108_88_3, t_108_88_4, t_108_88_5, t_108_88_6, t_108_88_7, t_108_88_8, t_108_88_9, t_108_88_10, t_108_88_11, t_108_88_12, t_108_88_13, t_108_88_14, t_108_88_15, t_108_88_16, t_108_88_17, t_108_88_18, t_108_88_19, t_108_88_20, t_108_88_21, t_108_88_22, t_108_88_23, t_108_88_24, t_108_88_25, M_0_8, M_0_9, M_0_10, M_0_11, M_0_12, M_0_13, M_0_14, M_0_15, M_1_0, M_1_1, M_1_2, M_2_0, M_2_1, M_2_2, M_3_0, M_3_1, M_3_2, M_65_0, M_65_1, M_65_2, M_65_3, M_65_4, M_66_2, M_129_2, M_198_0, M_198_1, M_198_2, M_198_3, M_198_4, M_198_5, M_198_7, M_198_17, M_198_18, M_198_28, M_198_31, M_198_32, M_198_33, M_198_36, M_198_37, M_198_38, M_198_39, M_198_41, M_198_48, S_199, S_200, S_201, S_202, S_203, S_204, S_205, S_206, S_207, S_208, S_209, S_210, S_211, S_212, S_213, S_214, S_215, S_216, S_217, S_218, S_219, S_220, S_221, S_222, S_223, S_224, S_225, S_226, S_227, S_228, S_128, S_191, S_rf, S_rs, S_rt, sI_eq, sI_ne, sI_21, sI_22, sA_eq, sA_ne, sA_1, sA_3, st_1, st_ne, g6, ih]
  | succ n ih =>
    intro z o3 hz hn
    have ih := fun o3 => ih (z + 1) o3 (by omega) (by omega)
    have hcl := mw_cloth hw z.toNat
    rw [show (z + 1).toNat = z.toNat + 1 by omega, rcB_succ] at ih
    have hq : rcB (B.2.1 215) (B.2.1 209 p.toNat) z.toNat z.toNat = B.2.1 215 z.toNat := if_neg (by omega)
    refine e_108_2 _ ?_
    unfold t_108_2
    rw [← st_sA] at ih
    by_cases e : B.2.1 215 z.toNat = B.2.1 209 p.toNat
    · rw [if_pos e] at ih
      simp (disch := omega) only [rI_d, rJ_d, rR_d, rN_d, wF_d, xI_d, xJ_d, xD_d, xQ_d, yI_d, yJ_d, yD_d, yQ_d, dI_s, dJ_s, dR_s, dN_s, dN_n, dH_s, dX_s, dL_s, dD_s, dQ_s, bC_r, bC_t, kI_s, kJ_s, kF_s, kD_s, kR_s, kV_s, I_lit, I_neg, I_add, I_sub, I_mul, I_ltT, I_ltF, I_leT, I_leF, I_eqT, I_eqF, c_int, c_long, c_obj, c_arr, c_bool, c_boolN, c_boolF, vn_bool, c_charN, vn_char, b2_f, b2_t, Int.toNat_natCast, ↓reduceIte, eq_self, and_self, and_true, true_and, not_false_eq_true, not_true_eq_false, L_0_0, L_0_1, L_0_2, L_0_3, L_0_4, L_0_5, L_0_6, L_0_7, L_0_8, L_0_9, L_0_10, L_0_11, L_0_12, L_0_13, L_0_14, L_0_15, C_0, L_1_0, L_1_1, L_1_2, C_1, L_2_0, L_2_1, L_2_2, C_2, L_3_0, L_3_1, L_3_2, C_3, L_65_0, L_65_1, L_65_2, L_65_3, L_65_4, C_65, L_66_0, L_66_1, L_66_2, L_66_3, C_66, L_129_0, L_129_1, L_129_2, L_129_3, C_129, L_198_0, L_198_1, L_198_2, L_198_3, L_198_4, L_198_5, L_198_6, L_198_7, L_198_8, L_198_9, L_198_10, L_198_11, L_198_12, L_198_13, L_198_14, L_198_15, L_198_16, L_198_17, L_198_18, L_198_19, L_198_20, L_198_21, L_198_22, L_198_23, L_198_24, L_198_25, L_198_26, L_198_27, L_198_28, L_198_29, L_198_30, L_198_31, L_198_32, L_198_33, L_198_34, L_198_35, L_198_36, L_198_37, L_198_38, L_198_39, L_198_40, L_198_41, L_198_42, L_198_43, L_198_44, L_198_45, L_198_46, L_198_47, L_198_48, C_198, A_199, A_200, A_201, A_202, A_203, A_204, A_205, A_206, A_207, A_208, A_209, A_210, A_211, A_212, A_213, A_214, A_215, A_216, A_217, A_218, A_219, A_220, A_221, A_222, A_223, A_224, A_225, A_226, A_227, A_228, A_128, A_191, A_rf, A_rs, A_rt, Q_4, Q_67, Q_130, t_108_2_1, t_108_2_2, t_108_2_3, t_108_2_4, t_108_2_5, t_108_2_6, t_108_2_7, t_108_2_8, t_108_2_9, t_108_2_10, t_108_2_11, t_108_2_12, t_108_2_13, t_108_2_14, t_108_2_15, t_108_2_16, t_108_2_17, t_108_2_18, t_108_2_19, t_108_2_20, t_108_2_21, t_108_88_1, t_108_88_2, t_108_88_3, t_108_88_4, t_108_88_5, t_108_88_6, t_108_88_7, t_108_88_8, t_108_88_9, t_108_88_10, t_108_88_11, t_108_88_12, t_108_88_13, t_108_88_14, t_108_88_15, t_108_88_16, t_108_88_17, t_108_88_18, t_108_88_19, t_108_88_20, t_108_88_21, t_108_88_22, t_108_88_23, t_108_88_24, t_108_88_25, M_0_8, M_0_9, M_0_10, M_0_11, M_0_12, M_0_13, M_0_14, M_0_15, M_1_0, M_1_1, M_1_2, M_2_0, M_2_1, M_2_2, M_3_0, M_3_1, M_3_2, M_65_0, M_65_1, M_65_2, M_65_3, M_65_4, M_66_2, M_129_2, M_198_0, M_198_1, M_198_2, M_198_3, M_198_4, M_198_5, M_198_7, M_198_17, M_198_18, M_198_28, M_198_31, M_198_32, M_198_33, M_198_36, M_198_37, M_198_38, M_198_39, M_198_41, M_198_48, S_199, S_200, S_201, S_202, S_203, S_204, S_205, S_206, S_207, S_208, S_209, S_210, S_211, S_212, S_213, S_214, S_215, S_216, S_217, S_218, S_219, S_220, S_221, S_222, S_223, S_224, S_225, S_226, S_227, S_228, S_128, S_191, S_rf, S_rs, S_rt, sI_eq, sI_ne, sI_21, sI_22, sA_eq, sA_ne, sA_1, sA_3, st_1, st_ne, st_eq, hq, ih]
    · rw [if_neg e] at ih
      simp (disch := omega) only [rI_d, rJ_d, rR_d, rN_d, wF_d, xI_d, xJ_d, xD_d, xQ_d, yI_d, yJ_d, yD_d, yQ_d, dI_s, dJ_s, dR_s, dN_s, dN_n, dH_s, dX_s, dL_s, dD_s, dQ_s, bC_r, bC_t, kI_s, kJ_s, kF_s, kD_s, kR_s, kV_s, I_lit, I_neg, I_add, I_sub, I_mul, I_ltT, I_ltF, I_leT, I_leF, I_eqT, I_eqF, c_int, c_long, c_obj, c_arr, c_bool, c_boolN, c_boolF, vn_bool, c_charN, vn_char, b2_f, b2_t, Int.toNat_natCast, ↓reduceIte, eq_self, and_self, and_true, true_and, not_false_eq_true, not_true_eq_false, L_0_0, L_0_1, L_0_2, L_0_3, L_0_4, L_0_5, L_0_6, L_0_7, L_0_8, L_0_9, L_0_10, L_0_11, L_0_12, L_0_13, L_0_14, L_0_15, C_0, L_1_0, L_1_1, L_1_2, C_1, L_2_0, L_2_1, L_2_2, C_2, L_3_0, L_3_1, L_3_2, C_3, L_65_0, L_65_1, L_65_2, L_65_3, L_65_4, C_65, L_66_0, L_66_1, L_66_2, L_66_3, C_66, L_129_0, L_129_1, L_129_2, L_129_3, C_129, L_198_0, L_198_1, L_198_2, L_198_3, L_198_4, L_198_5, L_198_6, L_198_7, L_198_8, L_198_9, L_198_10, L_198_11, L_198_12, L_198_13, L_198_14, L_198_15, L_198_16, L_198_17, L_198_18, L_198_19, L_198_20, L_198_21, L_198_22, L_198_23, L_198_24, L_198_25, L_198_26, L_198_27, L_198_28, L_198_29, L_198_30, L_198_31, L_198_32, L_198_33, L_198_34, L_198_35, L_198_36, L_198_37, L_198_38, L_198_39, L_198_40, L_198_41, L_198_42, L_198_43, L_198_44, L_198_45, L_198_46, L_198_47, L_198_48, C_198, A_199, A_200, A_201, A_202, A_203, A_204, A_205, A_206, A_207, A_208, A_209, A_210, A_211, A_212, A_213, A_214, A_215, A_216, A_217, A_218, A_219, A_220, A_221, A_222, A_223, A_224, A_225, A_226, A_227, A_228, A_128, A_191, A_rf, A_rs, A_rt, Q_4, Q_67, Q_130, t_108_2_1, t_108_2_2, t_108_2_3, t_108_2_4, t_108_2_5, t_108_2_6, t_108_2_7, t_108_2_8, t_108_2_9, t_108_2_10, t_108_2_11, t_108_2_12, t_108_2_13, t_108_2_14, t_108_2_15, t_108_2_16, t_108_2_17, t_108_2_18, t_108_2_19, t_108_2_20, t_108_2_21, t_108_88_1, t_108_88_2, t_108_88_3, t_108_88_4, t_108_88_5, t_108_88_6, t_108_88_7, t_108_88_8, t_108_88_9, t_108_88_10, t_108_88_11, t_108_88_12, t_108_88_13, t_108_88_14, t_108_88_15, t_108_88_16, t_108_88_17, t_108_88_18, t_108_88_19, t_108_88_20, t_108_88_21, t_108_88_22, t_108_88_23, t_108_88_24, t_108_88_25, M_0_8, M_0_9, M_0_10, M_0_11, M_0_12, M_0_13, M_0_14, M_0_15, M_1_0, M_1_1, M_1_2, M_2_0, M_2_1, M_2_2, M_3_0, M_3_1, M_3_2, M_65_0, M_65_1, M_65_2, M_65_3, M_65_4, M_66_2, M_129_2, M_198_0, M_198_1, M_198_2, M_198_3, M_198_4, M_198_5, M_198_7, M_198_17, M_198_18, M_198_28, M_198_31, M_198_32, M_198_33, M_198_36, M_198_37, M_198_38, M_198_39, M_198_41, M_198_48, S_199, S_200, S_201, S_202, S_203, S_204, S_205, S_206, S_207, S_208, S_209, S_210, S_211, S_212, S_213, S_214, S_215, S_216, S_217, S_218, S_219, S_220, S_221, S_222, S_223, S_224, S_225, S_226, S_227, S_228, S_128, S_191, S_rf, S_rs, S_rt, sI_eq, sI_ne, sI_21, sI_22, sA_eq, sA_ne, sA_1, sA_3, st_1, st_ne, st_eq, hq, ih]
theorem w_108 (hd : 2 ≤ d) (hw : MW B) {p : Int} (hp : 0 ≤ p ∧ p < (B.1 198 17)) (hog : marked (tw B) (B.2.1 210 p.toNat).toNat → 0 < B.2.1 217 (B.2.1 204 (B.2.1 210 p.toNat).toNat).toNat) : gCa K d 108 [.ref (N + 198), .int (I p)] (hH K N G B) = some (.inl none, hH K N G (tkB B p.toNat)) := by
  obtain ⟨d, rfl, hd'⟩ := d_succ hd
  have := l_108_1 (K := K) (N := N) (G := G) hd' hw hp hog 720 0 none (by omega) (by omega)
  rw [show rcB (B.2.1 215) (B.2.1 209 p.toNat) (0 : Int).toNat = B.2.1 215 from funext fun q => if_neg (by omega), st_self] at this
  refine c_108 _ ?_
  unfold t_108_0
  simp only [I_lit, I_neg, I_add, I_sub, I_mul, I_ltT, I_ltF, I_leT, I_leF, I_eqT, I_eqF, c_int, c_long, c_obj, c_arr, c_bool, c_boolN, c_boolF, vn_bool, c_charN, vn_char, b2_f, b2_t]
  exact this
end
