/-! PURE 97: the sorts of a garment, whole -/
set_option maxRecDepth 100000
section
variable {K : gK} {d N : Nat} {G G' G1 G0 : gH} {B B' B0 : gB} {M : gM} {ro : Nat → Nat} {sh st pc : List Nat} {cs : Nat → List Nat} {ps : Nat → List (Nat × Int)} {m sl e a i : Nat} {xs : List Nat}
theorem w_220 (hd : 12 ≤ d) (hw : MW B0) (hR : CR K N G B ro (tw B0) sh st pc cs ps) (hi : st[i]? = some a) : ∃ G', gCa K d 220 [.ref N, .ref a] (hH K N G B) = some (.inl (some (.ref G.2.1)), hH K N G' B) ∧ FR noW 129 12931 G G' ∧ SLI K G' G.2.1 sh G.2.1 (sqL (tw B0) i (ps i)) := by
  obtain ⟨d, rfl, hd'⟩ := d_succ (show 11 + 1 ≤ d by omega)
  have hC := hR.1
  have hN := hC.2.2.1
  have h8 := (h8_of hw hR).1
  have hl := ps_len hR hi h8
  have hG : (hH K N G B).2.1 = G.2.1 := rfl
  obtain ⟨H1, g1, g2, g3⟩ := mkList (K := K) (d := d) (by omega) (hC.hb (B := B))
  rw [hG] at g1 g2
  obtain ⟨r1, r2, r3⟩ := FR.lower hC g3 (fun q h _ => h.elim)
  have g2' : H1.1 G.2.1 = _ := g2
  obtain ⟨G', i1, i2, i3⟩ := l_220 (B := B) (d := d) (by omega) hw hR hi (l := G.2.1) (ps i).length 0 (dn N H1) [] 1 3 none none (by omega) r3 ⟨0, K.2 3, [], (if_neg (by omega)).trans g2', Nat.le_refl _, Or.inl ⟨rfl, rfl⟩, rfl, fun j c x h _ => by cases h⟩ (by show 0 ≤ _; omega)
  rw [List.drop_zero, List.nil_append] at i3
  rw [r1] at g1
  refine ⟨G', c_220 _ ?_, i2.le (by omega) (by omega), i3⟩
  unfold t_220_0
  simp (disch := omega) only [rI_d, rJ_d, rR_d, rN_d, wF_d, xI_d, xJ_d, xD_d, xQ_d, yI_d, yJ_d, yD_d, yQ_d, dI_s, dJ_s, dR_s, dN_s, dN_n, dH_s, dX_s, dL_s, dD_s, dQ_s, bC_r, bC_t, kI_s, kJ_s, kF_s, kD_s, kR_s, kV_s, I_lit, I_neg, I_add, I_sub, I_mul, I_ltT, I_ltF, I_leT, I_leF, I_eqT, I_eqF, c_int, c_long, c_obj, c_arr, c_bool, c_boolN, c_boolF, vn_bool, c_charN, vn_char, b2_f, b2_t, Int.toNat_natCast, ↓reduceIte, eq_self, and_self, and_true, true_and, not_false_eq_true, not_true_eq_false, L_0_0, L_0_1, L_0_2, L_0_3, L_0_4, L_0_5, L_0_6, L_0_7, L_0_8, L_0_9, L_0_10, L_0_11, L_0_12, L_0_13, L_0_14, L_0_15, C_0, L_1_0, L_1_1, L_1_2, C_1, L_2_0, L_2_1, L_2_2, C_2, L_3_0, L_3_1, L_3_2, C_3, L_65_0, L_65_1, L_65_2, L_65_3, L_65_4, C_65, L_66_0, L_66_1, L_66_2, L_66_3, C_66, L_129_0, L_129_1, L_129_2, L_129_3, C_129, L_198_0, L_198_1, L_198_2, L_198_3, L_198_4, L_198_5, L_198_6, L_198_7, L_198_8, L_198_9, L_198_10, L_198_11, L_198_12, L_198_13, L_198_14, L_198_15, L_198_16, L_198_17, L_198_18, L_198_19, L_198_20, L_198_21, L_198_22, L_198_23, L_198_24, L_198_25, L_198_26, L_198_27, L_198_28, L_198_29, L_198_30, L_198_31, L_198_32, L_198_33, L_198_34, L_198_35, L_198_36, L_198_37, L_198_38, L_198_39, L_198_40, L_198_41, L_198_42, L_198_43, L_198_44, L_198_45, L_198_46, L_198_47, L_198_48, C_198, A_199, A_200, A_201, A_202, A_203, A_204, A_205, A_206, A_207, A_208, A_209, A_210, A_211, A_212, A_213, A_214, A_215, A_216, A_217, A_218, A_219, A_220, A_221, A_222, A_223, A_224, A_225, A_226, A_227, A_228, A_128, A_191, A_rf, A_rs, A_rt, Q_4, Q_67, Q_130, t_220_0_1, t_220_10_1, t_220_10_2, t_220_10_3, t_220_10_4, t_220_10_5, t_220_10_6, t_220_10_7, t_220_10_8, t_220_10_9, t_220_10_10, t_220_10_11, t_220_10_12, t_220_10_13, t_220_10_14, t_220_10_15, t_220_10_16, t_220_10_17, t_220_10_18, t_220_10_19, t_220_10_20, t_220_10_21, t_220_10_22, t_220_10_23, t_220_10_24, t_220_10_25, t_220_10_26, t_220_10_27, t_220_10_28, t_220_10_29, t_220_10_30, t_220_10_31, t_220_10_32, t_220_10_33, t_220_10_34, t_220_10_35, t_220_10_36, t_220_10_37, t_220_10_38, t_220_10_39, t_220_10_40, t_220_10_41, t_220_10_42, t_220_10_43, t_220_10_44, t_220_10_45, t_220_10_46, t_220_10_47, t_220_10_48, t_220_10_49, t_220_10_50, t_220_10_51, t_220_10_52, t_220_10_53, t_220_10_54, t_220_10_55, t_220_10_56, t_220_10_57, t_220_10_58, t_220_10_59, t_220_10_60, t_220_10_61, t_220_10_62, t_220_10_63, t_220_10_64, t_220_10_65, t_220_10_66, t_220_10_67, t_220_10_68, t_220_10_69, t_220_10_70, hG, g1]
  exact i1
theorem sqL_app {M : gM} {l l' : List (Nat × Int)} : sqL M i (l ++ l') = sqL M i l ++ sqL M i l' := List.flatMap_append
theorem sqL_cps {M : gM} : ∀ n, sqL M i (cps M i n) = qP M (i : Int) n
  | 0 => rfl
  | n + 1 => by
    rw [cps_s, sqL_app, sqL_cps n]
    show _ = qP M (i : Int) n ++ qK M (i : Int) (n : Int)
    by_cases e : M.2 218 (8 * i + n) ≠ 0
    · rw [if_pos e]
      show _ ++ ([((n : Nat), _)] : List (Nat × Int)).flatMap _ = _
      rw [List.flatMap_singleton]
    · rw [if_neg e]
      have e0 : M.2 218 (8 * (i : Int) + (n : Int)).toNat = 0 := by
        rw [show (8 * (i : Int) + (n : Int)).toNat = 8 * i + n by omega]
        exact Classical.not_not.mp e
      have e1 : qn M (i : Int) (n : Int) = 0 := by
        unfold qn
        rw [e0]
        split <;> rfl
      have e2 : qo M (i : Int) (n : Int) = 0 := by
        unfold qo
        rw [e0]
        split <;> rfl
      unfold qK
      rw [e1, e2]
      rfl
theorem sqL_perm (hw : MW B0) (hR : CR K N G B ro (tw B0) sh st pc cs ps) (hi : st[i]? = some a) : (sqL (tw B0) i (ps i)).Perm (qQ (tw B0) (i : Int)) := by
  have h8 := (h8_of hw hR).1
  have h2 : (B0.1 198 7) = (sh.length : Int) := hR.nn.1
  have h3 : qQ (tw B0) (i : Int) = qP (tw B0) (i : Int) sh.length := by
    show qP (tw B0) (i : Int) ((B0.1 198 7)).toNat = _
    rw [show ((B0.1 198 7)).toNat = sh.length by omega]
  rw [h3, ← sqL_cps]
  exact ((hR.sy hi).2.perm h8).flatMap_right _
theorem NB.perm {M : gM} {Q Q' : List Int} {a : Int} (h : NB M Q a) (hp : Q.Perm Q') : NB M Q' a :=
  ⟨h.1, fun p τ h1 h2 => h.2.1 p τ (h1.trans hp.symm) h2, h.2.2.imp_right (fun ⟨p, τ, h1, h2⟩ => ⟨p, τ, h1.trans hp, h2⟩)⟩
theorem NB.uniq {M : gM} {Q : List Int} {a b : Int} (h : NB M Q a) (h' : NB M Q b) : a = b := by
  rcases h.2.2 with h1 | ⟨p, τ, h1, h2, h3⟩
  · rcases h'.2.2 with k1 | ⟨p', τ', k1, k2, k3⟩
    · omega
    · have := h.2.1 p' τ' k1 k2
      have := h'.1
      omega
  · have e1 := h'.2.1 p τ h1 h2
    rcases h'.2.2 with k1 | ⟨p', τ', k1, k2, k3⟩
    · have := h.1
      omega
    · have := h.2.1 p' τ' k1 k2
      omega
end
