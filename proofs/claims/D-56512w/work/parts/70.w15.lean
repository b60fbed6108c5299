/-! PURE 24: the model's trials -/
set_option maxRecDepth 100000
def bs (x : Nat) : List Nat := (List.range 4).filter (fun k => decide (x / 2 ^ k % 2 = 1))
theorem bit_1 : ∀ l : Fin 16, ∀ k : Fin 4, ((I ((l.val : Nat) : Int)) >>> ((I ((k.val : Nat) : Int)) &&& I 31)) &&& I 1 = I (if k.val ∈ bs l.val then 1 else 0) := by decide
theorem bit_2 : ∀ l : Fin 16, ∀ k : Fin 4, k.val ∈ bs l.val → (I ((l.val : Nat) : Int)) &&& ((I 1 <<< ((I ((k.val : Nat) : Int)) &&& I 31)) ^^^ I (-1)) = I ((l.val - 2 ^ k.val : Nat) : Int) := by decide
theorem bit_3 : ∀ l : Fin 16, ∀ k : Fin 4, k.val ∈ bs l.val → bs (l.val - 2 ^ k.val) = (bs l.val).erase k.val := by decide
theorem bit_4 : ∀ l : Fin 16, bs l.val = [] → l.val = 0 := by decide
theorem bs_lt {x k : Nat} (h : k ∈ bs x) : k < 4 := List.mem_range.mp (List.mem_filter.mp h).1
/-- the best of the lengths that orders of U give, and a0 -/
def Best (B : gB) (U : List Nat → Prop) (a0 a : Int) : Prop := a ≤ a0 ∧ (∀ u τ, U u → runL (tw B) (dl (tw B)) (tS B) (u.map (B.2.1 222)) = some τ → a ≤ tlen τ) ∧ (a = a0 ∨ ∃ u τ, U u ∧ runL (tw B) (dl (tw B)) (tS B) (u.map (B.2.1 222)) = some τ ∧ a = tlen τ)
/-- what a trial of what is left shows -/
def TR (K : gK) (N : Nat) (G : gH) (n d : Nat) : Prop := ∀ (x : Nat) (B : gB), x < 16 → (bs x).length = n → (∀ k ∈ bs x, (k : Int) < (B.1 198 41)) → TI B → (B.1 198 17) + n ≤ 20 → (B.1 198 18) + n ≤ 500 →
  ∃ B', gCa K d 186 [.ref (N + 198), .int (I (x : Int))] (hH K N G B) = some (.inl none, hH K N G B') ∧ TQ B B' ∧ MW B' ∧ Best B (fun u => u.Perm (bs x)) ((B.1 198 48)) ((B'.1 198 48))
section
variable {K : gK} {d N : Nat} {G : gH}
theorem l_186 {n : Nat} (hd : 6 ≤ d) (ihn : TR K N G n d) {x : Nat} {B : gB} (hx : x < 16) (hlen : (bs x).length = n + 1) (hbq : ∀ k ∈ bs x, (k : Int) < (B.1 198 41)) (hT : TI B) (hmy : (B.1 198 17) + (n + 1) ≤ 20) (hnx : (B.1 198 18) + (n + 1) ≤ 500) :
    ∀ (m : Nat) (z : Int) (Bz : gB) (o3 : Option Value), 0 ≤ z → z + m = (B.1 198 41) → TQ B Bz → MW Bz → Best B (fun u => u.Perm (bs x) ∧ ∃ k u', u = k :: u' ∧ (k : Int) < z) ((B.1 198 48)) ((Bz.1 198 48)) →
      ∃ B', gRn K d 186 32 [some (.ref (N + 198)), some (.int (I (x : Int))), some (.int (I z)), o3] [] (hH K N G Bz) = some (.inl none, hH K N G B') ∧ TQ B B' ∧ MW B' ∧ Best B (fun u => u.Perm (bs x)) ((B.1 198 48)) ((B'.1 198 48)) := by
  intro m
  have hw := hT.1.1
  have hqd := mw_queued hw
  induction m with
  | zero =>
    intro z Bz o3 hz hm hq hwz hb
    refine ⟨Bz, e_186_32 _ ?_, hq, hwz, hb.1, fun u τ hu hr => ?_, ?_⟩
    · unfold t_186_32
      have : (Bz.1 198 41) = (B.1 198 41) := hq.1 198 41 (by omega)
      simp (disch := omega) only [rI_d, rJ_d, rR_d, rN_d, wF_d, xI_d, xJ_d, xD_d, xQ_d, yI_d, yJ_d, yD_d, yQ_d, dI_s, dJ_s, dR_s, dN_s, dN_n, dH_s, dX_s, dL_s, dD_s, dQ_s, bC_r, bC_t, kI_s, kJ_s, kF_s, kD_s, kR_s, kV_s, I_lit, I_neg, I_add, I_sub, I_mul, I_ltT, I_ltF, I_leT, I_leF, I_eqT, I_eqF, c_int, c_long, c_obj, c_arr, c_bool, c_boolN, c_boolF, vn_bool, c_charN, vn_char, b2_f, b2_t, Int.toNat_natCast, ↓reduceIte, eq_self, and_self, and_true, true_and, not_false_eq_true, not_true_eq_false, L_0_0, L_0_1, L_0_2, L_0_3, L_0_4, L_0_5, L_0_6, L_0_7, L_0_8, L_0_9, L_0_10, L_0_11, L_0_12, L_0_13, L_0_14, L_0_15, C_0, L_1_0, L_1_1, L_1_2, C_1, L_2_0, L_2_1, L_2_2, C_2, L_3_0, L_3_1, L_3_2, C_3, L_65_0, L_65_1, L_65_2, L_65_3, L_65_4, C_65, L_66_0, L_66_1, L_66_2, L_66_3, C_66, L_129_0, L_129_1, L_129_2, L_129_3, C_129, L_198_0, L_198_1, L_198_2, L_198_3, L_198_4, L_198_5, L_198_6, L_198_7, L_198_8, L_198_9, L_198_10, L_198_11, L_198_12, L_198_13, L_198_14, L_198_15, L_198_16, L_198_17, L_198_18, L_198_19, L_198_20, L_198_21, L_198_22, L_198_23, L_198_24, L_198_25, L_198_26, L_198_27, L_198_28, L_198_29, L_198_30, L_198_31, L_198_32, L_198_33, L_198_34, L_198_35, L_198_36, L_198_37, L_198_38, L_198_39, L_198_40, L_198_41, L_198_42, L_198_43, L_198_44, L_198_45, L_198_46, L_198_47, L_198_48, C_198, A_199, A_200, A_201, A_202, A_203, A_204, A_205, A_206, A_207, A_208, A_209, A_210, A_211, A_212, A_213, A_214, A_215, A_216, A_217, A_218, A_219, A_220, A_221, A_222, A_223, A_224, A_225, A_226, A_227, A_228, A_128, A_191, A_rf, A_rs, A_rt, Q_4, Q_67, Q_130, t_186_0_1, t_186_0_2, t_186_0_3, t_186_0_4, t_186_0_5, t_186_32_1, t_186_32_2, t_186_32_3, t_186_32_4, t_186_32_5, t_186_32_6, t_186_32_7, t_186_32_8, t_186_32_9, t_186_32_10, t_186_32_11, t_186_32_12, t_186_32_13, t_186_32_14, t_186_32_15, t_186_32_16, t_186_32_17, t_186_32_18, t_186_32_19, t_186_32_20, t_186_32_21, t_186_32_22, t_186_32_23, t_186_32_24, t_186_32_25, t_186_32_26, t_186_32_27, t_186_32_28, t_186_32_29, t_186_32_30, t_186_32_31, t_186_32_32, t_186_32_33, t_186_32_34, t_186_32_35, t_186_32_36, t_186_32_37, t_186_32_38, t_186_32_39, t_186_32_40, t_186_32_41, t_186_32_42, t_186_32_43, t_186_32_44, t_186_32_45, this]
    · cases u with
      | nil =>
        have := hu.length_eq
        rw [hlen] at this
        cases this
      | cons k u' =>
        refine hb.2.1 _ τ ⟨hu, k, u', rfl, ?_⟩ hr
        have := hbq k (hu.mem_iff.mp List.mem_cons_self)
        omega
    · rcases hb.2.2 with h | ⟨u, τ, h1, h2⟩
      · exact Or.inl h
      · exact Or.inr ⟨u, τ, h1.1, h2⟩
  | succ m ih =>
    intro z Bz o3 hz hm hq hwz hb
    have f41 : (Bz.1 198 41) = (B.1 198 41) := hq.1 198 41 (by omega)
    have f222 : Bz.2.1 222 = B.2.1 222 := hq.2.1 222 (by omega) (by omega) (by omega) (by omega)
    have hqz := mw_queue hw z.toNat
    have hTz : TI Bz := hT.tq hq hwz
    have b1 := bit_1 ⟨x, hx⟩ ⟨z.toNat, by omega⟩
    have b2' := bit_2 ⟨x, hx⟩ ⟨z.toNat, by omega⟩
    have b3 := bit_3 ⟨x, hx⟩ ⟨z.toNat, by omega⟩
    dsimp only at b1 b2' b3
    rw [show ((z.toNat : Nat) : Int) = z by omega] at b1 b2'
    -- the orders that begin with z are settled
    have next : ∀ (B1 : gB) (o3 : Option Value), TQ B B1 → MW B1 → Best B (fun u => u.Perm (bs x) ∧ ∃ k u', u = k :: u' ∧ (k : Int) < z + 1) ((B.1 198 48)) ((B1.1 198 48)) → ∃ B', gRn K d 186 32 [some (.ref (N + 198)), some (.int (I (x : Int))), some (.int (I (z + 1))), o3] [] (hH K N G B1) = some (.inl none, hH K N G B') ∧ TQ B B' ∧ MW B' ∧ Best B (fun u => u.Perm (bs x)) ((B.1 198 48)) ((B'.1 198 48)) := fun B1 o3 h1 h2 h3 => ih (z + 1) B1 o3 (by omega) (by omega) h1 h2 h3
    by_cases hbit : z.toNat ∈ bs x
    · rw [if_pos hbit] at b1
      have b2 := b2' hbit
      have b3 := b3 hbit
      generalize hX : B.2.1 222 z.toNat = X at *
      have hs : 0 ≤ X % 8 ∧ X % 8 < 8 := by omega
      have hcm : 0 ≤ cM X ∧ cM X ≤ 1 := by
        unfold cM
        split <;> omega
      obtain ⟨B1, g1, g2, g3, g4⟩ := w_105 (K := K) (d := d) (N := N) (G := G) (by omega) hTz.1 hs hcm
      have hq1 : TQ B B1 := hq.tr (TQ.sc g2)
      have hT1 : TI B1 := hT.tq hq1 g3
      have en : nst (tw Bz) (Bz.2.1 215) (rmT (tw Bz)) (cS X) (dl (tw Bz) (cS X)) (cM X) = nst (tw B) (tS B).1 (tS B).2 (cS X) (dl (tw B) (cS X)) (cM X) := by
        rw [hq.cl, hq.rm]
        show _ = nst (tw B) (nz (B.2.1 215)) (rmT (tw B)) (cS X) (dl (tw B) (cS X)) (cM X)
        rw [nst_nz]
        exact qf (fun M => nst M (B.2.1 215) (rmT (tw B)) (cS X) (dl M (cS X)) (cM X)) (fun _ => rfl) hq.q
      have erun : ∀ u', runL (tw B) (dl (tw B)) (tS B) ((z.toNat :: u').map (B.2.1 222)) = (stpL (tw B) (dl (tw B)) (tS B) X).bind fun τ' => runL (tw B) (dl (tw B)) τ' (u'.map (B.2.1 222)) := fun u' => by
        rw [List.map_cons, hX]; rfl
      have hdm : X - X / 8 * 8 = X % 8 := by omega
      have hl1 : (B1.1 198 48) = (Bz.1 198 48) := g2.f (by omega)
      rw [en] at g1 g4
      cases hn : nst (tw B) (tS B).1 (tS B).2 (cS X) (dl (tw B) (cS X)) (cM X) with
      | none =>
        have es : stpL (tw B) (dl (tw B)) (tS B) X = none := by
          unfold stpL
          rw [hn]; rfl
        rw [b2F (fun h => h hn)] at g1
        obtain ⟨B', k1, k2⟩ := next B1 o3 hq1 g3 (by
          rw [hl1]
          refine ⟨hb.1, fun u τ hu hr => ?_, ?_⟩
          · obtain ⟨hu, k, u', rfl, hk⟩ := hu
            by_cases e : (k : Int) < z
            · exact hb.2.1 _ τ ⟨hu, k, u', rfl, e⟩ hr
            · obtain rfl : k = z.toNat := by omega
              rw [erun, es] at hr
              cases hr
          · rcases hb.2.2 with h | ⟨u, τ, h1, h2⟩
            · exact Or.inl h
            · obtain ⟨h1, k, u', h3, h4⟩ := h1
              exact Or.inr ⟨u, τ, ⟨h1, k, u', h3, by omega⟩, h2⟩)
        refine ⟨B', e_186_32 _ ?_, k2⟩
        unfold t_186_32
        unfold cM at g1
        by_cases c8 : 8 ≤ X
        · rw [if_pos c8] at g1
          simp (disch := omega) only [rI_d, rJ_d, rR_d, rN_d, wF_d, xI_d, xJ_d, xD_d, xQ_d, yI_d, yJ_d, yD_d, yQ_d, dI_s, dJ_s, dR_s, dN_s, dN_n, dH_s, dX_s, dL_s, dD_s, dQ_s, bC_r, bC_t, kI_s, kJ_s, kF_s, kD_s, kR_s, kV_s, I_lit, I_neg, I_add, I_sub, I_mul, I_ltT, I_ltF, I_leT, I_leF, I_eqT, I_eqF, c_int, c_long, c_obj, c_arr, c_bool, c_boolN, c_boolF, vn_bool, c_charN, vn_char, b2_f, b2_t, Int.toNat_natCast, ↓reduceIte, eq_self, and_self, and_true, true_and, not_false_eq_true, not_true_eq_false, L_0_0, L_0_1, L_0_2, L_0_3, L_0_4, L_0_5, L_0_6, L_0_7, L_0_8, L_0_9, L_0_10, L_0_11, L_0_12, L_0_13, L_0_14, L_0_15, C_0, L_1_0, L_1_1, L_1_2, C_1, L_2_0, L_2_1, L_2_2, C_2, L_3_0, L_3_1, L_3_2, C_3, L_65_0, L_65_1, L_65_2, L_65_3, L_65_4, C_65, L_66_0, L_66_1, L_66_2, L_66_3, C_66, L_129_0, L_129_1, L_129_2, L_129_3, C_129, L_198_0, L_198_1, L_198_2, L_198_3, L_198_4, L_198_5, L_198_6, L_198_7, L_198_8, L_198_9, L_198_10, L_198_11, L_198_12, L_198_13, L_198_14, L_198_15, L_198_16, L_198_17, L_198_18, L_198_19, L_198_20, L_198_21, L_198_22, L_198_23, L_198_24, L_198_25, L_198_26, L_198_27, L_198_28, L_198_29, L_198_30, L_198_31, L_198_32, L_198_33, L_198_34, L_198_35, L_198_36, L_198_37, L_198_38, L_198_39, L_198_40, L_198_41, L_198_42, L_198_43, L_198_44, L_198_45, L_198_46, L_198_47, L_198_48, C_198, A_199, A_200, A_201, A_202, A_203, A_204, A_205, A_206, A_207, A_208, A_209, A_210, A_211, A_212, A_213, A_214, A_215, A_216, A_217, A_218, A_219, A_220, A_221, A_222, A_223, A_224, A_225, A_226, A_227, A_228, A_128, A_191, A_rf, A_rs, A_rt, Q_4, Q_67, Q_130, t_186_0_1, t_186_0_2, t_186_0_3, t_186_0_4, t_186_0_5, t_186_32_1, t_186_32_2, t_186_32_3, t_186_32_4, t_186_32_5, t_186_32_6, t_186_32_7, t_186_32_8, t_186_32_9, t_186_32_10, t_186_32_11, t_186_32_12, t_186_32_13, t_186_32_14, t_186_32_15, t_186_32_16, t_186_32_17, t_186_32_18, t_186_32_19, t_186_32_20, t_186_32_21, t_186_32_22, t_186_32_23, t_186_32_24, t_186_32_25, t_186_32_26, t_186_32_27, t_186_32_28, t_186_32_29, t_186_32_30, t_186_32_31, t_186_32_32, t_186_32_33, t_186_32_34, t_186_32_35, t_186_32_36, t_186_32_37, t_186_32_38, t_186_32_39, t_186_32_40, t_186_32_41, t_186_32_42, t_186_32_43, t_186_32_44, t_186_32_45, f41, f222, hX, b1, I_div, hdm, g1, k1]
        · rw [if_neg c8] at g1
          simp (disch := omega) only [rI_d, rJ_d, rR_d, rN_d, wF_d, xI_d, xJ_d, xD_d, xQ_d, yI_d, yJ_d, yD_d, yQ_d, dI_s, dJ_s, dR_s, dN_s, dN_n, dH_s, dX_s, dL_s, dD_s, dQ_s, bC_r, bC_t, kI_s, kJ_s, kF_s, kD_s, kR_s, kV_s, I_lit, I_neg, I_add, I_sub, I_mul, I_ltT, I_ltF, I_leT, I_leF, I_eqT, I_eqF, c_int, c_long, c_obj, c_arr, c_bool, c_boolN, c_boolF, vn_bool, c_charN, vn_char, b2_f, b2_t, Int.toNat_natCast, ↓reduceIte, eq_self, and_self, and_true, true_and, not_false_eq_true, not_true_eq_false, L_0_0, L_0_1, L_0_2, L_0_3, L_0_4, L_0_5, L_0_6, L_0_7, L_0_8, L_0_9, L_0_10, L_0_11, L_0_12, L_0_13, L_0_14, L_0_15, C_0, L_1_0, L_1_1, L_1_2, C_1, L_2_0, L_2_1, L_2_2, C_2, L_3_0, L_3_1, L_3_2, C_3, L_65_0, L_65_1, L_65_2, L_65_3, L_65_4, C_65, L_66_0, L_66_1, L_66_2, L_66_3, C_66, L_129_0, L_129_1, L_129_2, L_129_3, C_129, L_198_0, L_198_1, L_198_2, L_198_3, L_198_4, L_198_5, L_198_6, L_198_7, L_198_8, L_198_9, L_198_10, L_198_11, L_198_12, L_198_13, L_198_14, L_198_15, L_198_16, L_198_17, L_198_18, L_198_19, L_198_20, L_198_21, L_198_22, L_198_23, L_198_24, L_198_25, L_198_26, L_198_27, L_198_28, L_198_29, L_198_30, L_198_31, L_198_32, L_198_33, L_198_34, L_198_35, L_198_36, L_198_37, L_198_38, L_198_39, L_198_40, L_198_41, L_198_42, L_198_43, L_198_44, L_198_45, L_198_46, L_198_47, L_198_48, C_198, A_199, A_200, A_201, A_202, A_203, A_204, A_205, A_206, A_207, A_208, A_209, A_210, A_211, A_212, A_213, A_214, A_215, A_216, A_217, A_218, A_219, A_220, A_221, A_222, A_223, A_224, A_225, A_226, A_227, A_228, A_128, A_191, A_rf, A_rs, A_rt, Q_4, Q_67, Q_130, t_186_0_1, t_186_0_2, t_186_0_3, t_186_0_4, t_186_0_5, t_186_32_1, t_186_32_2, t_186_32_3, t_186_32_4, t_186_32_5, t_186_32_6, t_186_32_7, t_186_32_8, t_186_32_9, t_186_32_10, t_186_32_11, t_186_32_12, t_186_32_13, t_186_32_14, t_186_32_15, t_186_32_16, t_186_32_17, t_186_32_18, t_186_32_19, t_186_32_20, t_186_32_21, t_186_32_22, t_186_32_23, t_186_32_24, t_186_32_25, t_186_32_26, t_186_32_27, t_186_32_28, t_186_32_29, t_186_32_30, t_186_32_31, t_186_32_32, t_186_32_33, t_186_32_34, t_186_32_35, t_186_32_36, t_186_32_37, t_186_32_38, t_186_32_39, t_186_32_40, t_186_32_41, t_186_32_42, t_186_32_43, t_186_32_44, t_186_32_45, f41, f222, hX, b1, I_div, hdm, g1, k1]
      | some k =>
        rw [b2T (fun h => by cases h.symm.trans hn)] at g1
        obtain ⟨n1, n2, n3, n4⟩ := g4 k hn
        rw [← en] at hn
        obtain ⟨p1, p2, p3⟩ := fst1_some _ _ _ hn
        rw [en] at hn
        have hio := ins_of_rsn p1
        -- all that is said of Bz holds of B1
        have eD : dl (tw Bz) (cS X) = dl (tw B1) (cS X) := (scf (fun M => dl M (cS X)) (fun _ => rfl) g2).symm
        have eDB : dl (tw B1) (cS X) = dl (tw B) (cS X) := qf (fun M => dl M (cS X)) (fun _ => rfl) hq1.q
        rw [eD] at hio n4
        have hin : ins (tw B1) (dl (tw B1) (cS X)) ((k : Int) % 4) (cM X) ((k : Int) / 48) ((k : Int) / 4 % 12) := by
          rw [scP (fun M => ins M (dl (tw B1) (cS X)) ((k : Int) % 4) (cM X) ((k : Int) / 48) ((k : Int) / 4 % 12)) (fun _ => rfl) g2]
          exact hio.2.2.2.1
        have hnp : ¬ onP (B1.2.1 215) (dl (tw B1) (cS X)) ((k : Int) % 4) (cM X) ((k : Int) / 48) ((k : Int) / 4 % 12) := by
          rw [show B1.2.1 215 = Bz.2.1 215 from g2.2.1 215 (by omega) (by omega)]
          exact hio.2.2.2.2.2.1
        have hmt : meets (tw B1) (rmT (tw B1)) (cS X) (dl (tw B1) (cS X)) ((k : Int) % 4) (cM X) ((k : Int) / 48) := by
          rw [scP (fun M => meets M (rmT M) (cS X) (dl (tw B1) (cS X)) ((k : Int) % 4) (cM X) ((k : Int) / 48)) (fun _ => rfl) g2]
          exact hio.2.2.2.2.2.2
        have hTn : Tn (tw B1) B1 (cS X) (dl (tw B1) (cS X)) ((k : Int) % 4) (cM X) := by
          refine ⟨n4.1, n4.2.1, n4.2.2.trans ?_⟩
          exact (scf (fun M => mb M (cS X) (dl (tw B1) (cS X)) ((k : Int) % 4) (cM X)) (fun _ => rfl) g2).symm
        have m1 : (B1.1 198 17) = (B.1 198 17) := hq1.many
        have x1 : (B1.1 198 18) = (B.1 198 18) := hq1.1 198 18 (by omega)
        have hmw := mw_many hw
        have hnw := mw_next hw
        have w2 := w_102 (K := K) (d := d) (N := N) (G := G) (r := (k : Int) / 48) (c := (k : Int) / 4 % 12) (by omega) g3 hs (by omega) hcm (dlp_len 25) (fun k => dlp_lt) hTn hin (by omega) (by omega)
        have hT2 : TI (putB B1 (cS X) (dl (tw B1) (cS X)) ((k : Int) % 4) ((k : Int) / 48) ((k : Int) / 4 % 12) (cM X)) := putB_TI hT1 (by show (X % 8).toNat < 8; omega) (by omega) hcm (by omega) (by omega) (by omega) (by omega)
        have q2 : nsQ (tw (putB B1 (cS X) (dl (tw B1) (cS X)) ((k : Int) % 4) ((k : Int) / 48) ((k : Int) / 4 % 12) (cM X))) = nsQ (tw B) := putB_q.trans hq1.q
        have fq2 : (putB B1 (cS X) (dl (tw B1) (cS X)) ((k : Int) % 4) ((k : Int) / 48) ((k : Int) / 4 % 12) (cM X)).2.1 222 = B.2.1 222 := (putB_a (by omega)).trans (hq1.2.1 222 (by omega) (by omega) (by omega) (by omega))
        have fl2 : (putB B1 (cS X) (dl (tw B1) (cS X)) ((k : Int) % 4) ((k : Int) / 48) ((k : Int) / 4 % 12) (cM X)).1 198 48 = (Bz.1 198 48) := (putB_f (by omega)).trans hl1
        have ft2 : tS (putB B1 (cS X) (dl (tw B1) (cS X)) ((k : Int) % 4) ((k : Int) / 48) ((k : Int) / 4 % 12) (cM X)) = putM (tw B) (tS B) (cS X) (dl (tw B) (cS X)) ((k : Int) % 4) ((k : Int) / 48) ((k : Int) / 4 % 12) (cM X) := by
          rw [putB_tS g3, hq1.ts, eDB]
          exact qf (fun M => putM M (tS B) (cS X) (dl (tw B) (cS X)) ((k : Int) % 4) ((k : Int) / 48) ((k : Int) / 4 % 12) (cM X)) (fun _ => rfl) hq1.q
        have es : stpL (tw B) (dl (tw B)) (tS B) X = some (tS (putB B1 (cS X) (dl (tw B1) (cS X)) ((k : Int) % 4) ((k : Int) / 48) ((k : Int) / 4 % 12) (cM X))) := by
          rw [ft2]
          unfold stpL
          rw [hn]; rfl
        have my2 : (putB B1 (cS X) (dl (tw B1) (cS X)) ((k : Int) % 4) ((k : Int) / 48) ((k : Int) / 4 % 12) (cM X)).1 198 17 = (B1.1 198 17) + 1 := putB_many
        have nx2 : (putB B1 (cS X) (dl (tw B1) (cS X)) ((k : Int) % 4) ((k : Int) / 48) ((k : Int) / 4 % 12) (cM X)).1 198 18 = (B1.1 198 18) + 1 := putB_next
        have qd2 : (putB B1 (cS X) (dl (tw B1) (cS X)) ((k : Int) % 4) ((k : Int) / 48) ((k : Int) / 4 % 12) (cM X)).1 198 41 = (B.1 198 41) := (putB_f (by omega)).trans (hq1.1 198 41 (by omega))
        have hround := fun B3 h => round (B3 := B3) (s := cS X) hT1 (fun k => dlp_lt) hin hnp hmt h
        have pnew := (putB_new (B := B1) (s := cS X) (l := dl (tw B1) (cS X)) (t := (k : Int) % 4) (r := (k : Int) / 48) (c := (k : Int) / 4 % 12) (m := cM X)).2.1
        have pog : marked (tw B1) (cS X) → 0 < (putB B1 (cS X) (dl (tw B1) (cS X)) ((k : Int) % 4) ((k : Int) / 48) ((k : Int) / 4 % 12) (cM X)).2.1 217 (B1.2.1 204 (cS X)).toNat := fun h => by
          rw [putB_og, cifT ⟨h, rfl⟩]
          have := mw_ofGroup g3 (B1.2.1 204 (cS X)).toNat
          omega
        have pgr : (putB B1 (cS X) (dl (tw B1) (cS X)) ((k : Int) % 4) ((k : Int) / 48) ((k : Int) / 4 % 12) (cM X)).2.1 204 = B1.2.1 204 := putB_a (by omega)
        have pst : (putB B1 (cS X) (dl (tw B1) (cS X)) ((k : Int) % 4) ((k : Int) / 48) ((k : Int) / 4 % 12) (cM X)).1 198 4 = (B1.1 198 4) := putB_f (by omega)
        generalize hB2 : putB B1 (cS X) (dl (tw B1) (cS X)) ((k : Int) % 4) ((k : Int) / 48) ((k : Int) / 4 % 12) (cM X) = B2 at *
        obtain ⟨B3, r1, r2, r3, r4⟩ := ihn (x - 2 ^ z.toNat) B2 (Nat.lt_of_le_of_lt (Nat.sub_le _ _) hx) (by rw [b3, List.length_erase_of_mem hbit, hlen]; rfl) (fun j hj => by rw [qd2]; rw [b3] at hj; exact hbq j (List.mem_of_mem_erase hj)) hT2 (by omega) (by omega)
        have m3 : (B3.1 198 17) = (B1.1 198 17) + 1 := r2.many.trans my2
        have x3 : (B3.1 198 18) = (B1.1 198 18) + 1 := (r2.1 198 18 (by omega)).trans nx2
        have hsh3 : B3.2.1 210 ((B1.1 198 17)).toNat = cS X := (r2.2.2.1 210 _ (by omega) (by omega) (by rw [my2]; omega)).trans pnew
        have hg3 : B3.2.1 204 = B1.2.1 204 := (r2.2.1 204 (by omega) (by omega) (by omega) (by omega)).trans pgr
        have hs3 : (B3.1 198 4) = (B1.1 198 4) := (r2.1 198 4 (by omega)).trans pst
        have hog3 : marked (tw B3) (B3.2.1 210 ((B1.1 198 17)).toNat).toNat → 0 < B3.2.1 217 (B3.2.1 204 (B3.2.1 210 ((B1.1 198 17)).toNat).toNat).toNat := by
          rw [hsh3, Int.toNat_natCast, hg3, r2.og]
          intro h
          refine pog ?_
          unfold marked at h ⊢
          dsimp only [tw] at h ⊢
          rw [hg3, hs3] at h
          exact h
        have w3 := w_108 (K := K) (d := d) (N := N) (G := G) (p := (B1.1 198 17)) (by omega) r3 (by omega) hog3
        have hw4 := tkB_b r3 (p := ((B1.1 198 17)).toNat) (by omega) hog3
        have f4 : (tkB B3 ((B1.1 198 17)).toNat).1 198 18 = (B1.1 198 18) + 1 := (tkB_f (by omega)).trans x3
        have hq5 := hq1.tr (hround B3 r2)
        have hl5 : (sI (tkB B3 ((B1.1 198 17)).toNat) 198 18 ((B1.1 198 18))).1 198 48 = (B3.1 198 48) := (sI_ne (by omega)).trans (tkB_f (by omega))
        have hw5 : MW (sI (tkB B3 ((B1.1 198 17)).toNat) 198 18 ((B1.1 198 18))) := ms_next hw4 (by omega)
        have e2 : ∀ u', runL (tw B2) (dl (tw B2)) (tS B2) (u'.map (B2.2.1 222)) = runL (tw B) (dl (tw B)) (tS B) ((z.toNat :: u').map (B.2.1 222)) := fun u' => by
          rw [erun, es, fq2, run_q q2]; rfl
        obtain ⟨B', k1, k2⟩ := next _ (some (.int (I ((B1.1 198 18))))) hq5 hw5 (by
          rw [hl5]
          refine ⟨Int.le_trans r4.1 (by rw [fl2]; exact hb.1), fun u τ hu hr => ?_, ?_⟩
          · obtain ⟨hu, j, u', rfl, hk⟩ := hu
            by_cases e : (j : Int) < z
            · refine Int.le_trans r4.1 ?_
              rw [fl2]
              exact hb.2.1 _ τ ⟨hu, j, u', rfl, e⟩ hr
            · obtain rfl : j = z.toNat := by omega
              refine r4.2.1 u' τ ?_ ((e2 u').trans hr)
              rw [b3]
              exact (List.cons_perm_iff_perm_erase.mp hu).2
          · rcases r4.2.2 with h | ⟨u', τ, h1, h2, h3⟩
            · rw [h, fl2]
              rcases hb.2.2 with h | ⟨u, τ, h1, h2⟩
              · exact Or.inl h
              · obtain ⟨h1, j, u', h3, h4⟩ := h1
                exact Or.inr ⟨u, τ, ⟨h1, j, u', h3, by omega⟩, h2⟩
            · refine Or.inr ⟨z.toNat :: u', τ, ⟨?_, z.toNat, u', rfl, by omega⟩, (e2 u').symm.trans h2, h3⟩
              rw [b3] at h1
              exact List.cons_perm_iff_perm_erase.mpr ⟨hbit, h1⟩)
        refine ⟨B', e_186_32 _ ?_, k2⟩
        have hz1 : (B1.1 198 17) + 1 - 1 = (B1.1 198 17) := by omega
        have hz2 : (B1.1 198 18) + 1 - 1 = (B1.1 198 18) := by omega
        have f222' : B1.2.1 222 = B.2.1 222 := hq1.2.1 222 (by omega) (by omega) (by omega) (by omega)
        unfold t_186_32
        unfold cM at g1 w2
        by_cases c8 : 8 ≤ X
        · rw [if_pos c8] at g1 w2
          simp (disch := omega) only [rI_d, rJ_d, rR_d, rN_d, wF_d, xI_d, xJ_d, xD_d, xQ_d, yI_d, yJ_d, yD_d, yQ_d, dI_s, dJ_s, dR_s, dN_s, dN_n, dH_s, dX_s, dL_s, dD_s, dQ_s, bC_r, bC_t, kI_s, kJ_s, kF_s, kD_s, kR_s, kV_s, I_lit, I_neg, I_add, I_sub, I_mul, I_ltT, I_ltF, I_leT, I_leF, I_eqT, I_eqF, c_int, c_long, c_obj, c_arr, c_bool, c_boolN, c_boolF, vn_bool, c_charN, vn_char, b2_f, b2_t, Int.toNat_natCast, ↓reduceIte, eq_self, and_self, and_true, true_and, not_false_eq_true, not_true_eq_false, L_0_0, L_0_1, L_0_2, L_0_3, L_0_4, L_0_5, L_0_6, L_0_7, L_0_8, L_0_9, L_0_10, L_0_11, L_0_12, L_0_13, L_0_14, L_0_15, C_0, L_1_0, L_1_1, L_1_2, C_1, L_2_0, L_2_1, L_2_2, C_2, L_3_0, L_3_1, L_3_2, C_3, L_65_0, L_65_1, L_65_2, L_65_3, L_65_4, C_65, L_66_0, L_66_1, L_66_2, L_66_3, C_66, L_129_0, L_129_1, L_129_2, L_129_3, C_129, L_198_0, L_198_1, L_198_2, L_198_3, L_198_4, L_198_5, L_198_6, L_198_7, L_198_8, L_198_9, L_198_10, L_198_11, L_198_12, L_198_13, L_198_14, L_198_15, L_198_16, L_198_17, L_198_18, L_198_19, L_198_20, L_198_21, L_198_22, L_198_23, L_198_24, L_198_25, L_198_26, L_198_27, L_198_28, L_198_29, L_198_30, L_198_31, L_198_32, L_198_33, L_198_34, L_198_35, L_198_36, L_198_37, L_198_38, L_198_39, L_198_40, L_198_41, L_198_42, L_198_43, L_198_44, L_198_45, L_198_46, L_198_47, L_198_48, C_198, A_199, A_200, A_201, A_202, A_203, A_204, A_205, A_206, A_207, A_208, A_209, A_210, A_211, A_212, A_213, A_214, A_215, A_216, A_217, A_218, A_219, A_220, A_221, A_222, A_223, A_224, A_225, A_226, A_227, A_228, A_128, A_191, A_rf, A_rs, A_rt, Q_4, Q_67, Q_130, t_186_0_1, t_186_0_2, t_186_0_3, t_186_0_4, t_186_0_5, t_186_32_1, t_186_32_2, t_186_32_3, t_186_32_4, t_186_32_5, t_186_32_6, t_186_32_7, t_186_32_8, t_186_32_9, t_186_32_10, t_186_32_11, t_186_32_12, t_186_32_13, t_186_32_14, t_186_32_15, t_186_32_16, t_186_32_17, t_186_32_18, t_186_32_19, t_186_32_20, t_186_32_21, t_186_32_22, t_186_32_23, t_186_32_24, t_186_32_25, t_186_32_26, t_186_32_27, t_186_32_28, t_186_32_29, t_186_32_30, t_186_32_31, t_186_32_32, t_186_32_33, t_186_32_34, t_186_32_35, t_186_32_36, t_186_32_37, t_186_32_38, t_186_32_39, t_186_32_40, t_186_32_41, t_186_32_42, t_186_32_43, t_186_32_44, t_186_32_45, M_0_8, M_0_9, M_0_10, M_0_11, M_0_12, M_0_13, M_0_14, M_0_15, M_1_0, M_1_1, M_1_2, M_2_0, M_2_1, M_2_2, M_3_0, M_3_1, M_3_2, M_65_0, M_65_1, M_65_2, M_65_3, M_65_4, M_66_2, M_129_2, M_198_0, M_198_1, M_198_2, M_198_3, M_198_4, M_198_5, M_198_7, M_198_17, M_198_18, M_198_28, M_198_31, M_198_32, M_198_33, M_198_36, M_198_37, M_198_38, M_198_39, M_198_41, M_198_48, S_199, S_200, S_201, S_202, S_203, S_204, S_205, S_206, S_207, S_208, S_209, S_210, S_211, S_212, S_213, S_214, S_215, S_216, S_217, S_218, S_219, S_220, S_221, S_222, S_223, S_224, S_225, S_226, S_227, S_228, S_128, S_191, S_rf, S_rs, S_rt, f41, f222, f222', hX, b1, b2, I_div, hdm, g1, n1, n2, n3, w2, r1, m3, hz1, w3, f4, hz2, k1]
        · rw [if_neg c8] at g1 w2
          simp (disch := omega) only [rI_d, rJ_d, rR_d, rN_d, wF_d, xI_d, xJ_d, xD_d, xQ_d, yI_d, yJ_d, yD_d, yQ_d, dI_s, dJ_s, dR_s, dN_s, dN_n, dH_s, dX_s, dL_s, dD_s, dQ_s, bC_r, bC_t, kI_s, kJ_s, kF_s, kD_s, kR_s, kV_s, I_lit, I_neg, I_add, I_sub, I_mul, I_ltT, I_ltF, I_leT, I_leF, I_eqT, I_eqF, c_int, c_long, c_obj, c_arr, c_bool, c_boolN, c_boolF, vn_bool, c_charN, vn_char, b2_f, b2_t, Int.toNat_natCast, ↓reduceIte, eq_self, and_self, and_true, true_and, not_false_eq_true, not_true_eq_false, L_0_0, L_0_1, L_0_2, L_0_3, L_0_4, L_0_5, L_0_6, L_0_7, L_0_8, L_0_9, L_0_10, L_0_11, L_0_12, L_0_13, L_0_14, L_0_15, C_0, L_1_0, L_1_1, L_1_2, C_1, L_2_0, L_2_1, L_2_2, C_2, L_3_0, L_3_1, L_3_2, C_3, L_65_0, L_65_1, L_65_2, L_65_3, L_65_4, C_65, L_66_0, L_66_1, L_66_2, L_66_3, C_66, L_129_0, L_129_1, L_129_2, L_129_3, C_129, L_198_0, L_198_1, L_198_2, L_198_3, L_198_4, L_198_5, L_198_6, L_198_7, L_198_8, L_198_9, L_198_10, L_198_11, L_198_12, L_198_13, L_198_14, L_198_15, L_198_16, L_198_17, L_198_18, L_198_19, L_198_20, L_198_21, L_198_22, L_198_23, L_198_24, L_198_25, L_198_26, L_198_27, L_198_28, L_198_29, L_198_30, L_198_31, L_198_32, L_198_33, L_198_34, L_198_35, L_198_36, L_198_37, L_198_38, L_198_39, L_198_40, L_198_41, L_198_42, L_198_43, L_198_44, L_198_45, L_198_46, L_198_47, L_198_48, C_198, A_199, A_200, A_201, A_202, A_203, A_204, A_205, A_206, A_207, A_208, A_209, A_210, A_211, A_212, A_213, A_214, A_215, A_216, A_217, A_218, A_219, A_220, A_221, A_222, A_223, A_224, A_225, A_226, A_227, A_228, A_128, A_191, A_rf, A_rs, A_rt, Q_4, Q_67, Q_130, t_186_0_1, t_186_0_2, t_186_0_3, t_186_0_4, t_186_0_5, t_186_32_1, t_186_32_2, t_186_32_3, t_186_32_4, t_186_32_5, t_186_32_6, t_186_32_7, t_186_32_8, t_186_32_9, t_186_32_10, t_186_32_11, t_186_32_12, t_186_32_13, t_186_32_14, t_186_32_15, t_186_32_16, t_186_32_17, t_186_32_18, t_186_32_19, t_186_32_20, t_186_32_21, t_186_32_22, t_186_32_23, t_186_32_24, t_186_32_25, t_186_32_26, t_186_32_27, t_186_32_28, t_186_32_29, t_186_32_30, t_186_32_31, t_186_32_32, t_186_32_33, t_186_32_34, t_186_32_35, t_186_32_36, t_186_32_37, t_186_32_38, t_186_32_39, t_186_32_40, t_186_32_41, t_186_32_42, t_186_32_43, t_186_32_44, t_186_32_45, M_0_8, M_0_9, M_0_10, M_0_11, M_0_12, M_0_13, M_0_14, M_0_15, M_1_0, M_1_1, M_1_2, M_2_0, M_2_1, M_2_2, M_3_0, M_3_1, M_3_2, M_65_0, M_65_1, M_65_2, M_65_3, M_65_4, M_66_2, M_129_2, M_198_0, M_198_1, M_198_2, M_198_3, M_198_4, M_198_5, M_198_7, M_198_17, M_198_18, M_198_28, M_198_31, M_198_32, M_198_33, M_198_36, M_198_37, M_198_38, M_198_39, M_198_41, M_198_48, S_199, S_200, S_201, S_202, S_203, S_204, S_205, S_206, S_207, S_208, S_209, S_210, S_211, S_212, S_213, S_214, S_215, S_216, S_217, S_218, S_219, S_220, S_221, S_222, S_223, S_224, S_225, S_226, S_227, S_228, S_128, S_191, S_rf, S_rs, S_rt, f41, f222, f222', hX, b1, b2, I_div, hdm, g1, n1, n2, n3, w2, r1, m3, hz1, w3, f4, hz2, k1]
    · rw [if_neg hbit] at b1
      obtain ⟨B', k1, k2⟩ := next Bz o3 hq hwz (by
        refine ⟨hb.1, fun u τ hu hr => ?_, ?_⟩
        · obtain ⟨hu, k, u', rfl, hk⟩ := hu
          by_cases e : (k : Int) < z
          · exact hb.2.1 _ τ ⟨hu, k, u', rfl, e⟩ hr
          · obtain rfl : k = z.toNat := by omega
            exact absurd (hu.mem_iff.mp List.mem_cons_self) hbit
        · rcases hb.2.2 with h | ⟨u, τ, h1, h2⟩
          · exact Or.inl h
          · obtain ⟨h1, k, u', h3, h4⟩ := h1
            exact Or.inr ⟨u, τ, ⟨h1, k, u', h3, by omega⟩, h2⟩)
      refine ⟨B', e_186_32 _ ?_, k2⟩
      unfold t_186_32
      simp (disch := omega) only [rI_d, rJ_d, rR_d, rN_d, wF_d, xI_d, xJ_d, xD_d, xQ_d, yI_d, yJ_d, yD_d, yQ_d, dI_s, dJ_s, dR_s, dN_s, dN_n, dH_s, dX_s, dL_s, dD_s, dQ_s, bC_r, bC_t, kI_s, kJ_s, kF_s, kD_s, kR_s, kV_s, I_lit, I_neg, I_add, I_sub, I_mul, I_ltT, I_ltF, I_leT, I_leF, I_eqT, I_eqF, c_int, c_long, c_obj, c_arr, c_bool, c_boolN, c_boolF, vn_bool, c_charN, vn_char, b2_f, b2_t, Int.toNat_natCast, ↓reduceIte, eq_self, and_self, and_true, true_and, not_false_eq_true, not_true_eq_false, L_0_0, L_0_1, L_0_2, L_0_3, L_0_4, L_0_5, L_0_6, L_0_7, L_0_8, L_0_9, L_0_10, L_0_11, L_0_12, L_0_13, L_0_14, L_0_15, C_0, L_1_0, L_1_1, L_1_2, C_1, L_2_0, L_2_1, L_2_2, C_2, L_3_0, L_3_1, L_3_2, C_3, L_65_0, L_65_1, L_65_2, L_65_3, L_65_4, C_65, L_66_0, L_66_1, L_66_2, L_66_3, C_66, L_129_0, L_129_1, L_129_2, L_129_3, C_129, L_198_0, L_198_1, L_198_2, L_198_3, L_198_4, L_198_5, L_198_6, L_198_7, L_198_8, L_198_9, L_198_10, L_198_11, L_198_12, L_198_13, L_198_14, L_198_15, L_198_16, L_198_17, L_198_18, L_198_19, L_198_20, L_198_21, L_198_22, L_198_23, L_198_24, L_198_25, L_198_26, L_198_27, L_198_28, L_198_29, L_198_30, L_198_31, L_198_32, L_198_33, L_198_34, L_198_35, L_198_36, L_198_37, L_198_38, L_198_39, L_198_40, L_198_41, L_198_42, L_198_43, L_198_44, L_198_45, L_198_46, L_198_47, L_198_48, C_198, A_199, A_200, A_201, A_202, A_203, A_204, A_205, A_206, A_207, A_208, A_209, A_210, A_211, A_212, A_213, A_214, A_215, A_216, A_217, A_218, A_219, A_220, A_221, A_222, A_223, A_224, A_225, A_226, A_227, A_228, A_128, A_191, A_rf, A_rs, A_rt, Q_4, Q_67, Q_130, t_186_0_1, t_186_0_2, t_186_0_3, t_186_0_4, t_186_0_5, t_186_32_1, t_186_32_2, t_186_32_3, t_186_32_4, t_186_32_5, t_186_32_6, t_186_32_7, t_186_32_8, t_186_32_9, t_186_32_10, t_186_32_11, t_186_32_12, t_186_32_13, t_186_32_14, t_186_32_15, t_186_32_16, t_186_32_17, t_186_32_18, t_186_32_19, t_186_32_20, t_186_32_21, t_186_32_22, t_186_32_23, t_186_32_24, t_186_32_25, t_186_32_26, t_186_32_27, t_186_32_28, t_186_32_29, t_186_32_30, t_186_32_31, t_186_32_32, t_186_32_33, t_186_32_34, t_186_32_35, t_186_32_36, t_186_32_37, t_186_32_38, t_186_32_39, t_186_32_40, t_186_32_41, t_186_32_42, t_186_32_43, t_186_32_44, t_186_32_45, f41, b1, k1]
end
