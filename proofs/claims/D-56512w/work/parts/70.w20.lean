/-! PURE 29: the model's figures; its least length, public -/
set_option maxRecDepth 100000
theorem LQ.q {B B' : gB} (h : LQ B B') : nsQ (tw B') = nsQ (tw B) := nsQ_of (fun k q1 _ _ q4 q5 q6 q7 q8 q9 q10 => h.1 198 k (Or.inr ⟨q1, q4, q5, q6, q7, q8, q9, q10⟩)) (fun o a => h.2.1 o (by omega))
theorem LQ.og {B B' : gB} (h : LQ B B') : B'.2.1 217 = B.2.1 217 := h.2.1 217 (by omega)
theorem LQ.tr {B B' B'' : gB} (h : LQ B B') (h' : LQ B' B'') : LQ B B'' := by
  refine ⟨fun o k q => (h'.1 o k q).trans (h.1 o k q), fun o a => (h'.2.1 o a).trans (h.2.1 o a), fun o j a b c => (h'.2.2.1 o j a b ?_).trans (h.2.2.1 o j a b c), fun g hg => (h'.2.2.2.1 g ?_).trans (h.2.2.2.1 g hg), h'.2.2.2.2.trans h.2.2.2.2⟩
  · rw [h.1 198 17 (by omega)]; exact c
  · rw [h.og]; exact hg
theorem LQ.rf {B : gB} : LQ B B := ⟨fun _ _ _ => rfl, fun _ _ => rfl, fun _ _ _ _ _ => rfl, fun _ _ => rfl, rfl⟩
theorem LQ.th {B : gB} {v : Int} : LQ B (sI B 198 0 v) := ⟨fun o k q => sI_ne (by omega), fun _ _ => rfl, fun _ _ _ _ _ => rfl, fun _ _ => rfl, rfl⟩
theorem LQ.qb {B : gB} {f : Nat → Int} {n : Nat} : LQ B (qB B f n) := by
  unfold qB
  exact ⟨fun o k q => sI_ne (by omega), fun o h => st_ne (by omega), fun o j a b _ => congrFun (st_ne (by omega)) j, fun g _ => congrFun (st_ne (by omega)) g, rfl⟩
theorem LQ.sc {B B' : gB} (h : SC B B') : LQ B B' := ⟨fun o k q => h.1 o k (by omega), fun o a => h.2.1 o (by omega) (by omega), fun o j a b _ => h.a (by omega), fun g _ => h.a (by omega), h.2.2⟩
theorem LQ.rm {B B' : gB} (h : LQ B B') : rmT (tw B') = rmT (tw B) := by
  funext g
  rw [rmT_e, rmT_e, h.og]
  by_cases e : B.2.1 217 g = 0
  · rw [if_pos e, if_pos e]
  · rw [if_neg e, if_neg e, h.2.2.2.1 g e]
theorem GI.lq {B B' : gB} (hw : MW B) (hg : GI B) (h : LQ B B') : GI B' := by
  have hm := mw_many hw
  have m' : (B'.1 198 17) = (B.1 198 17) := h.1 198 17 (by omega)
  have hrow : ∀ i : Nat, i < ((B.1 198 17)).toNat → (tw B').2 209 i = (tw B).2 209 i ∧ (tw B').2 210 i = (tw B).2 210 i ∧ (tw B').2 211 i = (tw B).2 211 i ∧ (tw B').2 212 i = (tw B).2 212 i ∧ (tw B').2 213 i = (tw B).2 213 i ∧ (tw B').2 214 i = (tw B).2 214 i := fun i hi =>
    ⟨h.2.2.1 209 i (by omega) (by omega) (by omega), h.2.2.1 210 i (by omega) (by omega) (by omega), h.2.2.1 211 i (by omega) (by omega) (by omega), h.2.2.1 212 i (by omega) (by omega) (by omega), h.2.2.1 213 i (by omega) (by omega) (by omega), h.2.2.1 214 i (by omega) (by omega) (by omega)⟩
  have re := fun n (hn : n ≤ ((B.1 198 17)).toNat) => re_c h.q n (fun i hi => hrow i (by omega))
  have rm := re ((B.1 198 17)).toNat (Nat.le_refl _)
  refine ⟨?_, ?_, ?_, fun i hi => ?_⟩
  · rw [m', rm.1, h.2.1 215 (by omega)]; exact hg.1
  · rw [m', rm.2.1, h.rm]; exact hg.2.1
  · rw [m', rm.2.2, h.og]; exact hg.2.2.1
  · rw [m'] at hi
    have hp := hg.2.2.2 i hi
    obtain ⟨e1, e2, e3, e4, e5, e6⟩ := hrow i (by omega)
    have ri := re i (by omega)
    have eP : pL (tw B') i = pL (tw B) i := by
      unfold pL
      rw [e2]
      exact qf (fun M => dl M ((tw B).2 210 i).toNat) (fun _ => rfl) h.q
    unfold PI at hp ⊢
    rw [eP, e1, e2, e3, e4, e5, e6, ri.1, ri.2.1]
    rw [qf (fun M => ins M (pL (tw B) i) ((tw B).2 213 i) ((tw B).2 214 i) ((tw B).2 211 i) ((tw B).2 212 i)) (fun _ => rfl) h.q, qf (fun M => meets M (reR (tw B) i) ((tw B).2 210 i).toNat (pL (tw B) i) ((tw B).2 213 i) ((tw B).2 214 i) ((tw B).2 211 i)) (fun _ => rfl) h.q]
    refine ⟨hp.1, hp.2.1, hp.2.2.1, ?_, fun j hj => ?_, hp.2.2.2.2.2⟩
    · have : (tw B').1 18 = (tw B).1 18 := h.1 198 18 (by omega)
      rw [this]
      exact hp.2.2.2.1
    · rw [(hrow j (by omega)).1]
      exact hp.2.2.2.2.1 j hj
theorem MI.lq {B B' : gB} (hi : MI B) (h : LQ B B') (hw : MW B') : MI B' := by
  refine ⟨hw, fun s hs => ?_, fun g hg => ?_⟩
  · rw [h.2.1 203 (by omega), qf (fun M => dl M s) (fun _ => rfl) h.q]
    exact hi.2.1 s hs
  · rw [h.og] at hg
    rw [h.2.2.2.1 g hg]
    exact hi.2.2 g hg
/-- the least length of all orders of Q; 61 if there's none -/
def NB (M : gM) (Q : List Int) (a : Int) : Prop := (0 ≤ a ∧ a ≤ 61) ∧ (∀ (p : List Int) τ, p.Perm Q → runL M (dl M) ts0 p = some τ → a ≤ tlen τ) ∧ (a = 61 ∨ ∃ (p : List Int) (τ : gT2), p.Perm Q ∧ runL M (dl M) ts0 p = some τ ∧ a = tlen τ)
theorem perm_map {α β : Type} (f : α → β) : ∀ (p : List β) (l : List α), p.Perm (l.map f) → ∃ u : List α, u.Perm l ∧ p = u.map f
  | [], l, h => by
    have := h.symm.eq_nil
    rw [List.map_eq_nil_iff] at this
    subst this
    exact ⟨[], List.Perm.refl _, rfl⟩
  | a :: p, l, h => by
    have ha : a ∈ l.map f := h.mem_iff.mp List.mem_cons_self
    obtain ⟨b, hb, rfl⟩ := List.mem_map.mp ha
    obtain ⟨l1, l2, rfl⟩ := List.append_of_mem hb
    have h2 : p.Perm ((l1 ++ l2).map f) := by
      rw [List.map_append, List.map_cons] at h
      have h3 := h.trans (List.perm_middle)
      rw [List.map_append]
      exact (List.perm_cons _).mp h3
    obtain ⟨u, h4, h5⟩ := perm_map f p (l1 ++ l2) h2
    refine ⟨b :: u, ?_, by rw [h5]; rfl⟩
    exact ((List.perm_cons b).mpr h4).trans List.perm_middle.symm
theorem QF.map {f : Nat → Int} {L : List Int} (h : QF f L) (hl : L.length ≤ 4) : (List.range L.length).map f = L := by
  refine List.ext_getElem? fun j => ?_
  rw [List.getElem?_map]
  by_cases e : j < L.length
  · rw [List.getElem?_range e, List.getElem?_eq_getElem e]
    refine congrArg some (h.1 j _ (List.getElem?_eq_getElem e) (by omega))
  · rw [List.getElem?_eq_none (l := List.range L.length) (by rw [List.length_range]; omega), List.getElem?_eq_none (l := L) (by omega)]
    rfl
noncomputable def k_nested (B : gB) (s a : Int) : Int := cif (¬ (0 ≤ s ∧ s ≤ (B.1 198 28) - 1)) 1 (cif (¬ (1 ≤ (qQ (tw B) s).length ∧ (qQ (tw B) s).length ≤ 4)) 2 (cif (60 < a) 3 0))
section
variable {K : gK} {d N : Nat} {G : gH} {B : gB}
theorem w_55 (hd : 15 ≤ d) (hi : MI B) (hg : GI B) (h999 : (B.1 198 18) ≤ 900) {s : Int} (h1 : R32 s) : ∃ B' a, LQ B B' ∧ MW B' ∧ ((0 ≤ s ∧ s ≤ (B.1 198 28) - 1) → (1 ≤ (qQ (tw B) s).length ∧ (qQ (tw B) s).length ≤ 4) → NB (tw B) (qQ (tw B) s) a) ∧ gCa K d 55 [.ref (N + 198), .int (I s)] (hH K N G B) = some (.inl (some (.int (I (cif (k_nested B s a = 0) a 0)))), hH K N G (sI B' 198 0 (k_nested B s a))) := by
  obtain ⟨d, rfl, hd'⟩ := d_succ (show 14 + 1 ≤ d by omega)
  have hw := hi.1
  have q1 := mw_styles hw
  have w2 := w_123 (K := K) (d := d) (N := N) (G := G) (by omega) hw h1
  by_cases e0 : 0 ≤ s ∧ s ≤ (B.1 198 28) - 1
  · rw [b2T e0] at w2
    obtain ⟨f, g1, g2⟩ := w_127 (K := K) (d := d) (N := N) (G := G) (by omega) hw (s := s) (by omega)
    have hqm : 0 ≤ qm (qQ (tw B) s).length ∧ qm (qQ (tw B) s).length ≤ 4 := by
      unfold qm
      split <;> omega
    have hwq : MW (qB B f (qQ (tw B) s).length) := mwst (ms_queued hw hqm) (fun j => g2.2 j)
    have hwt : MW (sI (qB B f (qQ (tw B) s).length) 198 0 0) := ms_thrown hwq (by omega)
    have hl : LQ B (sI (qB B f (qQ (tw B) s).length) 198 0 0) := LQ.qb.tr LQ.th
    by_cases e1 : 1 ≤ (qQ (tw B) s).length ∧ (qQ (tw B) s).length ≤ 4
    · rw [b2T e1] at g1
      obtain ⟨B', a, r1, r2, r3, r4, r5, r6⟩ := w_128 (K := K) (d := d) (N := N) (G := G) (by omega) hwt (hi.lq hl hwt) (GI.lq hw hg hl) (by
        rw [hl.1 198 18 (by omega)]; exact h999)
      have eqd : (sI (qB B f (qQ (tw B) s).length) 198 0 0).1 198 41 = (qQ (tw B) s).length := by
        rw [sI_ne (by omega)]
        show (sI B 198 41 (qm (qQ (tw B) s).length)).1 198 41 = _
        rw [sI_eq rfl]
        exact if_pos e1.2
      have eqf : (sI (qB B f (qQ (tw B) s).length) 198 0 0).2.1 222 = f := rfl
      rw [eqd, eqf, Int.toNat_natCast] at r5 r6
      simp only [run_q hl.q] at r5 r6
      have hnb : NB (tw B) (qQ (tw B) s) a := by
        refine ⟨r4, fun p τ hp hr => ?_, ?_⟩
        · rw [← g2.map e1.2] at hp
          obtain ⟨u, h3, rfl⟩ := perm_map f p _ hp
          exact r5 u τ h3 hr
        · rcases r6 with h | ⟨u, τ, h3, h4, h5⟩
          · exact Or.inl h
          · refine Or.inr ⟨u.map f, τ, ?_, h4, h5⟩
            have := h3.map f
            rw [g2.map e1.2] at this
            exact this
      refine ⟨B', a, hl.tr r2, r3, fun _ _ => hnb, c_55 _ ?_⟩
      unfold t_55_0
      by_cases e2 : 60 < a
      · have hk : k_nested B s a = 3 := by
          unfold k_nested
          rw [cifF (fun h => h e0), cifF (fun h => h e1), cifT e2]
        rw [hk]
        simp (disch := omega) only [rI_d, rJ_d, rR_d, rN_d, wF_d, xI_d, xJ_d, xD_d, xQ_d, yI_d, yJ_d, yD_d, yQ_d, dI_s, dJ_s, dR_s, dN_s, dN_n, dH_s, dX_s, dL_s, dD_s, dQ_s, bC_r, bC_t, kI_s, kJ_s, kF_s, kD_s, kR_s, kV_s, I_lit, I_neg, I_add, I_sub, I_mul, I_ltT, I_ltF, I_leT, I_leF, I_eqT, I_eqF, c_int, c_long, c_obj, c_arr, c_bool, c_boolN, c_boolF, vn_bool, c_charN, vn_char, b2_f, b2_t, Int.toNat_natCast, ↓reduceIte, eq_self, and_self, and_true, true_and, not_false_eq_true, not_true_eq_false, L_0_0, L_0_1, L_0_2, L_0_3, L_0_4, L_0_5, L_0_6, L_0_7, L_0_8, L_0_9, L_0_10, L_0_11, L_0_12, L_0_13, L_0_14, L_0_15, C_0, L_1_0, L_1_1, L_1_2, C_1, L_2_0, L_2_1, L_2_2, C_2, L_3_0, L_3_1, L_3_2, C_3, L_65_0, L_65_1, L_65_2, L_65_3, L_65_4, C_65, L_66_0, L_66_1, L_66_2, L_66_3, C_66, L_129_0, L_129_1, L_129_2, L_129_3, C_129, L_198_0, L_198_1, L_198_2, L_198_3, L_198_4, L_198_5, L_198_6, L_198_7, L_198_8, L_198_9, L_198_10, L_198_11, L_198_12, L_198_13, L_198_14, L_198_15, L_198_16, L_198_17, L_198_18, L_198_19, L_198_20, L_198_21, L_198_22, L_198_23, L_198_24, L_198_25, L_198_26, L_198_27, L_198_28, L_198_29, L_198_30, L_198_31, L_198_32, L_198_33, L_198_34, L_198_35, L_198_36, L_198_37, L_198_38, L_198_39, L_198_40, L_198_41, L_198_42, L_198_43, L_198_44, L_198_45, L_198_46, L_198_47, L_198_48, C_198, A_199, A_200, A_201, A_202, A_203, A_204, A_205, A_206, A_207, A_208, A_209, A_210, A_211, A_212, A_213, A_214, A_215, A_216, A_217, A_218, A_219, A_220, A_221, A_222, A_223, A_224, A_225, A_226, A_227, A_228, A_128, A_191, A_rf, A_rs, A_rt, Q_4, Q_67, Q_130, t_55_0_1, t_55_0_2, t_55_0_3, t_55_0_4, t_55_0_5, t_55_0_6, t_55_0_7, t_55_0_8, t_55_0_9, t_55_0_10, t_55_0_11, t_55_0_12, t_55_0_13, t_55_0_14, iltT, iltF, ileT, ileF, ieqT, ieqF, cif_T, cif_F, not_true_eq_false, not_false_eq_true, or_true, or_false, true_or, false_or, false_and, and_false, ne_eq, w2, g1, w_90, r1]
      · have hk : k_nested B s a = 0 := by
          unfold k_nested
          rw [cifF (fun h => h e0), cifF (fun h => h e1), cifF e2]
        rw [hk]
        simp (disch := omega) only [rI_d, rJ_d, rR_d, rN_d, wF_d, xI_d, xJ_d, xD_d, xQ_d, yI_d, yJ_d, yD_d, yQ_d, dI_s, dJ_s, dR_s, dN_s, dN_n, dH_s, dX_s, dL_s, dD_s, dQ_s, bC_r, bC_t, kI_s, kJ_s, kF_s, kD_s, kR_s, kV_s, I_lit, I_neg, I_add, I_sub, I_mul, I_ltT, I_ltF, I_leT, I_leF, I_eqT, I_eqF, c_int, c_long, c_obj, c_arr, c_bool, c_boolN, c_boolF, vn_bool, c_charN, vn_char, b2_f, b2_t, Int.toNat_natCast, ↓reduceIte, eq_self, and_self, and_true, true_and, not_false_eq_true, not_true_eq_false, L_0_0, L_0_1, L_0_2, L_0_3, L_0_4, L_0_5, L_0_6, L_0_7, L_0_8, L_0_9, L_0_10, L_0_11, L_0_12, L_0_13, L_0_14, L_0_15, C_0, L_1_0, L_1_1, L_1_2, C_1, L_2_0, L_2_1, L_2_2, C_2, L_3_0, L_3_1, L_3_2, C_3, L_65_0, L_65_1, L_65_2, L_65_3, L_65_4, C_65, L_66_0, L_66_1, L_66_2, L_66_3, C_66, L_129_0, L_129_1, L_129_2, L_129_3, C_129, L_198_0, L_198_1, L_198_2, L_198_3, L_198_4, L_198_5, L_198_6, L_198_7, L_198_8, L_198_9, L_198_10, L_198_11, L_198_12, L_198_13, L_198_14, L_198_15, L_198_16, L_198_17, L_198_18, L_198_19, L_198_20, L_198_21, L_198_22, L_198_23, L_198_24, L_198_25, L_198_26, L_198_27, L_198_28, L_198_29, L_198_30, L_198_31, L_198_32, L_198_33, L_198_34, L_198_35, L_198_36, L_198_37, L_198_38, L_198_39, L_198_40, L_198_41, L_198_42, L_198_43, L_198_44, L_198_45, L_198_46, L_198_47, L_198_48, C_198, A_199, A_200, A_201, A_202, A_203, A_204, A_205, A_206, A_207, A_208, A_209, A_210, A_211, A_212, A_213, A_214, A_215, A_216, A_217, A_218, A_219, A_220, A_221, A_222, A_223, A_224, A_225, A_226, A_227, A_228, A_128, A_191, A_rf, A_rs, A_rt, Q_4, Q_67, Q_130, t_55_0_1, t_55_0_2, t_55_0_3, t_55_0_4, t_55_0_5, t_55_0_6, t_55_0_7, t_55_0_8, t_55_0_9, t_55_0_10, t_55_0_11, t_55_0_12, t_55_0_13, t_55_0_14, iltT, iltF, ileT, ileF, ieqT, ieqF, cif_T, cif_F, not_true_eq_false, not_false_eq_true, or_true, or_false, true_or, false_or, false_and, and_false, ne_eq, w2, g1, w_90, r1]
    · rw [b2F e1] at g1
      have hk : k_nested B s 0 = 2 := by
        unfold k_nested
        rw [cifF (fun h => h e0), cifT e1]
      refine ⟨qB B f (qQ (tw B) s).length, 0, LQ.qb, hwq, fun _ h => absurd h e1, c_55 _ ?_⟩
      rw [hk]
      unfold t_55_0
      simp (disch := omega) only [rI_d, rJ_d, rR_d, rN_d, wF_d, xI_d, xJ_d, xD_d, xQ_d, yI_d, yJ_d, yD_d, yQ_d, dI_s, dJ_s, dR_s, dN_s, dN_n, dH_s, dX_s, dL_s, dD_s, dQ_s, bC_r, bC_t, kI_s, kJ_s, kF_s, kD_s, kR_s, kV_s, I_lit, I_neg, I_add, I_sub, I_mul, I_ltT, I_ltF, I_leT, I_leF, I_eqT, I_eqF, c_int, c_long, c_obj, c_arr, c_bool, c_boolN, c_boolF, vn_bool, c_charN, vn_char, b2_f, b2_t, Int.toNat_natCast, ↓reduceIte, eq_self, and_self, and_true, true_and, not_false_eq_true, not_true_eq_false, L_0_0, L_0_1, L_0_2, L_0_3, L_0_4, L_0_5, L_0_6, L_0_7, L_0_8, L_0_9, L_0_10, L_0_11, L_0_12, L_0_13, L_0_14, L_0_15, C_0, L_1_0, L_1_1, L_1_2, C_1, L_2_0, L_2_1, L_2_2, C_2, L_3_0, L_3_1, L_3_2, C_3, L_65_0, L_65_1, L_65_2, L_65_3, L_65_4, C_65, L_66_0, L_66_1, L_66_2, L_66_3, C_66, L_129_0, L_129_1, L_129_2, L_129_3, C_129, L_198_0, L_198_1, L_198_2, L_198_3, L_198_4, L_198_5, L_198_6, L_198_7, L_198_8, L_198_9, L_198_10, L_198_11, L_198_12, L_198_13, L_198_14, L_198_15, L_198_16, L_198_17, L_198_18, L_198_19, L_198_20, L_198_21, L_198_22, L_198_23, L_198_24, L_198_25, L_198_26, L_198_27, L_198_28, L_198_29, L_198_30, L_198_31, L_198_32, L_198_33, L_198_34, L_198_35, L_198_36, L_198_37, L_198_38, L_198_39, L_198_40, L_198_41, L_198_42, L_198_43, L_198_44, L_198_45, L_198_46, L_198_47, L_198_48, C_198, A_199, A_200, A_201, A_202, A_203, A_204, A_205, A_206, A_207, A_208, A_209, A_210, A_211, A_212, A_213, A_214, A_215, A_216, A_217, A_218, A_219, A_220, A_221, A_222, A_223, A_224, A_225, A_226, A_227, A_228, A_128, A_191, A_rf, A_rs, A_rt, Q_4, Q_67, Q_130, t_55_0_1, t_55_0_2, t_55_0_3, t_55_0_4, t_55_0_5, t_55_0_6, t_55_0_7, t_55_0_8, t_55_0_9, t_55_0_10, t_55_0_11, t_55_0_12, t_55_0_13, t_55_0_14, iltT, iltF, ileT, ileF, ieqT, ieqF, cif_T, cif_F, not_true_eq_false, not_false_eq_true, or_true, or_false, true_or, false_or, false_and, and_false, ne_eq, w2, g1, w_90]
  · rw [b2F e0] at w2
    have hk : k_nested B s 0 = 1 := by
      unfold k_nested
      rw [cifT e0]
    refine ⟨B, 0, LQ.rf, hw, fun h => absurd h e0, c_55 _ ?_⟩
    rw [hk]
    unfold t_55_0
    simp (disch := omega) only [rI_d, rJ_d, rR_d, rN_d, wF_d, xI_d, xJ_d, xD_d, xQ_d, yI_d, yJ_d, yD_d, yQ_d, dI_s, dJ_s, dR_s, dN_s, dN_n, dH_s, dX_s, dL_s, dD_s, dQ_s, bC_r, bC_t, kI_s, kJ_s, kF_s, kD_s, kR_s, kV_s, I_lit, I_neg, I_add, I_sub, I_mul, I_ltT, I_ltF, I_leT, I_leF, I_eqT, I_eqF, c_int, c_long, c_obj, c_arr, c_bool, c_boolN, c_boolF, vn_bool, c_charN, vn_char, b2_f, b2_t, Int.toNat_natCast, ↓reduceIte, eq_self, and_self, and_true, true_and, not_false_eq_true, not_true_eq_false, L_0_0, L_0_1, L_0_2, L_0_3, L_0_4, L_0_5, L_0_6, L_0_7, L_0_8, L_0_9, L_0_10, L_0_11, L_0_12, L_0_13, L_0_14, L_0_15, C_0, L_1_0, L_1_1, L_1_2, C_1, L_2_0, L_2_1, L_2_2, C_2, L_3_0, L_3_1, L_3_2, C_3, L_65_0, L_65_1, L_65_2, L_65_3, L_65_4, C_65, L_66_0, L_66_1, L_66_2, L_66_3, C_66, L_129_0, L_129_1, L_129_2, L_129_3, C_129, L_198_0, L_198_1, L_198_2, L_198_3, L_198_4, L_198_5, L_198_6, L_198_7, L_198_8, L_198_9, L_198_10, L_198_11, L_198_12, L_198_13, L_198_14, L_198_15, L_198_16, L_198_17, L_198_18, L_198_19, L_198_20, L_198_21, L_198_22, L_198_23, L_198_24, L_198_25, L_198_26, L_198_27, L_198_28, L_198_29, L_198_30, L_198_31, L_198_32, L_198_33, L_198_34, L_198_35, L_198_36, L_198_37, L_198_38, L_198_39, L_198_40, L_198_41, L_198_42, L_198_43, L_198_44, L_198_45, L_198_46, L_198_47, L_198_48, C_198, A_199, A_200, A_201, A_202, A_203, A_204, A_205, A_206, A_207, A_208, A_209, A_210, A_211, A_212, A_213, A_214, A_215, A_216, A_217, A_218, A_219, A_220, A_221, A_222, A_223, A_224, A_225, A_226, A_227, A_228, A_128, A_191, A_rf, A_rs, A_rt, Q_4, Q_67, Q_130, t_55_0_1, t_55_0_2, t_55_0_3, t_55_0_4, t_55_0_5, t_55_0_6, t_55_0_7, t_55_0_8, t_55_0_9, t_55_0_10, t_55_0_11, t_55_0_12, t_55_0_13, t_55_0_14, iltT, iltF, ileT, ileF, ieqT, ieqF, cif_T, cif_F, not_true_eq_false, not_false_eq_true, or_true, or_false, true_or, false_or, false_and, and_false, ne_eq, w2, w_90]
theorem w_57 (hd : 16 ≤ d) (hi : MI B) (hg : GI B) (h999 : (B.1 198 18) ≤ 900) {s : Int} (h1 : R32 s) : ∃ B' a, LQ B B' ∧ MW B' ∧ ((0 ≤ s ∧ s ≤ (B.1 198 28) - 1) → (1 ≤ (qQ (tw B) s).length ∧ (qQ (tw B) s).length ≤ 4) → NB (tw B) (qQ (tw B) s) a) ∧ gCa K d 57 [.ref (N + 198), .int (I s)] (hH K N G B) = some (.inl (some (.int (I (cif (k_nested B s a = 0) a 0)))), hH K N G (sI B' 198 0 (k_nested B s a))) := by
  obtain ⟨d, rfl, hd'⟩ := d_succ (show 15 + 1 ≤ d by omega)
  obtain ⟨B', a, r1, r2, r3, r4⟩ := w_55 (K := K) (d := d) (N := N) (G := G) (by omega) hi hg h999 h1
  refine ⟨B', a, r1, r2, r3, c_57 _ ?_⟩
  unfold t_57_0
  simp (disch := omega) only [rI_d, rJ_d, rR_d, rN_d, wF_d, xI_d, xJ_d, xD_d, xQ_d, yI_d, yJ_d, yD_d, yQ_d, dI_s, dJ_s, dR_s, dN_s, dN_n, dH_s, dX_s, dL_s, dD_s, dQ_s, bC_r, bC_t, kI_s, kJ_s, kF_s, kD_s, kR_s, kV_s, I_lit, I_neg, I_add, I_sub, I_mul, I_ltT, I_ltF, I_leT, I_leF, I_eqT, I_eqF, c_int, c_long, c_obj, c_arr, c_bool, c_boolN, c_boolF, vn_bool, c_charN, vn_char, b2_f, b2_t, Int.toNat_natCast, ↓reduceIte, eq_self, and_self, and_true, true_and, not_false_eq_true, not_true_eq_false, L_0_0, L_0_1, L_0_2, L_0_3, L_0_4, L_0_5, L_0_6, L_0_7, L_0_8, L_0_9, L_0_10, L_0_11, L_0_12, L_0_13, L_0_14, L_0_15, C_0, L_1_0, L_1_1, L_1_2, C_1, L_2_0, L_2_1, L_2_2, C_2, L_3_0, L_3_1, L_3_2, C_3, L_65_0, L_65_1, L_65_2, L_65_3, L_65_4, C_65, L_66_0, L_66_1, L_66_2, L_66_3, C_66, L_129_0, L_129_1, L_129_2, L_129_3, C_129, L_198_0, L_198_1, L_198_2, L_198_3, L_198_4, L_198_5, L_198_6, L_198_7, L_198_8, L_198_9, L_198_10, L_198_11, L_198_12, L_198_13, L_198_14, L_198_15, L_198_16, L_198_17, L_198_18, L_198_19, L_198_20, L_198_21, L_198_22, L_198_23, L_198_24, L_198_25, L_198_26, L_198_27, L_198_28, L_198_29, L_198_30, L_198_31, L_198_32, L_198_33, L_198_34, L_198_35, L_198_36, L_198_37, L_198_38, L_198_39, L_198_40, L_198_41, L_198_42, L_198_43, L_198_44, L_198_45, L_198_46, L_198_47, L_198_48, C_198, A_199, A_200, A_201, A_202, A_203, A_204, A_205, A_206, A_207, A_208, A_209, A_210, A_211, A_212, A_213, A_214, A_215, A_216, A_217, A_218, A_219, A_220, A_221, A_222, A_223, A_224, A_225, A_226, A_227, A_228, A_128, A_191, A_rf, A_rs, A_rt, Q_4, Q_67, Q_130, t_57_0_1, r4]
theorem used_b (hw : MW B) : 0 ≤ used (tw B) ∧ used (tw B) ≤ 1000 := by
  have := usedP_b hw ((B.1 198 17)).toNat
  have h2 := mw_many hw
  unfold used
  dsimp only [tw] at this ⊢
  omega
theorem w_79 (hd : 2 ≤ d) (hw : MW B) (hl : (B.1 198 17) ≠ 0 → 1 ≤ lng (B.2.1 215)) : gCa K d 79 [.ref (N + 198)] (hH K N G B) = some (.inl (some (.float (cif ((B.1 198 17) = 0) 0 (FP.fdiv (FP.i2f (I (used (tw B)))) (FP.i2f (I (lng (B.2.1 215) * cols (tw B)))))))), hH K N G (sI B 198 0 (cif ((B.1 198 17) = 0) 1 0))) := by
  obtain ⟨d, rfl, hd'⟩ := d_succ (show 1 + 1 ≤ d by omega)
  have q1 := mw_many hw
  refine c_79 _ ?_
  unfold t_79_0
  by_cases e : (B.1 198 17) = 0
  · rw [cifT e, cifT e]
    simp (disch := omega) only [rI_d, rJ_d, rR_d, rN_d, wF_d, xI_d, xJ_d, xD_d, xQ_d, yI_d, yJ_d, yD_d, yQ_d, dI_s, dJ_s, dR_s, dN_s, dN_n, dH_s, dX_s, dL_s, dD_s, dQ_s, bC_r, bC_t, kI_s, kJ_s, kF_s, kD_s, kR_s, kV_s, I_lit, I_neg, I_add, I_sub, I_mul, I_ltT, I_ltF, I_leT, I_leF, I_eqT, I_eqF, c_int, c_long, c_obj, c_arr, c_bool, c_boolN, c_boolF, vn_bool, c_charN, vn_char, b2_f, b2_t, Int.toNat_natCast, ↓reduceIte, eq_self, and_self, and_true, true_and, not_false_eq_true, not_true_eq_false, L_0_0, L_0_1, L_0_2, L_0_3, L_0_4, L_0_5, L_0_6, L_0_7, L_0_8, L_0_9, L_0_10, L_0_11, L_0_12, L_0_13, L_0_14, L_0_15, C_0, L_1_0, L_1_1, L_1_2, C_1, L_2_0, L_2_1, L_2_2, C_2, L_3_0, L_3_1, L_3_2, C_3, L_65_0, L_65_1, L_65_2, L_65_3, L_65_4, C_65, L_66_0, L_66_1, L_66_2, L_66_3, C_66, L_129_0, L_129_1, L_129_2, L_129_3, C_129, L_198_0, L_198_1, L_198_2, L_198_3, L_198_4, L_198_5, L_198_6, L_198_7, L_198_8, L_198_9, L_198_10, L_198_11, L_198_12, L_198_13, L_198_14, L_198_15, L_198_16, L_198_17, L_198_18, L_198_19, L_198_20, L_198_21, L_198_22, L_198_23, L_198_24, L_198_25, L_198_26, L_198_27, L_198_28, L_198_29, L_198_30, L_198_31, L_198_32, L_198_33, L_198_34, L_198_35, L_198_36, L_198_37, L_198_38, L_198_39, L_198_40, L_198_41, L_198_42, L_198_43, L_198_44, L_198_45, L_198_46, L_198_47, L_198_48, C_198, A_199, A_200, A_201, A_202, A_203, A_204, A_205, A_206, A_207, A_208, A_209, A_210, A_211, A_212, A_213, A_214, A_215, A_216, A_217, A_218, A_219, A_220, A_221, A_222, A_223, A_224, A_225, A_226, A_227, A_228, A_128, A_191, A_rf, A_rs, A_rt, Q_4, Q_67, Q_130, t_79_0_1, t_79_0_2, t_79_0_3, t_79_0_4, t_79_0_5, t_79_0_6, t_79_0_7, t_79_0_8, t_79_0_9, iltT, iltF, ileT, ileF, ieqT, ieqF, cif_T, cif_F, not_true_eq_false, not_false_eq_true, or_true, or_false, true_or, false_or, false_and, and_false, ne_eq, w_90]
  · rw [cifF e, cifF e]
    have hw0 : MW (sI B 198 0 0) := ms_thrown hw (by omega)
    have w1 := w_119 (K := K) (d := d) (N := N) (G := G) (by omega) hw0
    have w2 := w_109 (K := K) (d := d) (N := N) (G := G) (by omega) hw0
    have w3 := w_143 (K := K) (d := d) (N := N) (G := G) (by omega) hw0
    rw [show used (tw (sI B 198 0 0)) = used (tw B) from used_c rfl rfl rfl] at w1
    rw [show cols (tw (sI B 198 0 0)) = cols (tw B) from rfl] at w3
    rw [sI_21] at w2
    have h1 := used_b hw
    have h2 := lng_b (B.2.1 215)
    have h3 := cols_b hw
    have h4 := hl e
    have h5 : 1 ≤ lng (B.2.1 215) * cols (tw B) ∧ lng (B.2.1 215) * cols (tw B) ≤ 1000 := by
      constructor
      · have := Int.mul_le_mul h4 h3.1 (by decide) (by omega)
        omega
      · have := Int.mul_le_mul h2.2 h3.2 (by omega) (by decide)
        omega
    simp (disch := omega) only [rI_d, rJ_d, rR_d, rN_d, wF_d, xI_d, xJ_d, xD_d, xQ_d, yI_d, yJ_d, yD_d, yQ_d, dI_s, dJ_s, dR_s, dN_s, dN_n, dH_s, dX_s, dL_s, dD_s, dQ_s, bC_r, bC_t, kI_s, kJ_s, kF_s, kD_s, kR_s, kV_s, I_lit, I_neg, I_add, I_sub, I_mul, I_ltT, I_ltF, I_leT, I_leF, I_eqT, I_eqF, c_int, c_long, c_obj, c_arr, c_bool, c_boolN, c_boolF, vn_bool, c_charN, vn_char, b2_f, b2_t, Int.toNat_natCast, ↓reduceIte, eq_self, and_self, and_true, true_and, not_false_eq_true, not_true_eq_false, L_0_0, L_0_1, L_0_2, L_0_3, L_0_4, L_0_5, L_0_6, L_0_7, L_0_8, L_0_9, L_0_10, L_0_11, L_0_12, L_0_13, L_0_14, L_0_15, C_0, L_1_0, L_1_1, L_1_2, C_1, L_2_0, L_2_1, L_2_2, C_2, L_3_0, L_3_1, L_3_2, C_3, L_65_0, L_65_1, L_65_2, L_65_3, L_65_4, C_65, L_66_0, L_66_1, L_66_2, L_66_3, C_66, L_129_0, L_129_1, L_129_2, L_129_3, C_129, L_198_0, L_198_1, L_198_2, L_198_3, L_198_4, L_198_5, L_198_6, L_198_7, L_198_8, L_198_9, L_198_10, L_198_11, L_198_12, L_198_13, L_198_14, L_198_15, L_198_16, L_198_17, L_198_18, L_198_19, L_198_20, L_198_21, L_198_22, L_198_23, L_198_24, L_198_25, L_198_26, L_198_27, L_198_28, L_198_29, L_198_30, L_198_31, L_198_32, L_198_33, L_198_34, L_198_35, L_198_36, L_198_37, L_198_38, L_198_39, L_198_40, L_198_41, L_198_42, L_198_43, L_198_44, L_198_45, L_198_46, L_198_47, L_198_48, C_198, A_199, A_200, A_201, A_202, A_203, A_204, A_205, A_206, A_207, A_208, A_209, A_210, A_211, A_212, A_213, A_214, A_215, A_216, A_217, A_218, A_219, A_220, A_221, A_222, A_223, A_224, A_225, A_226, A_227, A_228, A_128, A_191, A_rf, A_rs, A_rt, Q_4, Q_67, Q_130, t_79_0_1, t_79_0_2, t_79_0_3, t_79_0_4, t_79_0_5, t_79_0_6, t_79_0_7, t_79_0_8, t_79_0_9, iltT, iltF, ileT, ileF, ieqT, ieqF, cif_T, cif_F, not_true_eq_false, not_false_eq_true, or_true, or_false, true_or, false_or, false_and, and_false, ne_eq, w_90, w1, w2, w3, fp_ok32]
theorem w_81 (hd : 2 ≤ d) (hw : MW B) : gCa K d 81 [.ref (N + 198)] (hH K N G B) = some (.inl (some (.double (cif ((B.1 198 17) = 0) 0 (FP.ddiv (FP.i2d (I (used (tw B)))) (FP.i2d (I ((B.1 198 17)))))))), hH K N G (sI B 198 0 (cif ((B.1 198 17) = 0) 1 0))) := by
  obtain ⟨d, rfl, hd'⟩ := d_succ (show 1 + 1 ≤ d by omega)
  have q1 := mw_many hw
  refine c_81 _ ?_
  unfold t_81_0
  by_cases e : (B.1 198 17) = 0
  · rw [cifT e, cifT e]
    simp (disch := omega) only [rI_d, rJ_d, rR_d, rN_d, wF_d, xI_d, xJ_d, xD_d, xQ_d, yI_d, yJ_d, yD_d, yQ_d, dI_s, dJ_s, dR_s, dN_s, dN_n, dH_s, dX_s, dL_s, dD_s, dQ_s, bC_r, bC_t, kI_s, kJ_s, kF_s, kD_s, kR_s, kV_s, I_lit, I_neg, I_add, I_sub, I_mul, I_ltT, I_ltF, I_leT, I_leF, I_eqT, I_eqF, c_int, c_long, c_obj, c_arr, c_bool, c_boolN, c_boolF, vn_bool, c_charN, vn_char, b2_f, b2_t, Int.toNat_natCast, ↓reduceIte, eq_self, and_self, and_true, true_and, not_false_eq_true, not_true_eq_false, L_0_0, L_0_1, L_0_2, L_0_3, L_0_4, L_0_5, L_0_6, L_0_7, L_0_8, L_0_9, L_0_10, L_0_11, L_0_12, L_0_13, L_0_14, L_0_15, C_0, L_1_0, L_1_1, L_1_2, C_1, L_2_0, L_2_1, L_2_2, C_2, L_3_0, L_3_1, L_3_2, C_3, L_65_0, L_65_1, L_65_2, L_65_3, L_65_4, C_65, L_66_0, L_66_1, L_66_2, L_66_3, C_66, L_129_0, L_129_1, L_129_2, L_129_3, C_129, L_198_0, L_198_1, L_198_2, L_198_3, L_198_4, L_198_5, L_198_6, L_198_7, L_198_8, L_198_9, L_198_10, L_198_11, L_198_12, L_198_13, L_198_14, L_198_15, L_198_16, L_198_17, L_198_18, L_198_19, L_198_20, L_198_21, L_198_22, L_198_23, L_198_24, L_198_25, L_198_26, L_198_27, L_198_28, L_198_29, L_198_30, L_198_31, L_198_32, L_198_33, L_198_34, L_198_35, L_198_36, L_198_37, L_198_38, L_198_39, L_198_40, L_198_41, L_198_42, L_198_43, L_198_44, L_198_45, L_198_46, L_198_47, L_198_48, C_198, A_199, A_200, A_201, A_202, A_203, A_204, A_205, A_206, A_207, A_208, A_209, A_210, A_211, A_212, A_213, A_214, A_215, A_216, A_217, A_218, A_219, A_220, A_221, A_222, A_223, A_224, A_225, A_226, A_227, A_228, A_128, A_191, A_rf, A_rs, A_rt, Q_4, Q_67, Q_130, t_81_0_1, t_81_0_2, t_81_0_3, t_81_0_4, t_81_0_5, t_81_0_6, t_81_0_7, iltT, iltF, ileT, ileF, ieqT, ieqF, cif_T, cif_F, not_true_eq_false, not_false_eq_true, or_true, or_false, true_or, false_or, false_and, and_false, ne_eq, w_90]
  · rw [cifF e, cifF e]
    have hw0 : MW (sI B 198 0 0) := ms_thrown hw (by omega)
    have w1 := w_119 (K := K) (d := d) (N := N) (G := G) (by omega) hw0
    rw [show used (tw (sI B 198 0 0)) = used (tw B) from used_c rfl rfl rfl] at w1
    have h1 := used_b hw
    have em : (sI B 198 0 0).1 198 17 = (B.1 198 17) := sI_ne (by omega)
    simp (disch := omega) only [rI_d, rJ_d, rR_d, rN_d, wF_d, xI_d, xJ_d, xD_d, xQ_d, yI_d, yJ_d, yD_d, yQ_d, dI_s, dJ_s, dR_s, dN_s, dN_n, dH_s, dX_s, dL_s, dD_s, dQ_s, bC_r, bC_t, kI_s, kJ_s, kF_s, kD_s, kR_s, kV_s, I_lit, I_neg, I_add, I_sub, I_mul, I_ltT, I_ltF, I_leT, I_leF, I_eqT, I_eqF, c_int, c_long, c_obj, c_arr, c_bool, c_boolN, c_boolF, vn_bool, c_charN, vn_char, b2_f, b2_t, Int.toNat_natCast, ↓reduceIte, eq_self, and_self, and_true, true_and, not_false_eq_true, not_true_eq_false, L_0_0, L_0_1, L_0_2, L_0_3, L_0_4, L_0_5, L_0_6, L_0_7, L_0_8, L_0_9, L_0_10, L_0_11, L_0_12, L_0_13, L_0_14, L_0_15, C_0, L_1_0, L_1_1, L_1_2, C_1, L_2_0, L_2_1, L_2_2, C_2, L_3_0, L_3_1, L_3_2, C_3, L_65_0, L_65_1, L_65_2, L_65_3, L_65_4, C_65, L_66_0, L_66_1, L_66_2, L_66_3, C_66, L_129_0, L_129_1, L_129_2, L_129_3, C_129, L_198_0, L_198_1, L_198_2, L_198_3, L_198_4, L_198_5, L_198_6, L_198_7, L_198_8, L_198_9, L_198_10, L_198_11, L_198_12, L_198_13, L_198_14, L_198_15, L_198_16, L_198_17, L_198_18, L_198_19, L_198_20, L_198_21, L_198_22, L_198_23, L_198_24, L_198_25, L_198_26, L_198_27, L_198_28, L_198_29, L_198_30, L_198_31, L_198_32, L_198_33, L_198_34, L_198_35, L_198_36, L_198_37, L_198_38, L_198_39, L_198_40, L_198_41, L_198_42, L_198_43, L_198_44, L_198_45, L_198_46, L_198_47, L_198_48, C_198, A_199, A_200, A_201, A_202, A_203, A_204, A_205, A_206, A_207, A_208, A_209, A_210, A_211, A_212, A_213, A_214, A_215, A_216, A_217, A_218, A_219, A_220, A_221, A_222, A_223, A_224, A_225, A_226, A_227, A_228, A_128, A_191, A_rf, A_rs, A_rt, Q_4, Q_67, Q_130, t_81_0_1, t_81_0_2, t_81_0_3, t_81_0_4, t_81_0_5, t_81_0_6, t_81_0_7, iltT, iltF, ileT, ileF, ieqT, ieqF, cif_T, cif_F, not_true_eq_false, not_false_eq_true, or_true, or_false, true_or, false_or, false_and, and_false, ne_eq, w_90, w1, em, fp_ok64]
end
