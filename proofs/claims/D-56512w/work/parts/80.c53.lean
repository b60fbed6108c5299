/-! PURE 92: make and pliesFor -/
set_option maxRecDepth 100000
section
variable {K : gK} {d N : Nat} {G G' : gH} {B B' B0 : gB} {M M' : gM} {ro : Nat → Nat} {sh st pc : List Nat} {cs : Nat → List Nat} {ps : Nat → List (Nat × Int)} {a i : Nat}
theorem tkM_nil {st' g : Int} : tkM M st' g [] = M := by
  refine Prod.ext rfl (funext fun o => ?_)
  show (if o = 208 then tkS M st' g [] else M.2 o) = M.2 o
  by_cases e : o = 208
  · rw [if_pos e, e]
    exact funext fun j => cifF (fun ⟨q, hq, _⟩ => by cases hq)
  · rw [if_neg e]
theorem w_192 (hd : 4 ≤ d) (h8 : sh.length ≤ 8) (hR : CR K N G B ro M sh st pc cs ps) (hi : st[i]? = some a) {g : Int} (hpr : ∀ s, 0 ≤ M.2 201 s ∧ M.2 201 s ≤ 1) :
    ∃ G' ro', gCa K d 192 [.ref a, .int (I g)] (hH K N G B) = some (.inl none, hH K N G' B) ∧ G'.2 = G.2 ∧ CR K N G' B ro' (tkM M (i : Int) g (ps i)) sh st pc cs ps := by
  obtain ⟨d, rfl, hd'⟩ := d_succ (show 3 + 1 ≤ d by omega)
  rw [← tkM_nil (M := M) (st' := (i : Int)) (g := g)] at hR
  obtain ⟨G', ro', h1, h2, h3⟩ := l_192 (d := d) (by omega) h8 hi hpr (ps i).length 0 G ro none (by omega) hR
  refine ⟨G', ro', c_192 _ ?_, h2, h3⟩
  unfold t_192_0
  simp only [I_lit, I_neg, I_add, I_sub, I_mul, I_ltT, I_ltF, I_leT, I_leF, I_eqT, I_eqF, c_int, c_long, c_obj, c_arr, c_bool, c_boolN, c_boolF, vn_bool, c_charN, vn_char, b2_f, b2_t]
  exact h1
theorem w_139 (hd : 7 ≤ d) (hw : MW B) (hR : CR K N G B ro (tw B) sh st pc cs ps) {s g : Int} (h1 : R32 s) (h2 : R32 g) : ∃ G', gCa K d 139 [.ref N, .int (I s), .int (I g)] (hH K N G B) =
    some (cif (k_make (tw B) s g = 0) (.inl (some (.int (I (B.2.1 219 s.toNat + g))))) (.inr (exC (k_make (tw B) s g))), hH K N G' B) ∧ AL G G' 1 6 ∧ (k_make (tw B) s g = 0 → RM K N G' B (tw (sA (stA (sI B 198 0 0) 208 (stM (tw B) s g ((B.1 198 7)))) 219 s.toNat (B.2.1 219 s.toNat + g)))) ∧ (k_make (tw B) s g ≠ 0 → RM K N G' B (tw B)) := by
  obtain ⟨d, rfl, hd'⟩ := d_succ (show 6 + 1 ≤ d by omega)
  have e3 : (B.1 198 28) = (st.length : Int) := hR.nn.2.1
  have e4 : (B.1 198 7) = (sh.length : Int) := hR.nn.1
  have h8 := h8_of hw hR
  have T0 := w_149T (K := K) (d := d) (H := hH K N G B) (by omega)
  have F0 := w_149F (K := K) (d := d) (H := hH K N G B) (by omega)
  have T1 := w_151T (K := K) (d := d) (H := hH K N G B) (by omega)
  have F1 := w_151F (K := K) (d := d) (H := hH K N G B) (by omega)
  have T2 := w_153T (K := K) (d := d) (H := hH K N G B) (by omega)
  have F2 := w_153F (K := K) (d := d) (H := hH K N G B) (by omega)
  have jk : RM K N (gjunk G 6) B (tw B) := ⟨_, _, _, _, _, _, hR.jk⟩
  have aj : AL G (gjunk G 6) 1 6 := AL.jk (by omega) (by omega)
  have w0 := w_148 (K := K) (d := d) (H := hH K N G B) (a := g) (b := 1) (c := 99) (by omega) h2 (by omega) (by omega)
  by_cases c0 : 0 ≤ s ∧ s ≤ (B.1 198 28) - 1
  · obtain ⟨a, ha⟩ := at_lt (show s.toNat < st.length by omega)
    have w := w_181 (d := d) (by omega) hR (by omega) c0.1 ha
    have hs : ((s.toNat : Nat) : Int) = s := by omega
    by_cases c1 : 1 ≤ g ∧ g ≤ 99
    · rw [b2T c1] at w0
      have hn := ps_nil hw hR ha
      rw [hs] at hn
      have hl := ps_len hR ha h8.1
      obtain ⟨p, mc, e', ca, h3, k1, k2, k3, -⟩ := hR.part ha
      have v1 := cl_of h3
      have g0 := gf_of h3 0
      have g1 := gf_of h3 1
      simp only [List.getElem?_cons_zero, List.getElem?_cons_succ] at g0 g1
      have cc := cl_of k1
      have em := w_150 (K := K) (d := d) (by omega) k1 (by omega)
      by_cases c2 : tk (tw B) s = 0
      · have hk : k_make (tw B) s g = 3 := by
          unfold k_make
          rw [cifF (fun h => h c0), cifF (fun h => h c1), cifT c2]
        have h0 := hn.mpr c2
        rw [h0] at k3
        rw [b2T (show ca.length = 0 from k3)] at em
        refine ⟨gjunk G 6, c_139 _ ?_, aj, fun h => absurd h (by rw [hk]; decide), fun _ => jk⟩
        rw [hk]
        unfold t_139_0
        simp (disch := omega) only [rI_d, rJ_d, rR_d, rN_d, wF_d, xI_d, xJ_d, xD_d, xQ_d, yI_d, yJ_d, yD_d, yQ_d, dI_s, dJ_s, dR_s, dN_s, dN_n, dH_s, dX_s, dL_s, dD_s, dQ_s, bC_r, bC_t, kI_s, kJ_s, kF_s, kD_s, kR_s, kV_s, I_lit, I_neg, I_add, I_sub, I_mul, I_ltT, I_ltF, I_leT, I_leF, I_eqT, I_eqF, c_int, c_long, c_obj, c_arr, c_bool, c_boolN, c_boolF, vn_bool, c_charN, vn_char, b2_f, b2_t, Int.toNat_natCast, ↓reduceIte, eq_self, and_self, and_true, true_and, not_false_eq_true, not_true_eq_false, L_0_0, L_0_1, L_0_2, L_0_3, L_0_4, L_0_5, L_0_6, L_0_7, L_0_8, L_0_9, L_0_10, L_0_11, L_0_12, L_0_13, L_0_14, L_0_15, C_0, L_1_0, L_1_1, L_1_2, C_1, L_2_0, L_2_1, L_2_2, C_2, L_3_0, L_3_1, L_3_2, C_3, L_65_0, L_65_1, L_65_2, L_65_3, L_65_4, C_65, L_66_0, L_66_1, L_66_2, L_66_3, C_66, L_129_0, L_129_1, L_129_2, L_129_3, C_129, L_198_0, L_198_1, L_198_2, L_198_3, L_198_4, L_198_5, L_198_6, L_198_7, L_198_8, L_198_9, L_198_10, L_198_11, L_198_12, L_198_13, L_198_14, L_198_15, L_198_16, L_198_17, L_198_18, L_198_19, L_198_20, L_198_21, L_198_22, L_198_23, L_198_24, L_198_25, L_198_26, L_198_27, L_198_28, L_198_29, L_198_30, L_198_31, L_198_32, L_198_33, L_198_34, L_198_35, L_198_36, L_198_37, L_198_38, L_198_39, L_198_40, L_198_41, L_198_42, L_198_43, L_198_44, L_198_45, L_198_46, L_198_47, L_198_48, C_198, A_199, A_200, A_201, A_202, A_203, A_204, A_205, A_206, A_207, A_208, A_209, A_210, A_211, A_212, A_213, A_214, A_215, A_216, A_217, A_218, A_219, A_220, A_221, A_222, A_223, A_224, A_225, A_226, A_227, A_228, A_128, A_191, A_rf, A_rs, A_rt, Q_4, Q_67, Q_130, t_139_0_1, t_139_0_2, t_139_0_3, t_139_0_4, t_139_0_5, t_139_0_6, t_139_0_7, t_139_0_8, t_139_0_9, t_139_0_10, t_139_0_11, t_139_0_12, t_139_0_13, t_139_0_14, t_139_0_15, t_139_0_16, t_139_0_17, t_139_0_18, t_139_0_19, iltT, iltF, ileT, ileF, ieqT, ieqF, cif_T, cif_F, not_true_eq_false, not_false_eq_true, or_true, or_false, true_or, false_or, false_and, and_false, ne_eq, w, w0, T0, v1, g0, cc, em, F2, gjunk_hH]
        rfl
      · have h0 : ps s.toNat ≠ [] := fun h => c2 (hn.mp h)
        have h0' := List.length_pos_iff.mpr h0
        rw [b2F (show ¬ ca.length = 0 by omega)] at em
        have w1 := w_191 (d := d) (by omega) hw hR ha (g := g) (p := 0) (by omega) (by omega)
        rw [hs] at w1
        by_cases c3 : mk (tw B) s 0 < g
        · have hk : k_make (tw B) s g = 4 := by
            unfold k_make
            rw [cifF (fun h => h c0), cifF (fun h => h c1), cifF c2, cifT c3]
          rw [b2F (by omega)] at w1
          refine ⟨gjunk G 6, c_139 _ ?_, aj, fun h => absurd h (by rw [hk]; decide), fun _ => jk⟩
          rw [hk]
          unfold t_139_0
          simp (disch := omega) only [rI_d, rJ_d, rR_d, rN_d, wF_d, xI_d, xJ_d, xD_d, xQ_d, yI_d, yJ_d, yD_d, yQ_d, dI_s, dJ_s, dR_s, dN_s, dN_n, dH_s, dX_s, dL_s, dD_s, dQ_s, bC_r, bC_t, kI_s, kJ_s, kF_s, kD_s, kR_s, kV_s, I_lit, I_neg, I_add, I_sub, I_mul, I_ltT, I_ltF, I_leT, I_leF, I_eqT, I_eqF, c_int, c_long, c_obj, c_arr, c_bool, c_boolN, c_boolF, vn_bool, c_charN, vn_char, b2_f, b2_t, Int.toNat_natCast, ↓reduceIte, eq_self, and_self, and_true, true_and, not_false_eq_true, not_true_eq_false, L_0_0, L_0_1, L_0_2, L_0_3, L_0_4, L_0_5, L_0_6, L_0_7, L_0_8, L_0_9, L_0_10, L_0_11, L_0_12, L_0_13, L_0_14, L_0_15, C_0, L_1_0, L_1_1, L_1_2, C_1, L_2_0, L_2_1, L_2_2, C_2, L_3_0, L_3_1, L_3_2, C_3, L_65_0, L_65_1, L_65_2, L_65_3, L_65_4, C_65, L_66_0, L_66_1, L_66_2, L_66_3, C_66, L_129_0, L_129_1, L_129_2, L_129_3, C_129, L_198_0, L_198_1, L_198_2, L_198_3, L_198_4, L_198_5, L_198_6, L_198_7, L_198_8, L_198_9, L_198_10, L_198_11, L_198_12, L_198_13, L_198_14, L_198_15, L_198_16, L_198_17, L_198_18, L_198_19, L_198_20, L_198_21, L_198_22, L_198_23, L_198_24, L_198_25, L_198_26, L_198_27, L_198_28, L_198_29, L_198_30, L_198_31, L_198_32, L_198_33, L_198_34, L_198_35, L_198_36, L_198_37, L_198_38, L_198_39, L_198_40, L_198_41, L_198_42, L_198_43, L_198_44, L_198_45, L_198_46, L_198_47, L_198_48, C_198, A_199, A_200, A_201, A_202, A_203, A_204, A_205, A_206, A_207, A_208, A_209, A_210, A_211, A_212, A_213, A_214, A_215, A_216, A_217, A_218, A_219, A_220, A_221, A_222, A_223, A_224, A_225, A_226, A_227, A_228, A_128, A_191, A_rf, A_rs, A_rt, Q_4, Q_67, Q_130, t_139_0_1, t_139_0_2, t_139_0_3, t_139_0_4, t_139_0_5, t_139_0_6, t_139_0_7, t_139_0_8, t_139_0_9, t_139_0_10, t_139_0_11, t_139_0_12, t_139_0_13, t_139_0_14, t_139_0_15, t_139_0_16, t_139_0_17, t_139_0_18, t_139_0_19, iltT, iltF, ileT, ileF, ieqT, ieqF, cif_T, cif_F, not_true_eq_false, not_false_eq_true, or_true, or_false, true_or, false_or, false_and, and_false, ne_eq, w, w0, T0, v1, g0, cc, em, T2, w1, F1, gjunk_hH]
          rfl
        · have hk : k_make (tw B) s g = 0 := by
            unfold k_make
            rw [cifF (fun h => h c0), cifF (fun h => h c1), cifF c2, cifF c3]
          rw [b2T (by omega)] at w1
          obtain ⟨G2, ro2, t1, t2, t3⟩ := w_192 (d := d) (by omega) h8.1 hR ha (g := g) (fun s => mw_paired hw s)
          have ht3 := t3.z
          have hC := ht3.1
          have bmd : B.2.1 219 s.toNat = (tkM (tw B) (s.toNat : Int) g (ps s.toNat)).2 219 s.toNat := rfl
          have aM : ∀ o j, (tw (sA (stA (sI B 198 0 0) 208 (stM (tw B) s g ((B.1 198 7)))) 219 s.toNat (B.2.1 219 s.toNat + g))).2 o j = if o = 219 ∧ j = s.toNat then B.2.1 219 s.toNat + g else (if o = 208 then stM (tw B) s g ((B.1 198 7)) else B.2.1 o) j := fun o j => rfl
          have aK : ∀ k, k ≠ 0 → (tw (sA (stA (sI B 198 0 0) 208 (stM (tw B) s g ((B.1 198 7)))) 219 s.toNat (B.2.1 219 s.toNat + g))).1 k = B.1 198 k := fun k hk => sI_ne (Or.inr hk)
          obtain ⟨l, q1, q2, q3⟩ := (ht3.sy ha).1.upd (hC.hb (B := B)) hC.e (M' := tw (sA (stA (sI B 198 0 0) 208 (stM (tw B) s g ((B.1 198 7)))) 219 s.toNat (B.2.1 219 s.toNat + g)))
          have all := tkS_all (hR.sy ha).2 hR.nn.1 h8.1 (g := g)
          rw [hs] at all
          obtain ⟨r1, r2⟩ := ht3.sty ha q2 q3 ((hR.sy ha).2.se (fun t ht => by rw [aM, if_neg (by omega)]; rfl) h8.1) aK (fun o h1 h2 => funext fun j => by
            rw [aM, if_neg (by omega)]
            show _ = (if o = 208 then tkS (tw B) (s.toNat : Int) g (ps s.toNat) else B.2.1 o) j
            rw [hs, all]) (fun j t hj ht => by rw [aM, if_neg (by omega)]; rfl) (fun j hj => by rw [aM, if_neg (by omega)]; rfl) h8.1
          have v1' := cl_of q1
          have g1' := gf_of q1 1
          have pf := pf_of (k := 1) (v := .int (I (B.2.1 219 s.toNat + g))) q1 (Nat.le_of_ble_eq_true rfl)
          simp only [List.getElem?_cons_zero, List.getElem?_cons_succ, List.set_cons_zero, List.set_cons_succ] at g1' pf
          have g1'' : g_gf (hH K N G2 B) a 8 1 = some (.int (I (B.2.1 219 s.toNat))) := g1'
          have hfin : gset (hH K N G2 B) a (.inr (8, [.ref l, .int (I (B.2.1 219 s.toNat + g))])) = hH K N (dn N (gset (hH K N G2 B) a (.inr (8, [.ref l, .int (I ((tw (sA (stA (sI B 198 0 0) 208 (stM (tw B) s g ((B.1 198 7)))) 219 s.toNat (B.2.1 219 s.toNat + g))).2 219 s.toNat))])))) B := by
            rw [← r1, aM, if_pos ⟨rfl, rfl⟩]
          rw [hfin] at pf
          have pt := (r2.part ha)
          obtain ⟨l2, mc2, e2, ca2, z1, -⟩ := pt
          have z2 := gf_of z1 1
          simp only [List.getElem?_cons_zero, List.getElem?_cons_succ] at z2
          have hdn : (dn N (gset (hH K N G2 B) a (.inr (8, [.ref l, .int (I ((tw (sA (stA (sI B 198 0 0) 208 (stM (tw B) s g ((B.1 198 7)))) 219 s.toNat (B.2.1 219 s.toNat + g))).2 219 s.toNat))])))).2 = G2.2 := rfl
          generalize dn N (gset (hH K N G2 B) a (.inr (8, [.ref l, .int (I ((tw (sA (stA (sI B 198 0 0) 208 (stM (tw B) s g ((B.1 198 7)))) 219 s.toNat (B.2.1 219 s.toNat + g))).2 219 s.toNat))]))) = G3 at *
          rw [sA_eq rfl] at z2
          have bm := mw_made hw s.toNat
          refine ⟨G3, c_139 _ ?_, ?_, fun _ => ⟨_, _, _, _, _, _, r2⟩, fun h => absurd hk h⟩
          · rw [hk]
            unfold t_139_0
            simp (disch := omega) only [rI_d, rJ_d, rR_d, rN_d, wF_d, xI_d, xJ_d, xD_d, xQ_d, yI_d, yJ_d, yD_d, yQ_d, dI_s, dJ_s, dR_s, dN_s, dN_n, dH_s, dX_s, dL_s, dD_s, dQ_s, bC_r, bC_t, kI_s, kJ_s, kF_s, kD_s, kR_s, kV_s, I_lit, I_neg, I_add, I_sub, I_mul, I_ltT, I_ltF, I_leT, I_leF, I_eqT, I_eqF, c_int, c_long, c_obj, c_arr, c_bool, c_boolN, c_boolF, vn_bool, c_charN, vn_char, b2_f, b2_t, Int.toNat_natCast, ↓reduceIte, eq_self, and_self, and_true, true_and, not_false_eq_true, not_true_eq_false, L_0_0, L_0_1, L_0_2, L_0_3, L_0_4, L_0_5, L_0_6, L_0_7, L_0_8, L_0_9, L_0_10, L_0_11, L_0_12, L_0_13, L_0_14, L_0_15, C_0, L_1_0, L_1_1, L_1_2, C_1, L_2_0, L_2_1, L_2_2, C_2, L_3_0, L_3_1, L_3_2, C_3, L_65_0, L_65_1, L_65_2, L_65_3, L_65_4, C_65, L_66_0, L_66_1, L_66_2, L_66_3, C_66, L_129_0, L_129_1, L_129_2, L_129_3, C_129, L_198_0, L_198_1, L_198_2, L_198_3, L_198_4, L_198_5, L_198_6, L_198_7, L_198_8, L_198_9, L_198_10, L_198_11, L_198_12, L_198_13, L_198_14, L_198_15, L_198_16, L_198_17, L_198_18, L_198_19, L_198_20, L_198_21, L_198_22, L_198_23, L_198_24, L_198_25, L_198_26, L_198_27, L_198_28, L_198_29, L_198_30, L_198_31, L_198_32, L_198_33, L_198_34, L_198_35, L_198_36, L_198_37, L_198_38, L_198_39, L_198_40, L_198_41, L_198_42, L_198_43, L_198_44, L_198_45, L_198_46, L_198_47, L_198_48, C_198, A_199, A_200, A_201, A_202, A_203, A_204, A_205, A_206, A_207, A_208, A_209, A_210, A_211, A_212, A_213, A_214, A_215, A_216, A_217, A_218, A_219, A_220, A_221, A_222, A_223, A_224, A_225, A_226, A_227, A_228, A_128, A_191, A_rf, A_rs, A_rt, Q_4, Q_67, Q_130, t_139_0_1, t_139_0_2, t_139_0_3, t_139_0_4, t_139_0_5, t_139_0_6, t_139_0_7, t_139_0_8, t_139_0_9, t_139_0_10, t_139_0_11, t_139_0_12, t_139_0_13, t_139_0_14, t_139_0_15, t_139_0_16, t_139_0_17, t_139_0_18, t_139_0_19, iltT, iltF, ileT, ileF, ieqT, ieqF, cif_T, cif_F, not_true_eq_false, not_false_eq_true, or_true, or_false, true_or, false_or, false_and, and_false, ne_eq, w, w0, T0, v1, g0, cc, em, T2, w1, T1, t1, v1', g1'', pf, z2]
          · unfold AL
            rw [hdn, t2]
            omega
    · rw [b2F c1] at w0
      have hk : k_make (tw B) s g = 2 := by
        unfold k_make
        rw [cifF (fun h => h c0), cifT c1]
      refine ⟨gjunk G 6, c_139 _ ?_, aj, fun h => absurd h (by rw [hk]; decide), fun _ => jk⟩
      rw [hk]
      unfold t_139_0
      simp (disch := omega) only [rI_d, rJ_d, rR_d, rN_d, wF_d, xI_d, xJ_d, xD_d, xQ_d, yI_d, yJ_d, yD_d, yQ_d, dI_s, dJ_s, dR_s, dN_s, dN_n, dH_s, dX_s, dL_s, dD_s, dQ_s, bC_r, bC_t, kI_s, kJ_s, kF_s, kD_s, kR_s, kV_s, I_lit, I_neg, I_add, I_sub, I_mul, I_ltT, I_ltF, I_leT, I_leF, I_eqT, I_eqF, c_int, c_long, c_obj, c_arr, c_bool, c_boolN, c_boolF, vn_bool, c_charN, vn_char, b2_f, b2_t, Int.toNat_natCast, ↓reduceIte, eq_self, and_self, and_true, true_and, not_false_eq_true, not_true_eq_false, L_0_0, L_0_1, L_0_2, L_0_3, L_0_4, L_0_5, L_0_6, L_0_7, L_0_8, L_0_9, L_0_10, L_0_11, L_0_12, L_0_13, L_0_14, L_0_15, C_0, L_1_0, L_1_1, L_1_2, C_1, L_2_0, L_2_1, L_2_2, C_2, L_3_0, L_3_1, L_3_2, C_3, L_65_0, L_65_1, L_65_2, L_65_3, L_65_4, C_65, L_66_0, L_66_1, L_66_2, L_66_3, C_66, L_129_0, L_129_1, L_129_2, L_129_3, C_129, L_198_0, L_198_1, L_198_2, L_198_3, L_198_4, L_198_5, L_198_6, L_198_7, L_198_8, L_198_9, L_198_10, L_198_11, L_198_12, L_198_13, L_198_14, L_198_15, L_198_16, L_198_17, L_198_18, L_198_19, L_198_20, L_198_21, L_198_22, L_198_23, L_198_24, L_198_25, L_198_26, L_198_27, L_198_28, L_198_29, L_198_30, L_198_31, L_198_32, L_198_33, L_198_34, L_198_35, L_198_36, L_198_37, L_198_38, L_198_39, L_198_40, L_198_41, L_198_42, L_198_43, L_198_44, L_198_45, L_198_46, L_198_47, L_198_48, C_198, A_199, A_200, A_201, A_202, A_203, A_204, A_205, A_206, A_207, A_208, A_209, A_210, A_211, A_212, A_213, A_214, A_215, A_216, A_217, A_218, A_219, A_220, A_221, A_222, A_223, A_224, A_225, A_226, A_227, A_228, A_128, A_191, A_rf, A_rs, A_rt, Q_4, Q_67, Q_130, t_139_0_1, t_139_0_2, t_139_0_3, t_139_0_4, t_139_0_5, t_139_0_6, t_139_0_7, t_139_0_8, t_139_0_9, t_139_0_10, t_139_0_11, t_139_0_12, t_139_0_13, t_139_0_14, t_139_0_15, t_139_0_16, t_139_0_17, t_139_0_18, t_139_0_19, iltT, iltF, ileT, ileF, ieqT, ieqF, cif_T, cif_F, not_true_eq_false, not_false_eq_true, or_true, or_false, true_or, false_or, false_and, and_false, ne_eq, w, w0, F0, gjunk_hH]
      rfl
  · have hk : k_make (tw B) s g = 1 := by
      unfold k_make
      rw [cifT c0]
    have w := w_181F (d := d) (by omega) hR (by omega) h1 (by omega)
    refine ⟨gjunk G 6, c_139 _ ?_, aj, fun h => absurd h (by rw [hk]; decide), fun _ => jk⟩
    rw [hk]
    unfold t_139_0
    simp (disch := omega) only [rI_d, rJ_d, rR_d, rN_d, wF_d, xI_d, xJ_d, xD_d, xQ_d, yI_d, yJ_d, yD_d, yQ_d, dI_s, dJ_s, dR_s, dN_s, dN_n, dH_s, dX_s, dL_s, dD_s, dQ_s, bC_r, bC_t, kI_s, kJ_s, kF_s, kD_s, kR_s, kV_s, I_lit, I_neg, I_add, I_sub, I_mul, I_ltT, I_ltF, I_leT, I_leF, I_eqT, I_eqF, c_int, c_long, c_obj, c_arr, c_bool, c_boolN, c_boolF, vn_bool, c_charN, vn_char, b2_f, b2_t, Int.toNat_natCast, ↓reduceIte, eq_self, and_self, and_true, true_and, not_false_eq_true, not_true_eq_false, L_0_0, L_0_1, L_0_2, L_0_3, L_0_4, L_0_5, L_0_6, L_0_7, L_0_8, L_0_9, L_0_10, L_0_11, L_0_12, L_0_13, L_0_14, L_0_15, C_0, L_1_0, L_1_1, L_1_2, C_1, L_2_0, L_2_1, L_2_2, C_2, L_3_0, L_3_1, L_3_2, C_3, L_65_0, L_65_1, L_65_2, L_65_3, L_65_4, C_65, L_66_0, L_66_1, L_66_2, L_66_3, C_66, L_129_0, L_129_1, L_129_2, L_129_3, C_129, L_198_0, L_198_1, L_198_2, L_198_3, L_198_4, L_198_5, L_198_6, L_198_7, L_198_8, L_198_9, L_198_10, L_198_11, L_198_12, L_198_13, L_198_14, L_198_15, L_198_16, L_198_17, L_198_18, L_198_19, L_198_20, L_198_21, L_198_22, L_198_23, L_198_24, L_198_25, L_198_26, L_198_27, L_198_28, L_198_29, L_198_30, L_198_31, L_198_32, L_198_33, L_198_34, L_198_35, L_198_36, L_198_37, L_198_38, L_198_39, L_198_40, L_198_41, L_198_42, L_198_43, L_198_44, L_198_45, L_198_46, L_198_47, L_198_48, C_198, A_199, A_200, A_201, A_202, A_203, A_204, A_205, A_206, A_207, A_208, A_209, A_210, A_211, A_212, A_213, A_214, A_215, A_216, A_217, A_218, A_219, A_220, A_221, A_222, A_223, A_224, A_225, A_226, A_227, A_228, A_128, A_191, A_rf, A_rs, A_rt, Q_4, Q_67, Q_130, t_139_0_1, t_139_0_2, t_139_0_3, t_139_0_4, t_139_0_5, t_139_0_6, t_139_0_7, t_139_0_8, t_139_0_9, t_139_0_10, t_139_0_11, t_139_0_12, t_139_0_13, t_139_0_14, t_139_0_15, t_139_0_16, t_139_0_17, t_139_0_18, t_139_0_19, iltT, iltF, ileT, ileF, ieqT, ieqF, cif_T, cif_F, not_true_eq_false, not_false_eq_true, or_true, or_false, true_or, false_or, false_and, and_false, ne_eq, w]
    rfl
end
