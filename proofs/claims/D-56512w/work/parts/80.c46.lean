/-! PURE 85: addPart in the room -/
set_option maxRecDepth 100000
section
theorem PSW.add {M M' : gM} {p : List (Nat × Int)} {i n s : Nat} {c : Int} (h : PSW p M i n) (hs : s < n) (h0 : M.2 218 (8 * i + s) = 0) (hc : 0 < c) (hM : ∀ t, t < 8 → M'.2 218 (8 * i + t) = if t = s then c else M.2 218 (8 * i + t)) (hn : n ≤ 8) : PSW (p ++ [(s, c)]) M' i n := by
  obtain ⟨h1, h2, h3⟩ := h
  have hne : ∀ q ∈ p, q.1 ≠ s := fun q hq e => by
    obtain ⟨k1, k2, k3⟩ := h2 q hq
    rw [e] at k2; omega
  refine ⟨?_, fun q hq => ?_, fun t ht h0' => ?_⟩
  · rw [List.map_append, List.nodup_append]
    refine ⟨h1, List.pairwise_singleton _ _, fun x hx y hy e => ?_⟩
    obtain ⟨q, hq, rfl⟩ := List.mem_map.mp hx
    have hy' : y = s := List.mem_singleton.mp hy
    exact hne q hq (e.trans hy')
  · rcases List.mem_append.mp hq with hq | hq
    · obtain ⟨k1, k2, k3⟩ := h2 q hq
      exact ⟨k1, by rw [hM q.1 (by omega), if_neg (hne q hq)]; exact k2, k3⟩
    · obtain rfl := List.mem_singleton.mp hq
      exact ⟨hs, by rw [hM s (by omega), if_pos rfl], hc⟩
  · rw [hM t ht] at h0' ⊢
    by_cases e : t = s
    · rw [if_pos e, e]; exact List.mem_append_right _ (List.mem_singleton.mpr rfl)
    · rw [if_neg e] at h0' ⊢; exact List.mem_append_left _ (h3 t ht h0')
variable {K : gK} {d N : Nat} {G G' : gH} {B B' : gB} {M : gM} {ro : Nat → Nat} {sh st pc : List Nat} {cs : Nat → List Nat} {ps : Nat → List (Nat × Int)} {H' : gH} {m sl : Nat}
/-- the room when one style changed -/
theorem CR.sty {i a : Nat} {p : List (Nat × Int)} {M' : gM} (h : CR K N G B (roZ N ro) M sh st pc cs ps) (ha : st[i]? = some a) (hf : FR (WO (hH K N G B) (roZ N ro) (20 + i)) m sl (hH K N G B) H') (hS : STP K (PD N) H' (roN (hH K N G B) (roZ N ro) (20 + i)) a i M' p sh) (hp : PSW p M' i sh.length) (hM1 : ∀ k, k ≠ 0 → M'.1 k = M.1 k) (hM2 : ∀ o, 199 ≤ o → (o < 218 ∨ 219 < o) → M'.2 o = M.2 o) (hct : ∀ j s, j ≠ i → s < 8 → M'.2 218 (8 * j + s) = M.2 218 (8 * j + s)) (hmd : ∀ j, j ≠ i → M'.2 219 j = M.2 219 j) (h8 : sh.length ≤ 8) :
    H' = hH K N (dn N H') B ∧ CR K N (dn N H') B (roN (hH K N G B) (roZ N ro) (20 + i)) M' sh st pc cs (fun j => if j = i then p else ps j) := by
  obtain ⟨r1, r2, f1, f2, f3, f4⟩ := h.own (CR.zo h.1 (by omega)) hf
  obtain ⟨q1, q2, q3, q4, q5, q6, q7, q8, q9, q10⟩ := h
  refine ⟨r1, r2, ?_, ?_, f4 1 sh (by omega) q4, f4 2 st (by omega) q5, f4 3 pc (by omega) q6, ?_, fun j x hj => ?_, fun j x hj => ?_, fun j x hj => ?_⟩
  · unfold CS at q2 ⊢
    rw [hM1 1 (by decide), hM1 2 (by decide), hM1 3 (by decide), hM1 4 (by decide), hM1 5 (by decide), hM1 18 (by decide), hM1 31 (by decide), hM1 32 (by decide), hM2 199 (by decide) (by omega)]
    exact q2
  · have e : rmT M' = rmT M := by
      unfold rmT
      rw [hM2 217 (by decide) (by omega), hM2 216 (by decide) (by omega)]
    rw [hM2 215 (by decide) (by omega), e]
    exact q3
  · rw [hM1 7 (by decide), hM1 28 (by decide), hM1 17 (by decide)]; exact q7
  · rw [← r1, dl_e (hM2 202 (by decide) (by omega))]
    exact ⟨(f1 j x hj (by have := (List.getElem?_eq_some_iff.mp hj).1; omega)).se (SE.of (fun o h1 h2 => hM2 o (by omega) (by omega))), (q8 j x hj).2⟩
  · rw [← r1]
    dsimp only
    by_cases e : j = i
    · subst e
      rw [if_pos rfl]
      cases hj.symm.trans ha
      exact ⟨hS, hp⟩
    · rw [if_neg e]
      exact ⟨(f2 j x hj (by omega)).se (hmd j e), (q9 j x hj).2.se (fun s hs => hct j s e hs) h8⟩
  · rw [← r1]
    exact (f3 j x hj).se (PE.of (fun o h1 h2 => hM2 o (by omega) (by omega)))
theorem w_122 (hd : 10 ≤ d) (hw : MW B) (hR : CR K N G B ro (tw B) sh st pc cs ps) {i s c : Int} (h1 : R32 i) (h2 : R32 s) (h3 : R32 c) : ∃ G', gCa K d 122 [.ref N, .int (I i), .int (I s), .int (I c)] (hH K N G B) =
    some (cif (k_addPart (tw B) i s c = 0) (.inl (some (.int (I (tk (tw (sA (sI B 198 0 0) 218 (8 * i + s).toNat c)) i))))) (.inr (exC (k_addPart (tw B) i s c))), hH K N G' B) ∧ AL G G' 2 202 ∧
    (k_addPart (tw B) i s c = 0 → RM K N G' B (tw (sA (sI B 198 0 0) 218 (8 * i + s).toNat c))) ∧ (k_addPart (tw B) i s c ≠ 0 → RM K N G' B (tw B)) := by
  obtain ⟨d, rfl, hd'⟩ := d_succ (show 9 + 1 ≤ d by omega)
  have h8 := h8_of hw hR
  have e3 : (B.1 198 7) = (sh.length : Int) := hR.nn.1
  have e4 : (B.1 198 28) = (st.length : Int) := hR.nn.2.1
  have hR := hR.z
  generalize hro : roZ N ro = roz at hR
  have T0 := w_149T (K := K) (d := d) (H := hH K N G B) (by omega)
  have F0 := w_149F (K := K) (d := d) (H := hH K N G B) (by omega)
  have T2 := w_153T (K := K) (d := d) (H := hH K N G B) (by omega)
  have F2 := w_153F (K := K) (d := d) (H := hH K N G B) (by omega)
  have jk : RM K N (gjunk G 6) B (tw B) := ⟨_, _, _, _, _, _, hR.jk⟩
  have aj : AL G (gjunk G 6) 2 202 := AL.jk (by omega) (by omega)
  by_cases c1 : 0 ≤ i ∧ i ≤ (B.1 198 28) - 1
  · obtain ⟨a, ha⟩ := at_lt (show i.toNat < st.length by omega)
    have w := w_181 (d := d) (by omega) hR (by omega) c1.1 ha
    by_cases c2 : 0 ≤ s ∧ s ≤ (B.1 198 7) - 1
    · obtain ⟨b, hb⟩ := at_lt (show s.toNat < sh.length by omega)
      have w0 := w_157 (d := d) (by omega) hR (by omega) c2.1 hb
      have w1 := w_148 (K := K) (d := d) (H := hH K N G B) (a := c) (b := 1) (c := 4) (by omega) h3 (by omega) (by omega)
      obtain ⟨p0, mc0, e0, ca0, hs1, -⟩ := hR.part ha
      have cl8 := cl_of hs1
      have g1 := gf_of hs1 1
      simp only [List.getElem?_cons_succ, List.getElem?_cons_zero] at g1
      have bm := mw_made hw i.toNat
      have bc := mw_count hw (8 * i + s).toNat
      have ei : (8 * i + s).toNat = 8 * i.toNat + s.toNat := by omega
      by_cases c3 : 1 ≤ c ∧ c ≤ 4
      · rw [b2T c3] at w1
        have w2 := w_182 (d := d) (by omega) hw hR ha hb
        rw [← ei] at w2
        by_cases c4 : 0 < B.2.1 218 (8 * i + s).toNat
        · rw [b2T c4] at w2
          have hk : k_addPart (tw B) i s c = 3 := by
            unfold k_addPart
            rw [cifF (fun h => h ⟨c1, c2⟩), cifF (fun h => h c3), cifT (Or.inl c4)]
          refine ⟨gjunk G 6, c_122 _ ?_, aj, fun h => absurd h (by rw [hk]; decide), fun _ => jk⟩
          rw [hk]
          unfold t_122_0
          simp (disch := omega) only [rI_d, rJ_d, rR_d, rN_d, wF_d, xI_d, xJ_d, xD_d, xQ_d, yI_d, yJ_d, yD_d, yQ_d, dI_s, dJ_s, dR_s, dN_s, dN_n, dH_s, dX_s, dL_s, dD_s, dQ_s, bC_r, bC_t, kI_s, kJ_s, kF_s, kD_s, kR_s, kV_s, I_lit, I_neg, I_add, I_sub, I_mul, I_ltT, I_ltF, I_leT, I_leF, I_eqT, I_eqF, c_int, c_long, c_obj, c_arr, c_bool, c_boolN, c_boolF, vn_bool, c_charN, vn_char, b2_f, b2_t, Int.toNat_natCast, ↓reduceIte, eq_self, and_self, and_true, true_and, not_false_eq_true, not_true_eq_false, L_0_0, L_0_1, L_0_2, L_0_3, L_0_4, L_0_5, L_0_6, L_0_7, L_0_8, L_0_9, L_0_10, L_0_11, L_0_12, L_0_13, L_0_14, L_0_15, C_0, L_1_0, L_1_1, L_1_2, C_1, L_2_0, L_2_1, L_2_2, C_2, L_3_0, L_3_1, L_3_2, C_3, L_65_0, L_65_1, L_65_2, L_65_3, L_65_4, C_65, L_66_0, L_66_1, L_66_2, L_66_3, C_66, L_129_0, L_129_1, L_129_2, L_129_3, C_129, L_198_0, L_198_1, L_198_2, L_198_3, L_198_4, L_198_5, L_198_6, L_198_7, L_198_8, L_198_9, L_198_10, L_198_11, L_198_12, L_198_13, L_198_14, L_198_15, L_198_16, L_198_17, L_198_18, L_198_19, L_198_20, L_198_21, L_198_22, L_198_23, L_198_24, L_198_25, L_198_26, L_198_27, L_198_28, L_198_29, L_198_30, L_198_31, L_198_32, L_198_33, L_198_34, L_198_35, L_198_36, L_198_37, L_198_38, L_198_39, L_198_40, L_198_41, L_198_42, L_198_43, L_198_44, L_198_45, L_198_46, L_198_47, L_198_48, C_198, A_199, A_200, A_201, A_202, A_203, A_204, A_205, A_206, A_207, A_208, A_209, A_210, A_211, A_212, A_213, A_214, A_215, A_216, A_217, A_218, A_219, A_220, A_221, A_222, A_223, A_224, A_225, A_226, A_227, A_228, A_128, A_191, A_rf, A_rs, A_rt, Q_4, Q_67, Q_130, t_122_0_1, t_122_0_2, t_122_0_3, t_122_0_4, t_122_0_5, t_122_0_6, t_122_0_7, t_122_0_8, t_122_0_9, t_122_0_10, t_122_0_11, t_122_0_12, t_122_0_13, t_122_0_14, t_122_0_15, t_122_0_16, t_122_0_17, t_122_0_18, t_122_0_19, t_122_0_20, t_122_0_21, iltT, iltF, ileT, ileF, ieqT, ieqF, cif_T, cif_F, not_true_eq_false, not_false_eq_true, or_true, or_false, true_or, false_or, false_and, and_false, ne_eq, w, w0, w1, T0, cl8, w2, F2, gjunk_hH]
          rfl
        · rw [b2F c4] at w2
          by_cases c5 : B.2.1 219 i.toNat = 0
          · have hk : k_addPart (tw B) i s c = 0 := by
              unfold k_addPart
              rw [cifF (fun h => h ⟨c1, c2⟩), cifF (fun h => h c3), cifF (by rintro (h | h); exact c4 h; exact absurd h (by rw [show (tw B).2 219 i.toNat = 0 from c5]; decide))]
            have hC := hR.1
            have hN := hC.2.2.1
            have hk3 := hC.2.2.2.1 3 (by omega)
            have hS := hR.sy ha
            have hl8 := ps_len hR ha h8.1
            obtain ⟨l, H2, v1, v2, v3, v9, v10⟩ := growP (K := K) (d := d) (by omega) (hC.hb (B := B)) (show K.2 3 < G.2.1 by omega) hC.e hS.1 hl8 (c := c) hb
            have wc := mkPart (K := K) (d := d) (H := hH K N G B) (b := b) (c := c) (by omega)
            have aM : ∀ o j, (tw (sA (sI B 198 0 0) 218 (8 * i + s).toNat c)).2 o j = if o = 218 ∧ j = (8 * i + s).toNat then c else B.2.1 o j := fun o j => rfl
            have aK : ∀ k, k ≠ 0 → (tw (sA (sI B 198 0 0) 218 (8 * i + s).toNat c)).1 k = B.1 198 k := fun k hk => sI_ne (Or.inr hk)
            have hwM : MW (sA (sI B 198 0 0) 218 (8 * i + s).toNat c) := ms_count (ms_thrown hw (by omega)) (by omega)
            subst hro
            obtain ⟨r1, r2⟩ := hR.sty (M' := tw (sA (sI B 198 0 0) 218 (8 * i + s).toNat c)) ha v9 (v10.se (aM _ _ ▸ rfl)) (hS.2.add (s := s.toNat) (c := c) (by omega) (show B.2.1 218 (8 * i.toNat + s.toNat) = 0 by rw [← ei]; omega) (by omega) (fun t ht => by
              rw [aM]
              by_cases e : t = s.toNat
              · rw [if_pos e, if_pos ⟨rfl, by omega⟩]
              · rw [if_neg e, if_neg (by omega)]) h8.1) aK (fun o h1 h2 => funext fun j => by rw [aM, if_neg (by omega)]) (fun j t hj ht => by rw [aM, if_neg (by omega)]) (fun j _ => by rw [aM, if_neg (by omega)]) h8.1
            have w5 := w_184 (d := d) (by omega) hwM r2 ha
            rw [show ((i.toNat : Nat) : Int) = i by omega] at w5
            refine ⟨dn N H2, c_122 _ ?_, AL.of v9, fun _ => ⟨_, _, _, _, _, _, r2⟩, fun h => absurd hk h⟩
            have g1' : g_gf (hH K N G B) a 8 1 = some (.int (I 0)) := by rw [g1]; exact congrArg (fun z => some (Value.int (I z))) c5
            have c8' : g_cls (hH K N (dn N H2) B) a = some 8 := by
              obtain ⟨p1, mc1, e1, ca1, hs2, -⟩ := r2.part ha
              exact cl_of hs2
            rw [r1] at v3
            have wn : (hH K N G B).2.1 = G.2.1 := rfl
            rw [hk]
            unfold t_122_0
            simp (disch := omega) only [rI_d, rJ_d, rR_d, rN_d, wF_d, xI_d, xJ_d, xD_d, xQ_d, yI_d, yJ_d, yD_d, yQ_d, dI_s, dJ_s, dR_s, dN_s, dN_n, dH_s, dX_s, dL_s, dD_s, dQ_s, bC_r, bC_t, kI_s, kJ_s, kF_s, kD_s, kR_s, kV_s, I_lit, I_neg, I_add, I_sub, I_mul, I_ltT, I_ltF, I_leT, I_leF, I_eqT, I_eqF, c_int, c_long, c_obj, c_arr, c_bool, c_boolN, c_boolF, vn_bool, c_charN, vn_char, b2_f, b2_t, Int.toNat_natCast, ↓reduceIte, eq_self, and_self, and_true, true_and, not_false_eq_true, not_true_eq_false, L_0_0, L_0_1, L_0_2, L_0_3, L_0_4, L_0_5, L_0_6, L_0_7, L_0_8, L_0_9, L_0_10, L_0_11, L_0_12, L_0_13, L_0_14, L_0_15, C_0, L_1_0, L_1_1, L_1_2, C_1, L_2_0, L_2_1, L_2_2, C_2, L_3_0, L_3_1, L_3_2, C_3, L_65_0, L_65_1, L_65_2, L_65_3, L_65_4, C_65, L_66_0, L_66_1, L_66_2, L_66_3, C_66, L_129_0, L_129_1, L_129_2, L_129_3, C_129, L_198_0, L_198_1, L_198_2, L_198_3, L_198_4, L_198_5, L_198_6, L_198_7, L_198_8, L_198_9, L_198_10, L_198_11, L_198_12, L_198_13, L_198_14, L_198_15, L_198_16, L_198_17, L_198_18, L_198_19, L_198_20, L_198_21, L_198_22, L_198_23, L_198_24, L_198_25, L_198_26, L_198_27, L_198_28, L_198_29, L_198_30, L_198_31, L_198_32, L_198_33, L_198_34, L_198_35, L_198_36, L_198_37, L_198_38, L_198_39, L_198_40, L_198_41, L_198_42, L_198_43, L_198_44, L_198_45, L_198_46, L_198_47, L_198_48, C_198, A_199, A_200, A_201, A_202, A_203, A_204, A_205, A_206, A_207, A_208, A_209, A_210, A_211, A_212, A_213, A_214, A_215, A_216, A_217, A_218, A_219, A_220, A_221, A_222, A_223, A_224, A_225, A_226, A_227, A_228, A_128, A_191, A_rf, A_rs, A_rt, Q_4, Q_67, Q_130, t_122_0_1, t_122_0_2, t_122_0_3, t_122_0_4, t_122_0_5, t_122_0_6, t_122_0_7, t_122_0_8, t_122_0_9, t_122_0_10, t_122_0_11, t_122_0_12, t_122_0_13, t_122_0_14, t_122_0_15, t_122_0_16, t_122_0_17, t_122_0_18, t_122_0_19, t_122_0_20, t_122_0_21, iltT, iltF, ileT, ileF, ieqT, ieqF, cif_T, cif_F, not_true_eq_false, not_false_eq_true, or_true, or_false, true_or, false_or, false_and, and_false, ne_eq, w, w0, w1, T0, T2, cl8, w2, g1', v1, wc, v2, v3, c8', w5]
          · have hk : k_addPart (tw B) i s c = 3 := by
              unfold k_addPart
              rw [cifF (fun h => h ⟨c1, c2⟩), cifF (fun h => h c3), cifT (Or.inr (show 0 < B.2.1 219 i.toNat by omega))]
            refine ⟨gjunk G 6, c_122 _ ?_, aj, fun h => absurd h (by rw [hk]; decide), fun _ => jk⟩
            have g1' : g_gf (hH K N G B) a 8 1 = some (.int (I (B.2.1 219 i.toNat))) := g1
            rw [hk]
            unfold t_122_0
            simp (disch := omega) only [rI_d, rJ_d, rR_d, rN_d, wF_d, xI_d, xJ_d, xD_d, xQ_d, yI_d, yJ_d, yD_d, yQ_d, dI_s, dJ_s, dR_s, dN_s, dN_n, dH_s, dX_s, dL_s, dD_s, dQ_s, bC_r, bC_t, kI_s, kJ_s, kF_s, kD_s, kR_s, kV_s, I_lit, I_neg, I_add, I_sub, I_mul, I_ltT, I_ltF, I_leT, I_leF, I_eqT, I_eqF, c_int, c_long, c_obj, c_arr, c_bool, c_boolN, c_boolF, vn_bool, c_charN, vn_char, b2_f, b2_t, Int.toNat_natCast, ↓reduceIte, eq_self, and_self, and_true, true_and, not_false_eq_true, not_true_eq_false, L_0_0, L_0_1, L_0_2, L_0_3, L_0_4, L_0_5, L_0_6, L_0_7, L_0_8, L_0_9, L_0_10, L_0_11, L_0_12, L_0_13, L_0_14, L_0_15, C_0, L_1_0, L_1_1, L_1_2, C_1, L_2_0, L_2_1, L_2_2, C_2, L_3_0, L_3_1, L_3_2, C_3, L_65_0, L_65_1, L_65_2, L_65_3, L_65_4, C_65, L_66_0, L_66_1, L_66_2, L_66_3, C_66, L_129_0, L_129_1, L_129_2, L_129_3, C_129, L_198_0, L_198_1, L_198_2, L_198_3, L_198_4, L_198_5, L_198_6, L_198_7, L_198_8, L_198_9, L_198_10, L_198_11, L_198_12, L_198_13, L_198_14, L_198_15, L_198_16, L_198_17, L_198_18, L_198_19, L_198_20, L_198_21, L_198_22, L_198_23, L_198_24, L_198_25, L_198_26, L_198_27, L_198_28, L_198_29, L_198_30, L_198_31, L_198_32, L_198_33, L_198_34, L_198_35, L_198_36, L_198_37, L_198_38, L_198_39, L_198_40, L_198_41, L_198_42, L_198_43, L_198_44, L_198_45, L_198_46, L_198_47, L_198_48, C_198, A_199, A_200, A_201, A_202, A_203, A_204, A_205, A_206, A_207, A_208, A_209, A_210, A_211, A_212, A_213, A_214, A_215, A_216, A_217, A_218, A_219, A_220, A_221, A_222, A_223, A_224, A_225, A_226, A_227, A_228, A_128, A_191, A_rf, A_rs, A_rt, Q_4, Q_67, Q_130, t_122_0_1, t_122_0_2, t_122_0_3, t_122_0_4, t_122_0_5, t_122_0_6, t_122_0_7, t_122_0_8, t_122_0_9, t_122_0_10, t_122_0_11, t_122_0_12, t_122_0_13, t_122_0_14, t_122_0_15, t_122_0_16, t_122_0_17, t_122_0_18, t_122_0_19, t_122_0_20, t_122_0_21, iltT, iltF, ileT, ileF, ieqT, ieqF, cif_T, cif_F, not_true_eq_false, not_false_eq_true, or_true, or_false, true_or, false_or, false_and, and_false, ne_eq, w, w0, w1, T0, cl8, w2, g1', F2, gjunk_hH]
            rfl
      · rw [b2F c3] at w1
        have hk : k_addPart (tw B) i s c = 2 := by
          unfold k_addPart
          rw [cifF (fun h => h ⟨c1, c2⟩), cifT c3]
        refine ⟨gjunk G 6, c_122 _ ?_, aj, fun h => absurd h (by rw [hk]; decide), fun _ => jk⟩
        rw [hk]
        unfold t_122_0
        simp (disch := omega) only [rI_d, rJ_d, rR_d, rN_d, wF_d, xI_d, xJ_d, xD_d, xQ_d, yI_d, yJ_d, yD_d, yQ_d, dI_s, dJ_s, dR_s, dN_s, dN_n, dH_s, dX_s, dL_s, dD_s, dQ_s, bC_r, bC_t, kI_s, kJ_s, kF_s, kD_s, kR_s, kV_s, I_lit, I_neg, I_add, I_sub, I_mul, I_ltT, I_ltF, I_leT, I_leF, I_eqT, I_eqF, c_int, c_long, c_obj, c_arr, c_bool, c_boolN, c_boolF, vn_bool, c_charN, vn_char, b2_f, b2_t, Int.toNat_natCast, ↓reduceIte, eq_self, and_self, and_true, true_and, not_false_eq_true, not_true_eq_false, L_0_0, L_0_1, L_0_2, L_0_3, L_0_4, L_0_5, L_0_6, L_0_7, L_0_8, L_0_9, L_0_10, L_0_11, L_0_12, L_0_13, L_0_14, L_0_15, C_0, L_1_0, L_1_1, L_1_2, C_1, L_2_0, L_2_1, L_2_2, C_2, L_3_0, L_3_1, L_3_2, C_3, L_65_0, L_65_1, L_65_2, L_65_3, L_65_4, C_65, L_66_0, L_66_1, L_66_2, L_66_3, C_66, L_129_0, L_129_1, L_129_2, L_129_3, C_129, L_198_0, L_198_1, L_198_2, L_198_3, L_198_4, L_198_5, L_198_6, L_198_7, L_198_8, L_198_9, L_198_10, L_198_11, L_198_12, L_198_13, L_198_14, L_198_15, L_198_16, L_198_17, L_198_18, L_198_19, L_198_20, L_198_21, L_198_22, L_198_23, L_198_24, L_198_25, L_198_26, L_198_27, L_198_28, L_198_29, L_198_30, L_198_31, L_198_32, L_198_33, L_198_34, L_198_35, L_198_36, L_198_37, L_198_38, L_198_39, L_198_40, L_198_41, L_198_42, L_198_43, L_198_44, L_198_45, L_198_46, L_198_47, L_198_48, C_198, A_199, A_200, A_201, A_202, A_203, A_204, A_205, A_206, A_207, A_208, A_209, A_210, A_211, A_212, A_213, A_214, A_215, A_216, A_217, A_218, A_219, A_220, A_221, A_222, A_223, A_224, A_225, A_226, A_227, A_228, A_128, A_191, A_rf, A_rs, A_rt, Q_4, Q_67, Q_130, t_122_0_1, t_122_0_2, t_122_0_3, t_122_0_4, t_122_0_5, t_122_0_6, t_122_0_7, t_122_0_8, t_122_0_9, t_122_0_10, t_122_0_11, t_122_0_12, t_122_0_13, t_122_0_14, t_122_0_15, t_122_0_16, t_122_0_17, t_122_0_18, t_122_0_19, t_122_0_20, t_122_0_21, iltT, iltF, ileT, ileF, ieqT, ieqF, cif_T, cif_F, not_true_eq_false, not_false_eq_true, or_true, or_false, true_or, false_or, false_and, and_false, ne_eq, w, w0, w1, F0, gjunk_hH]
        rfl
    · have hk : k_addPart (tw B) i s c = 1 := by
        unfold k_addPart
        rw [cifT (fun h => c2 h.2)]
      have w0 := w_157F (d := d) (by omega) hR (by omega) h2 (by omega)
      refine ⟨gjunk G 6, c_122 _ ?_, aj, fun h => absurd h (by rw [hk]; decide), fun _ => jk⟩
      rw [hk]
      unfold t_122_0
      simp (disch := omega) only [rI_d, rJ_d, rR_d, rN_d, wF_d, xI_d, xJ_d, xD_d, xQ_d, yI_d, yJ_d, yD_d, yQ_d, dI_s, dJ_s, dR_s, dN_s, dN_n, dH_s, dX_s, dL_s, dD_s, dQ_s, bC_r, bC_t, kI_s, kJ_s, kF_s, kD_s, kR_s, kV_s, I_lit, I_neg, I_add, I_sub, I_mul, I_ltT, I_ltF, I_leT, I_leF, I_eqT, I_eqF, c_int, c_long, c_obj, c_arr, c_bool, c_boolN, c_boolF, vn_bool, c_charN, vn_char, b2_f, b2_t, Int.toNat_natCast, ↓reduceIte, eq_self, and_self, and_true, true_and, not_false_eq_true, not_true_eq_false, L_0_0, L_0_1, L_0_2, L_0_3, L_0_4, L_0_5, L_0_6, L_0_7, L_0_8, L_0_9, L_0_10, L_0_11, L_0_12, L_0_13, L_0_14, L_0_15, C_0, L_1_0, L_1_1, L_1_2, C_1, L_2_0, L_2_1, L_2_2, C_2, L_3_0, L_3_1, L_3_2, C_3, L_65_0, L_65_1, L_65_2, L_65_3, L_65_4, C_65, L_66_0, L_66_1, L_66_2, L_66_3, C_66, L_129_0, L_129_1, L_129_2, L_129_3, C_129, L_198_0, L_198_1, L_198_2, L_198_3, L_198_4, L_198_5, L_198_6, L_198_7, L_198_8, L_198_9, L_198_10, L_198_11, L_198_12, L_198_13, L_198_14, L_198_15, L_198_16, L_198_17, L_198_18, L_198_19, L_198_20, L_198_21, L_198_22, L_198_23, L_198_24, L_198_25, L_198_26, L_198_27, L_198_28, L_198_29, L_198_30, L_198_31, L_198_32, L_198_33, L_198_34, L_198_35, L_198_36, L_198_37, L_198_38, L_198_39, L_198_40, L_198_41, L_198_42, L_198_43, L_198_44, L_198_45, L_198_46, L_198_47, L_198_48, C_198, A_199, A_200, A_201, A_202, A_203, A_204, A_205, A_206, A_207, A_208, A_209, A_210, A_211, A_212, A_213, A_214, A_215, A_216, A_217, A_218, A_219, A_220, A_221, A_222, A_223, A_224, A_225, A_226, A_227, A_228, A_128, A_191, A_rf, A_rs, A_rt, Q_4, Q_67, Q_130, t_122_0_1, t_122_0_2, t_122_0_3, t_122_0_4, t_122_0_5, t_122_0_6, t_122_0_7, t_122_0_8, t_122_0_9, t_122_0_10, t_122_0_11, t_122_0_12, t_122_0_13, t_122_0_14, t_122_0_15, t_122_0_16, t_122_0_17, t_122_0_18, t_122_0_19, t_122_0_20, t_122_0_21, iltT, iltF, ileT, ileF, ieqT, ieqF, cif_T, cif_F, not_true_eq_false, not_false_eq_true, or_true, or_false, true_or, false_or, false_and, and_false, ne_eq, w, w0]
      rfl
  · have hk : k_addPart (tw B) i s c = 1 := by
      unfold k_addPart
      rw [cifT (fun h => c1 h.1)]
    have w := w_181F (d := d) (by omega) hR (by omega) h1 (by omega)
    refine ⟨gjunk G 6, c_122 _ ?_, aj, fun h => absurd h (by rw [hk]; decide), fun _ => jk⟩
    rw [hk]
    unfold t_122_0
    simp (disch := omega) only [rI_d, rJ_d, rR_d, rN_d, wF_d, xI_d, xJ_d, xD_d, xQ_d, yI_d, yJ_d, yD_d, yQ_d, dI_s, dJ_s, dR_s, dN_s, dN_n, dH_s, dX_s, dL_s, dD_s, dQ_s, bC_r, bC_t, kI_s, kJ_s, kF_s, kD_s, kR_s, kV_s, I_lit, I_neg, I_add, I_sub, I_mul, I_ltT, I_ltF, I_leT, I_leF, I_eqT, I_eqF, c_int, c_long, c_obj, c_arr, c_bool, c_boolN, c_boolF, vn_bool, c_charN, vn_char, b2_f, b2_t, Int.toNat_natCast, ↓reduceIte, eq_self, and_self, and_true, true_and, not_false_eq_true, not_true_eq_false, L_0_0, L_0_1, L_0_2, L_0_3, L_0_4, L_0_5, L_0_6, L_0_7, L_0_8, L_0_9, L_0_10, L_0_11, L_0_12, L_0_13, L_0_14, L_0_15, C_0, L_1_0, L_1_1, L_1_2, C_1, L_2_0, L_2_1, L_2_2, C_2, L_3_0, L_3_1, L_3_2, C_3, L_65_0, L_65_1, L_65_2, L_65_3, L_65_4, C_65, L_66_0, L_66_1, L_66_2, L_66_3, C_66, L_129_0, L_129_1, L_129_2, L_129_3, C_129, L_198_0, L_198_1, L_198_2, L_198_3, L_198_4, L_198_5, L_198_6, L_198_7, L_198_8, L_198_9, L_198_10, L_198_11, L_198_12, L_198_13, L_198_14, L_198_15, L_198_16, L_198_17, L_198_18, L_198_19, L_198_20, L_198_21, L_198_22, L_198_23, L_198_24, L_198_25, L_198_26, L_198_27, L_198_28, L_198_29, L_198_30, L_198_31, L_198_32, L_198_33, L_198_34, L_198_35, L_198_36, L_198_37, L_198_38, L_198_39, L_198_40, L_198_41, L_198_42, L_198_43, L_198_44, L_198_45, L_198_46, L_198_47, L_198_48, C_198, A_199, A_200, A_201, A_202, A_203, A_204, A_205, A_206, A_207, A_208, A_209, A_210, A_211, A_212, A_213, A_214, A_215, A_216, A_217, A_218, A_219, A_220, A_221, A_222, A_223, A_224, A_225, A_226, A_227, A_228, A_128, A_191, A_rf, A_rs, A_rt, Q_4, Q_67, Q_130, t_122_0_1, t_122_0_2, t_122_0_3, t_122_0_4, t_122_0_5, t_122_0_6, t_122_0_7, t_122_0_8, t_122_0_9, t_122_0_10, t_122_0_11, t_122_0_12, t_122_0_13, t_122_0_14, t_122_0_15, t_122_0_16, t_122_0_17, t_122_0_18, t_122_0_19, t_122_0_20, t_122_0_21, iltT, iltF, ileT, ileF, ieqT, ieqF, cif_T, cif_F, not_true_eq_false, not_false_eq_true, or_true, or_false, true_or, false_or, false_and, and_false, ne_eq, w]
    rfl
end
