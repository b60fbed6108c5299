/-! PURE 95: a list of sorts -/
set_option maxRecDepth 100000
section
variable {K : gK} {d N : Nat} {G G' G1 : gH} {B B' : gB} {M : gM} {ro : Nat → Nat} {sh st pc : List Nat} {cs : Nat → List Nat} {ps : Nat → List (Nat × Int)} {H' : gH} {m sl m' sl' : Nat} {W : Nat → Prop}
theorem FR.lower (hC : CB K N G) (hf : FR W m sl (hH K N G B) H') (hw : ∀ q, W q → q < G.2.1 → N + 231 ≤ q) : H' = hH K N (dn N H') B ∧ CB K N (dn N H') ∧ FR W m sl G (dn N H') := by
  have hN := hC.2.2.1
  have hw' : ∀ q, W q → q < N + 231 → False := fun q h1 h2 => by
    have := hw q h1 (by omega)
    omega
  obtain ⟨r1, r2⟩ := relens (B' := B) hC hf (fun q hq hlt => (hw' q hq hlt).elim) (fun _ _ _ => rfl)
  refine ⟨r1, r2, hf.1, hf.2.1, hf.2.2.1, hf.2.2.2.1, r2.1, fun a ha hn => ?_⟩
  show (if a < N + 231 then none else H'.1 a) = G.1 a
  by_cases e : a < N + 231
  · rw [if_pos e]; exact (hC.2.1 a e).symm
  · rw [if_neg e, hf.2.2.2.2.2 a ha hn]
    exact hH_dyn (by omega)
theorem FR.lift (hC : CB K N G) (hf : FR noW m sl G G') : FR (LN N) m sl (hH K N G B) (hH K N G' B') := by
  have hN := hC.2.2.1
  refine ⟨hf.1, hf.2.1, hf.2.2.1, hf.2.2.2.1, fun a ha => ?_, fun a ha hn => ?_⟩
  · show (if N ≤ a ∧ a < N + 231 then _ else G'.1 a) = none
    have h1 : G'.2.1 ≤ a := ha
    have h2 := hf.1
    rw [if_neg (by omega)]
    exact hf.2.2.2.2.1 a h1
  · show (if N ≤ a ∧ a < N + 231 then _ else G'.1 a) = (if N ≤ a ∧ a < N + 231 then _ else G.1 a)
    rw [if_neg hn, if_neg hn]
    exact hf.2.2.2.2.2 a ha (fun q => q)
theorem CB.gr (hC : CB K N G) (hf : FR noW m sl G G') : CB K N G' := by
  have hN := hC.2.2.1
  exact ⟨hf.hb, fun a ha => (hf.2.2.2.2.2 a (by omega) (fun q => q)).trans (hC.2.1 a ha), Nat.le_trans hN hf.1, hC.2.2.2⟩
/-- the room when only new cells came -/
theorem CR.gr (h : CR K N G B ro M sh st pc cs ps) (hf : FR noW m sl G G') : CR K N G' B ro M sh st pc cs ps :=
  h.ln (FR.lift h.1 hf) (h.1.gr hf) ⟨rfl, rfl⟩ ⟨rfl, rfl⟩ ⟨rfl, rfl⟩ MS.rf h.2.1 h.2.2.1
theorem FR.trn (h : FR noW m sl G G1) (h' : FR W m' sl' G1 G') (hw : ∀ q, W q → q < G1.2.1 → G.2.1 ≤ q) : FR noW (m + m') (sl + sl') G G' := by
  refine ⟨Nat.le_trans h.1 h'.1, ?_, Nat.le_trans h.2.2.1 h'.2.2.1, ?_, h'.hb, fun a ha _ => ?_⟩
  · have := h.2.1; have := h'.2.1; omega
  · have := h.2.2.2.1; have := h'.2.2.2.1; omega
  · have h1 := h.1
    rw [h'.2.2.2.2.2 a (by omega) (fun q => by have := hw a q (by omega); omega)]
    exact h.2.2.2.2.2 a ha (fun q => q)
/-- a list of sorts at l, all of it from base on -/
def SLI (K : gK) (G : gH) (base : Nat) (sh : List Nat) (l : Nat) (L : List Int) : Prop := ∃ (mc : Int) (e : Nat) (ca : List Nat), G.1 l = some (.inr (12, [.int (I mc), .ref e, .int (I (ca.length : Int))])) ∧ base ≤ l ∧ ((e = K.2 3 ∧ ca = []) ∨ (base ≤ e ∧ ∃ cap f, G.1 e = some (.inl (5, cap, gQ f)) ∧ ca.length ≤ cap ∧ 1 ≤ cap ∧ cap ≤ 200 ∧ ∀ j x, ca[j]? = some x → f j = some x)) ∧ ca.length = L.length ∧ ∀ (j c : Nat) (x : Int), ca[j]? = some c → L[j]? = some x → base ≤ c ∧ ∃ b, sh[cS x]? = some b ∧ G.1 c = some (.inr (10, [.ref b, .int (I (cM x))]))
/-- its list, read -/
theorem SLI.rd {base l : Nat} {L : List Int} (hC : CB K N G) (hb : N + 231 ≤ base) (h : SLI K G base sh l L) : ∃ (mc : Int) (e : Nat) (ca : List Nat), ALo (hH K N G B) l mc e ca.length ∧ ARR K (hH K N G B) e ca ∧ base ≤ l ∧ (e = K.2 3 ∨ base ≤ e) ∧ ca.length = L.length ∧ ∀ (j c : Nat) (x : Int), ca[j]? = some c → L[j]? = some x → base ≤ c ∧ ∃ b, sh[cS x]? = some b ∧ (hH K N G B).1 c = some (.inr (10, [.ref b, .int (I (cM x))])) := by
  obtain ⟨mc, e, ca, h1, h2, h3, h4, h5⟩ := h
  refine ⟨mc, e, ca, (hH_dyn (by omega)).trans h1, ?_, h2, h3.imp And.left And.left, h4, fun j c x q1 q2 => ?_⟩
  · rcases h3 with ⟨z1, z2⟩ | ⟨z1, cap, f, z2, z3⟩
    · exact Or.inl ⟨z1, by rw [z1]; exact hC.e, z2⟩
    · have := hC.2.2.2.1 3 (by omega)
      exact Or.inr ⟨by omega, cap, f, (hH_dyn (by omega)).trans z2, z3⟩
  · obtain ⟨z1, b, z2, z3⟩ := h5 j c x q1 q2
    exact ⟨z1, b, z2, (hH_dyn (by omega)).trans z3⟩
theorem SLI.gr {base l : Nat} {L : List Int} (hb : HB G) (h : SLI K G base sh l L) (hf : FR noW m sl G G') : SLI K G' base sh l L := by
  obtain ⟨mc, e, ca, h1, h2, h3, h4, h5⟩ := h
  have up : ∀ {a : Nat} {en : gE}, G.1 a = some en → G'.1 a = some en := fun {a en} ha => (hf.2.2.2.2.2 a (hb.lt ha) (fun q => q)).trans ha
  refine ⟨mc, e, ca, up h1, h2, h3.imp_right (fun ⟨z1, cap, f, z2, z3⟩ => ⟨z1, cap, f, up z2, z3⟩), h4, fun j c x q1 q2 => ?_⟩
  obtain ⟨z1, b, z2, z3⟩ := h5 j c x q1 q2
  exact ⟨z1, b, z2, up z3⟩
theorem mkSort (hd : 1 ≤ d) {H : gH} {b : Nat} {x : Int} (hx : 0 ≤ x ∧ x ≤ 1) : gCa K d 251 [.ref H.2.1, .ref b, .int (I x)] (gnew H (.inr (10, [.null, .int (I 0)])) 2) = some (.inl none, gnew H (.inr (10, [.ref b, .int (I x)])) 2) := by
  obtain ⟨d, rfl, hd'⟩ := d_succ (show 0 + 1 ≤ d by omega)
  have n1 : ∀ {x y : Value}, (gnew H (.inr (10, [x, y])) 2).1 H.2.1 = some (.inr (10, [x, y])) := gn_eq
  have s0 : ∀ {x y z : Value}, g_pf (gnew H (.inr (10, [x, y])) 2) H.2.1 10 0 z = some (gnew H (.inr (10, [z, y])) 2) := fun {x y z} => by rw [pf_of n1 (by decide : 0 < 2), gs_gn]; rfl
  have s1 : ∀ {x y z : Value}, g_pf (gnew H (.inr (10, [x, y])) 2) H.2.1 10 1 z = some (gnew H (.inr (10, [x, z])) 2) := fun {x y z} => by rw [pf_of n1 (by decide : 1 < 2), gs_gn]; rfl
  refine c_251 _ ?_
  unfold t_251_0
  simp (disch := omega) only [rI_d, rJ_d, rR_d, rN_d, wF_d, xI_d, xJ_d, xD_d, xQ_d, yI_d, yJ_d, yD_d, yQ_d, dI_s, dJ_s, dR_s, dN_s, dN_n, dH_s, dX_s, dL_s, dD_s, dQ_s, bC_r, bC_t, kI_s, kJ_s, kF_s, kD_s, kR_s, kV_s, I_lit, I_neg, I_add, I_sub, I_mul, I_ltT, I_ltF, I_leT, I_leF, I_eqT, I_eqF, c_int, c_long, c_obj, c_arr, c_bool, c_boolN, c_boolF, vn_bool, c_charN, vn_char, b2_f, b2_t, Int.toNat_natCast, ↓reduceIte, eq_self, and_self, and_true, true_and, not_false_eq_true, not_true_eq_false, L_0_0, L_0_1, L_0_2, L_0_3, L_0_4, L_0_5, L_0_6, L_0_7, L_0_8, L_0_9, L_0_10, L_0_11, L_0_12, L_0_13, L_0_14, L_0_15, C_0, L_1_0, L_1_1, L_1_2, C_1, L_2_0, L_2_1, L_2_2, C_2, L_3_0, L_3_1, L_3_2, C_3, L_65_0, L_65_1, L_65_2, L_65_3, L_65_4, C_65, L_66_0, L_66_1, L_66_2, L_66_3, C_66, L_129_0, L_129_1, L_129_2, L_129_3, C_129, L_198_0, L_198_1, L_198_2, L_198_3, L_198_4, L_198_5, L_198_6, L_198_7, L_198_8, L_198_9, L_198_10, L_198_11, L_198_12, L_198_13, L_198_14, L_198_15, L_198_16, L_198_17, L_198_18, L_198_19, L_198_20, L_198_21, L_198_22, L_198_23, L_198_24, L_198_25, L_198_26, L_198_27, L_198_28, L_198_29, L_198_30, L_198_31, L_198_32, L_198_33, L_198_34, L_198_35, L_198_36, L_198_37, L_198_38, L_198_39, L_198_40, L_198_41, L_198_42, L_198_43, L_198_44, L_198_45, L_198_46, L_198_47, L_198_48, C_198, A_199, A_200, A_201, A_202, A_203, A_204, A_205, A_206, A_207, A_208, A_209, A_210, A_211, A_212, A_213, A_214, A_215, A_216, A_217, A_218, A_219, A_220, A_221, A_222, A_223, A_224, A_225, A_226, A_227, A_228, A_128, A_191, A_rf, A_rs, A_rt, Q_4, Q_67, Q_130, t_251_0_1, t_251_0_2, s0, s1]
/-- one sort more -/
theorem SLI.add (hd : 8 ≤ d) (hC : CB K N G) {base l : Nat} {L : List Int} (hb : N + 231 ≤ base) (hbt : base ≤ G.2.1) (h : SLI K G base sh l L) (hl : L.length ≤ 99) {b : Nat} {x : Int} (hx : sh[cS x]? = some b) :
    ∃ G', g_cls (gnew (hH K N G B) (.inr (10, [.ref b, .int (I (cM x))])) 2) l = some 12 ∧ gCa K d 156 [.ref l, .ref G.2.1] (gnew (hH K N G B) (.inr (10, [.ref b, .int (I (cM x))])) 2) = some (.inl (some (.int (I 1))), hH K N G' B) ∧ CB K N G' ∧ FR (fun q => base ≤ q) 2 202 G G' ∧ SLI K G' base sh l (L ++ [x]) := by
  obtain ⟨mc, e, ca, c1, c2, c3, c4, c5, c6⟩ := h.rd (B := B) hC hb
  have hHB := hC.hb (B := B)
  have hk3 := hC.2.2.2.1 3 (by omega)
  have hN := hC.2.2.1
  have hG : (hH K N G B).2.1 = G.2.1 := rfl
  have lp := hHB.lt c1
  have up : ∀ {y : Nat} {en : gE}, (hH K N G B).1 y = some en → (gnew (hH K N G B) (.inr (10, [.ref b, .int (I (cM x))])) 2).1 y = some en := fun {y en} hy => (gn_lt (hHB.lt hy)).trans hy
  have x1 : (gnew (hH K N G B) (.inr (10, [.ref b, .int (I (cM x))])) 2).1 G.2.1 = some (.inr (10, [.ref b, .int (I (cM x))])) := gn_eq
  have k1 : (gnew (hH K N G B) (.inr (10, [.ref b, .int (I (cM x))])) 2).2.1 = G.2.1 + 1 := rfl
  have f1 : FR (fun q => base ≤ q) 1 2 (hH K N G B) (gnew (hH K N G B) (.inr (10, [.ref b, .int (I (cM x))])) 2) := FR.new hHB
  have n1 : (gnew (hH K N G B) (.inr (10, [.ref b, .int (I (cM x))])) 2).1 (K.2 3) = none := (gn_lt (by show K.2 3 < G.2.1; omega)).trans hC.e
  have e1 : ARR K (gnew (hH K N G B) (.inr (10, [.ref b, .int (I (cM x))])) 2) e ca := by
    rcases c2 with ⟨q1, q2, q3⟩ | ⟨q0, cap, f, q1, q2⟩
    · exact Or.inl ⟨q1, by rw [q1]; exact n1, q3⟩
    · exact Or.inr ⟨q0, cap, f, up q1, q2⟩
  have hob : ∀ y ∈ ca, OBJ (gnew (hH K N G B) (.inr (10, [.ref b, .int (I (cM x))])) 2) y := fun y hy => by
    obtain ⟨j, hj⟩ := List.mem_iff_getElem?.mp hy
    obtain ⟨k, hk⟩ := at_lt (l := L) (i := j) (by have := (List.getElem?_eq_some_iff.mp hj).1; omega)
    obtain ⟨-, b', z1, z2⟩ := c6 j y k hj hk
    exact ⟨10, cl_of (up z2), by omega⟩
  have hb1 := f1.hb
  have p1 : ALo (gnew (hH K N G B) (.inr (10, [.ref b, .int (I (cM x))])) 2) l mc e ca.length := up c1
  generalize hH1 : gnew (hH K N G B) (.inr (10, [.ref b, .int (I (cM x))])) 2 = H1 at *
  obtain ⟨H2, mc', e', g1, g2, g3, g4, g5⟩ := w_156 (K := K) (d := d) (by omega) hb1 (by omega) p1 e1 (by omega) hob (v := G.2.1) ⟨10, cl_of x1, by omega⟩
  have he : e = K.2 3 → H1.1 e = none := fun z => by rw [z]; exact n1
  have f2 : FR (fun q => base ≤ q) 1 200 H1 H2 := g5.mono (fun q _ hq => by
    rcases hq with rfl | ⟨rfl, z⟩
    · exact c3
    · exact c4.resolve_left (fun z' => z (he z')))
  have ff := f1.tr f2
  obtain ⟨r1, r2, r3⟩ := FR.lower hC ff (fun q hq _ => by omega)
  have out : ∀ {y : Nat} {en : gE}, H1.1 y = some en → (∀ fs, en ≠ .inr (12, fs)) → (∀ z, en ≠ .inl (5, z)) → H2.1 y = some en := fun {y en} hy h12 h5 => by
    refine g5.at hb1 hy ?_
    rintro (rfl | ⟨rfl, -⟩)
    · exact h12 _ (Option.some.inj (hy.symm.trans p1))
    · rcases e1 with ⟨q1, q2, q3⟩ | ⟨q0, cap, f, q1, q2⟩
      · rw [hy] at q2; cases q2
      · exact h5 _ (Option.some.inj (hy.symm.trans q1))
  have dnx : ∀ {y : Nat} {en : gE}, base ≤ y → H2.1 y = some en → (dn N H2).1 y = some en := fun {y en} h1 h2 => (if_neg (by omega)).trans h2
  refine ⟨dn N H2, cl_of p1, by rw [g1, ← r1], r2, r3.le (by omega) (by omega), mc', e', ca ++ [G.2.1], dnx c3 (by rw [List.length_append]; exact g2), c3, ?_, by rw [List.length_append, List.length_append, c5]; rfl, fun j y z q1 q2 => ?_⟩
  · rcases g3 with ⟨q1, q2, q3⟩ | ⟨q0, cap, f, q1, q2⟩
    · exact absurd q3 (by simp)
    · have hbe : base ≤ e' := by
        rcases g4 with z | z
        · rcases c4 with z' | z'
          · exact absurd (z.trans z') q0
          · omega
        · omega
      exact Or.inr ⟨hbe, cap, f, dnx hbe q1, q2⟩
  · rcases get_app q1 with ⟨q3, q4⟩ | ⟨q3, q4⟩
    · rcases get_appA q2 with ⟨q5, q6⟩ | ⟨q5, q6⟩
      · obtain ⟨z1, b', z2, z3⟩ := c6 j y z q4 q6
        exact ⟨z1, b', z2, dnx z1 (out (up z3) (fun fs e => by cases e) (fun y e => by cases e))⟩
      · omega
    · rcases get_appA q2 with ⟨q5, q6⟩ | ⟨q5, q6⟩
      · omega
      · rw [q4, q6]
        exact ⟨hbt, b, hx, dnx hbt (out x1 (fun fs e => by cases e) (fun y e => by cases e))⟩
theorem cM_b {x : Int} : 0 ≤ cM x ∧ cM x ≤ 1 := by
  unfold cM
  split <;> omega
theorem l_240 (hd : 9 ≤ d) {base l b : Nat} {x : Int} (hb : N + 231 ≤ base) (hx : sh[cS x]? = some b) {n : Int} (hn0 : n ≤ 1000) : ∀ (k : Nat) (z : Int) (G : gH) (L : List Int), CB K N G → base ≤ G.2.1 → SLI K G base sh l L → 0 ≤ z → z + k = n → L.length + k ≤ 100 →
    ∃ G', gRn K d 240 3 [some (.ref l), some (.ref b), some (.int (I (cM x))), some (.int (I n)), some (.int (I z))] [] (hH K N G B) = some (.inl none, hH K N G' B) ∧ CB K N G' ∧ FR (fun q => base ≤ q) (2 * k) (202 * k) G G' ∧ SLI K G' base sh l (L ++ List.replicate k x) := by
  intro k
  induction k with
  | zero =>
    intro z G L hC hbt hS hz hk hl
    refine ⟨G, e_240_3 _ ?_, hC, FR.rf hC.1, by rw [List.replicate_zero, List.append_nil]; exact hS⟩
    unfold t_240_3
    simp (disch := omega) only [rI_d, rJ_d, rR_d, rN_d, wF_d, xI_d, xJ_d, xD_d, xQ_d, yI_d, yJ_d, yD_d, yQ_d, dI_s, dJ_s, dR_s, dN_s, dN_n, dH_s, dX_s, dL_s, dD_s, dQ_s, bC_r, bC_t, kI_s, kJ_s, kF_s, kD_s, kR_s, kV_s, I_lit, I_neg, I_add, I_sub, I_mul, I_ltT, I_ltF, I_leT, I_leF, I_eqT, I_eqF, c_int, c_long, c_obj, c_arr, c_bool, c_boolN, c_boolF, vn_bool, c_charN, vn_char, b2_f, b2_t, Int.toNat_natCast, ↓reduceIte, eq_self, and_self, and_true, true_and, not_false_eq_true, not_true_eq_false, L_0_0, L_0_1, L_0_2, L_0_3, L_0_4, L_0_5, L_0_6, L_0_7, L_0_8, L_0_9, L_0_10, L_0_11, L_0_12, L_0_13, L_0_14, L_0_15, C_0, L_1_0, L_1_1, L_1_2, C_1, L_2_0, L_2_1, L_2_2, C_2, L_3_0, L_3_1, L_3_2, C_3, L_65_0, L_65_1, L_65_2, L_65_3, L_65_4, C_65, L_66_0, L_66_1, L_66_2, L_66_3, C_66, L_129_0, L_129_1, L_129_2, L_129_3, C_129, L_198_0, L_198_1, L_198_2, L_198_3, L_198_4, L_198_5, L_198_6, L_198_7, L_198_8, L_198_9, L_198_10, L_198_11, L_198_12, L_198_13, L_198_14, L_198_15, L_198_16, L_198_17, L_198_18, L_198_19, L_198_20, L_198_21, L_198_22, L_198_23, L_198_24, L_198_25, L_198_26, L_198_27, L_198_28, L_198_29, L_198_30, L_198_31, L_198_32, L_198_33, L_198_34, L_198_35, L_198_36, L_198_37, L_198_38, L_198_39, L_198_40, L_198_41, L_198_42, L_198_43, L_198_44, L_198_45, L_198_46, L_198_47, L_198_48, C_198, A_199, A_200, A_201, A_202, A_203, A_204, A_205, A_206, A_207, A_208, A_209, A_210, A_211, A_212, A_213, A_214, A_215, A_216, A_217, A_218, A_219, A_220, A_221, A_222, A_223, A_224, A_225, A_226, A_227, A_228, A_128, A_191, A_rf, A_rs, A_rt, Q_4, Q_67, Q_130, t_240_3_1, t_240_3_2]
  | succ k ih =>
    intro z G L hC hbt hS hz hk hl
    obtain ⟨G1, g0, g1, g2, g3, g4⟩ := hS.add (B := B) (d := d) (by omega) hC hb hbt (by omega) hx
    have ws := mkSort (K := K) (d := d) (H := hH K N G B) (b := b) (x := cM x) (by omega) cM_b
    obtain ⟨G', i1, i2, i3, i4⟩ := ih (z + 1) G1 (L ++ [x]) g2 (Nat.le_trans hbt g3.1) g4 (by omega) (by omega) (by rw [List.length_append]; show L.length + 1 + k ≤ 100; omega)
    refine ⟨G', e_240_3 _ ?_, i2, (g3.tr i3).le (by omega) (by omega), by rw [List.append_assoc] at i4; exact i4⟩
    have hG : (hH K N G B).2.1 = G.2.1 := rfl
    rw [hG] at ws
    unfold t_240_3
    simp (disch := omega) only [rI_d, rJ_d, rR_d, rN_d, wF_d, xI_d, xJ_d, xD_d, xQ_d, yI_d, yJ_d, yD_d, yQ_d, dI_s, dJ_s, dR_s, dN_s, dN_n, dH_s, dX_s, dL_s, dD_s, dQ_s, bC_r, bC_t, kI_s, kJ_s, kF_s, kD_s, kR_s, kV_s, I_lit, I_neg, I_add, I_sub, I_mul, I_ltT, I_ltF, I_leT, I_leF, I_eqT, I_eqF, c_int, c_long, c_obj, c_arr, c_bool, c_boolN, c_boolF, vn_bool, c_charN, vn_char, b2_f, b2_t, Int.toNat_natCast, ↓reduceIte, eq_self, and_self, and_true, true_and, not_false_eq_true, not_true_eq_false, L_0_0, L_0_1, L_0_2, L_0_3, L_0_4, L_0_5, L_0_6, L_0_7, L_0_8, L_0_9, L_0_10, L_0_11, L_0_12, L_0_13, L_0_14, L_0_15, C_0, L_1_0, L_1_1, L_1_2, C_1, L_2_0, L_2_1, L_2_2, C_2, L_3_0, L_3_1, L_3_2, C_3, L_65_0, L_65_1, L_65_2, L_65_3, L_65_4, C_65, L_66_0, L_66_1, L_66_2, L_66_3, C_66, L_129_0, L_129_1, L_129_2, L_129_3, C_129, L_198_0, L_198_1, L_198_2, L_198_3, L_198_4, L_198_5, L_198_6, L_198_7, L_198_8, L_198_9, L_198_10, L_198_11, L_198_12, L_198_13, L_198_14, L_198_15, L_198_16, L_198_17, L_198_18, L_198_19, L_198_20, L_198_21, L_198_22, L_198_23, L_198_24, L_198_25, L_198_26, L_198_27, L_198_28, L_198_29, L_198_30, L_198_31, L_198_32, L_198_33, L_198_34, L_198_35, L_198_36, L_198_37, L_198_38, L_198_39, L_198_40, L_198_41, L_198_42, L_198_43, L_198_44, L_198_45, L_198_46, L_198_47, L_198_48, C_198, A_199, A_200, A_201, A_202, A_203, A_204, A_205, A_206, A_207, A_208, A_209, A_210, A_211, A_212, A_213, A_214, A_215, A_216, A_217, A_218, A_219, A_220, A_221, A_222, A_223, A_224, A_225, A_226, A_227, A_228, A_128, A_191, A_rf, A_rs, A_rt, Q_4, Q_67, Q_130, t_240_3_1, t_240_3_2, hG, ws, g0, g1, i1]
theorem w_240 (hd : 10 ≤ d) {base l b : Nat} {x : Int} (hb : N + 231 ≤ base) (hx : sh[cS x]? = some b) {n : Int} {L : List Int} (hC : CB K N G) (hbt : base ≤ G.2.1) (hS : SLI K G base sh l L) (hn : 0 ≤ n) (hl : L.length + n ≤ 100) :
    ∃ G', gCa K d 240 [.ref l, .ref b, .int (I (cM x)), .int (I n)] (hH K N G B) = some (.inl none, hH K N G' B) ∧ CB K N G' ∧ FR (fun q => base ≤ q) (2 * n.toNat) (202 * n.toNat) G G' ∧ SLI K G' base sh l (L ++ List.replicate n.toNat x) := by
  obtain ⟨d, rfl, hd'⟩ := d_succ (show 9 + 1 ≤ d by omega)
  obtain ⟨G', h1, h2, h3, h4⟩ := l_240 (B := B) (d := d) (by omega) hb hx (n := n) (by omega) n.toNat 0 G L hC hbt hS (by omega) (by omega) (by omega)
  refine ⟨G', c_240 _ ?_, h2, h3, h4⟩
  unfold t_240_0
  simp only [I_lit, I_neg, I_add, I_sub, I_mul, I_ltT, I_ltF, I_leT, I_leF, I_eqT, I_eqF, c_int, c_long, c_obj, c_arr, c_bool, c_boolN, c_boolF, vn_bool, c_charN, vn_char, b2_f, b2_t]
  exact h1
end
