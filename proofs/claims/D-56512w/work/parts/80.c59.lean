/-! PURE 98: the first pieces of an order nested -/
set_option maxRecDepth 100000
section
/-- the spot and the sheet for trials may have changed -/
def TL (B B' : gB) : Prop := (∀ o k, o ≠ 65 → (o ≠ 129 ∨ k ≠ 2) → B'.1 o k = B.1 o k) ∧ (∀ o j, (o < 131 ∨ 191 < o) → B'.2.1 o j = B.2.1 o j) ∧ B'.2.2 = B.2.2
theorem TL.rf {B : gB} : TL B B := ⟨fun _ _ _ _ => rfl, fun _ _ _ => rfl, rfl⟩
theorem TL.tr {B B' B'' : gB} (h : TL B B') (h' : TL B' B'') : TL B B'' := ⟨fun o k h1 h2 => (h'.1 o k h1 h2).trans (h.1 o k h1 h2), fun o j h1 => (h'.2.1 o j h1).trans (h.2.1 o j h1), h'.2.2.trans h.2.2⟩
theorem TL.sq {B B' : gB} (h : SQ B B') : TL B B' := ⟨fun o k h1 _ => h.1 o k (Or.inl h1), fun o j _ => by rw [h.2], by rw [h.2]⟩
theorem TL.shq {B B' : gB} (h : SHQ 129 B B') : TL B B' := ⟨fun o k _ h2 => h.1 o k h2, fun o j h1 => h.2.1 o j (by omega), h.2.2⟩
theorem TL.kp {B B' : gB} (h : TL B B') : KP B B' := ⟨fun o k h1 => h.1 o k (by omega) (by omega), fun o j h1 => h.2.1 o j (by omega), h.2.2⟩
theorem TL.ch {B : gB} {a : Nat} {m : Int} : TL B (chB B a m) := ⟨fun o k h1 _ => ch_ne h1, fun _ _ _ => rfl, rfl⟩
theorem TL.cl {B : gB} : TL B (clS B 129) := ⟨fun o k h1 h2 => if_neg (by omega), fun o j h1 => (if_neg (by omega)).trans (if_neg (by omega)), rfl⟩
/-- the sheet for trials shows τ -/
def TST (B : gB) (τ : gT2) : Prop := ∃ cc, SHT B 129 cc τ.2 ∧ SHB cc τ.2 ∧ nz cc = τ.1
/-- the length of a trial; 61: not possible -/
def rl (o : Option gT2) : Int := match o with | some τ => tlen τ | none => 61
theorem nz_cl0 : nz cl0 = cl0 := funext fun q => by
  show (if (if q < 720 then (-1 : Int) else 0) = -1 then (-1 : Int) else 0) = (if q < 720 then (-1 : Int) else 0)
  split <;> rfl
theorem TST.cl {B : gB} : TST (clS B 129) ts0 := by
  refine ⟨cl0, ⟨fun r c hr hc => ?_, fun g hg => ?_, ?_⟩, ⟨fun j => ?_, fun j _ => ⟨by show (-1 : Int) ≤ -1; omega, by show (-1 : Int) ≤ 1000; omega⟩⟩, nz_cl0⟩
  · show (if 131 ≤ 129 + 2 + r ∧ 129 + 2 + r < 191 ∧ c < 12 then (-1 : Int) else _) = fill (fun _ => 0) (-1) 720 (12 * r + c)
    rw [if_pos (by omega)]
    exact (if_pos (by omega)).symm
  · have e : ∀ o j, (clS B 129).2.1 o j = if 129 + 2 ≤ o ∧ o < 129 + 62 ∧ j < 12 then -1 else if o = 129 + 62 ∧ j < 4 then -1 else B.2.1 o j := fun _ _ => rfl
    rw [e, if_neg (by omega), if_pos ⟨rfl, hg⟩]
  · have e : ∀ o k, (clS B 129).1 o k = if o = 129 ∧ k = 2 then 0 else B.1 o k := fun _ _ => rfl
    rw [e, if_pos ⟨rfl, rfl⟩]
    exact lng_fill.symm
  · show -1 ≤ (if j < 720 then (-1 : Int) else 0) ∧ (if j < 720 then (-1 : Int) else 0) ≤ 1000
    split <;> omega
/-- the object of orders, and its array -/
def ORD (G : gH) (N o l oa : Nat) (gv lv : Int) (n : Nat) (f : Nat → Int) : Prop := G.1 o = some (.inr (11, [.ref l, .int (I gv), .ref oa, .int (I lv), .ref N])) ∧ G.1 oa = some (.inl (0, n, .inl (fun j => I (f j))))
variable {K : gK} {d N : Nat} {G G' : gH} {B B' B0 : gB} {M : gM} {ro : Nat → Nat} {sh st pc : List Nat} {cs : Nat → List Nat} {ps : Nat → List (Nat × Int)} {o l oa n : Nat} {gv lv : Int} {f : Nat → Int}
theorem CR.tl (h : CR K N G B ro M sh st pc cs ps) (q : TL B B') : CR K N G B' ro M sh st pc cs ps := h.b (fun o k h1 h2 => q.1 o k h2 (by omega)) (fun o j h1 => q.2.1 o j (by omega))
theorem ORD.rd (hb : N + 231 ≤ o) (h : ORD G N o l oa gv lv n f) : g_cls (hH K N G B) o = some 11 ∧ g_gf (hH K N G B) o 11 0 = some (.ref l) ∧ g_gf (hH K N G B) o 11 1 = some (.int (I gv)) ∧ g_gf (hH K N G B) o 11 2 = some (.ref oa) ∧ g_gf (hH K N G B) o 11 3 = some (.int (I lv)) ∧ g_gf (hH K N G B) o 11 4 = some (.ref N) := by
  have h1 : (hH K N G B).1 o = _ := (hH_dyn hb).trans h.1
  exact ⟨cl_of h1, gf_of h1 0, gf_of h1 1, gf_of h1 2, gf_of h1 3, gf_of h1 4⟩
theorem ORD.ar (hb : N + 231 ≤ oa) (h : ORD G N o l oa gv lv n f) (hn : n ≤ 1000000) {z : Int} (hz : 0 ≤ z ∧ z < n) : g_ia (hH K N G B) oa 0 (I z) = some (I (f z.toNat)) := ia_of ((hH_dyn hb).trans h.2) hz hn
theorem l_241 (hd : 9 ≤ d) (hw : MW B0) (hru : RU (tw B0)) (ho : N + 231 ≤ o) (hoa : N + 231 ≤ oa) (hO : ORD G N o l oa gv lv n f) (hn : n ≤ 4) {base : Nat} (hb : N + 231 ≤ base) {L : List Int} (hS : SLI K G base sh l L) (hL : L.length ≤ 4) {mm : Nat} (hmm : mm ≤ n) : ∀ (ys : List Int) (z : Nat) (B : gB) (τ : gT2) (o3 : Option Value), z + ys.length = mm → (∀ j x, ys[j]? = some x → 0 ≤ f (z + j) ∧ L[(f (z + j)).toNat]? = some x) → CR K N G B ro (tw B0) sh st pc cs ps → TST B τ →
    ∃ B', gRn K d 241 12 [some (.ref o), some (.int (I (mm : Int))), some (.int (I (z : Int))), o3] [] (hH K N G B) = some (.inl (some (.int (I (rl (runL (tw B0) (dl (tw B0)) τ ys))))), hH K N G B') ∧ TL B B' := by
  intro ys
  induction ys with
  | nil =>
    intro z B τ o3 hz hf hR hT
    have hz' : z = mm := hz
    obtain ⟨-, r0, r1, r2, r3, r4⟩ := hO.rd (K := K) (B := B) ho
    obtain ⟨cc, s1, s2, s3⟩ := hT
    have hlen : B.1 129 2 = tlen τ := by
      rw [s1.2.2, ← lng_nz, s3]
    refine ⟨B, e_241_12 _ ?_, TL.rf⟩
    unfold t_241_12
    simp (disch := omega) only [rI_d, rJ_d, rR_d, rN_d, wF_d, xI_d, xJ_d, xD_d, xQ_d, yI_d, yJ_d, yD_d, yQ_d, dI_s, dJ_s, dR_s, dN_s, dN_n, dH_s, dX_s, dL_s, dD_s, dQ_s, bC_r, bC_t, kI_s, kJ_s, kF_s, kD_s, kR_s, kV_s, I_lit, I_neg, I_add, I_sub, I_mul, I_ltT, I_ltF, I_leT, I_leF, I_eqT, I_eqF, c_int, c_long, c_obj, c_arr, c_bool, c_boolN, c_boolF, vn_bool, c_charN, vn_char, b2_f, b2_t, Int.toNat_natCast, ↓reduceIte, eq_self, and_self, and_true, true_and, not_false_eq_true, not_true_eq_false, L_0_0, L_0_1, L_0_2, L_0_3, L_0_4, L_0_5, L_0_6, L_0_7, L_0_8, L_0_9, L_0_10, L_0_11, L_0_12, L_0_13, L_0_14, L_0_15, C_0, L_1_0, L_1_1, L_1_2, C_1, L_2_0, L_2_1, L_2_2, C_2, L_3_0, L_3_1, L_3_2, C_3, L_65_0, L_65_1, L_65_2, L_65_3, L_65_4, C_65, L_66_0, L_66_1, L_66_2, L_66_3, C_66, L_129_0, L_129_1, L_129_2, L_129_3, C_129, L_198_0, L_198_1, L_198_2, L_198_3, L_198_4, L_198_5, L_198_6, L_198_7, L_198_8, L_198_9, L_198_10, L_198_11, L_198_12, L_198_13, L_198_14, L_198_15, L_198_16, L_198_17, L_198_18, L_198_19, L_198_20, L_198_21, L_198_22, L_198_23, L_198_24, L_198_25, L_198_26, L_198_27, L_198_28, L_198_29, L_198_30, L_198_31, L_198_32, L_198_33, L_198_34, L_198_35, L_198_36, L_198_37, L_198_38, L_198_39, L_198_40, L_198_41, L_198_42, L_198_43, L_198_44, L_198_45, L_198_46, L_198_47, L_198_48, C_198, A_199, A_200, A_201, A_202, A_203, A_204, A_205, A_206, A_207, A_208, A_209, A_210, A_211, A_212, A_213, A_214, A_215, A_216, A_217, A_218, A_219, A_220, A_221, A_222, A_223, A_224, A_225, A_226, A_227, A_228, A_128, A_191, A_rf, A_rs, A_rt, Q_4, Q_67, Q_130, t_241_0_1, t_241_0_2, t_241_0_3, t_241_12_1, t_241_12_2, t_241_12_3, t_241_12_4, t_241_12_5, t_241_12_6, t_241_12_7, t_241_12_8, t_241_12_9, t_241_12_10, t_241_12_11, t_241_12_12, t_241_12_13, t_241_12_14, t_241_12_15, t_241_12_16, t_241_12_17, t_241_12_18, t_241_12_19, r4, hlen]
    rfl
  | cons x ys ih =>
    intro z B τ o3 hz hf hR hT
    have hC := hR.1
    obtain ⟨oc, r0, r1, r2, r3, r4⟩ := hO.rd (K := K) (B := B) ho
    have hzl : z < mm := by
      have : z + (ys.length + 1) = mm := hz
      omega
    obtain ⟨f1, f2⟩ := hf 0 x rfl
    rw [Nat.add_zero] at f1 f2
    have hfl := (List.getElem?_eq_some_iff.mp f2).1
    have ar := hO.ar (K := K) (B := B) hoa (by omega) (z := (z : Int)) (by omega)
    rw [Int.toNat_natCast] at ar
    obtain ⟨mc, e, ca, c1, c2, c3, c4, c5, c6⟩ := hS.rd (B := B) hC hb
    obtain ⟨c, hc⟩ := at_lt (l := ca) (i := (f z).toNat) (by omega)
    obtain ⟨-, b, k1, k2⟩ := c6 _ _ _ hc f2
    have h8 := h8_of hw hR
    have hs8 : cS x < 8 := by
      have := (List.getElem?_eq_some_iff.mp k1).1
      omega
    have wg := w_178 (K := K) (d := d) (by omega) c1 c2 (z := f z) f1 hc (by omega)
    have cc1 := cl_of c1
    have cc2 := cl_of k2
    have k5 := gf_of k2 0
    have k6 := gf_of k2 1
    simp only [List.getElem?_cons_zero, List.getElem?_cons_succ] at k5 k6
    have hm := cM_b (x := x)
    have wc := w_163 (K := K) (N := N) (G := G) (B := B) (d := d) (by omega) (a := b) (m := cM x) hm
    have hsp := CR.spot hw hR h8.1 k1 hm
    obtain ⟨cc, s1, s2, s3⟩ := hT
    have s1' : SHT (chB B b (cM x)) 129 cc τ.2 := ⟨fun r c hr hc => s1.1 r c hr hc, fun g hg => s1.2.1 g hg, (ch_ne (by omega)).trans s1.2.2⟩
    have hrs := hru (cS x) (by
      have h1 : (tw B0).1 7 = (sh.length : Int) := hR.nn.1
      have := (List.getElem?_eq_some_iff.mp k1).1
      omega)
    obtain ⟨B2, w1, w2, w3⟩ := w_173 (d := d) (by omega) hw hsp hrs (Or.inr rfl) s1' s2
    have hnst : nst (tw B0) cc τ.2 (cS x) (dl (tw B0) (cS x)) (cM x) = nst (tw B0) τ.1 τ.2 (cS x) (dl (tw B0) (cS x)) (cM x) := by rw [← nst_nz, s3]
    have hO2 := hO.rd (K := K) (B := B2) ho
    have hO1 := hO.rd (K := K) (B := chB B b (cM x)) ho
    rw [hnst] at w1 w3
    cases hk : nst (tw B0) τ.1 τ.2 (cS x) (dl (tw B0) (cS x)) (cM x) with
    | none =>
      have hrun : runL (tw B0) (dl (tw B0)) τ (x :: ys) = none := by
        show (stpL (tw B0) (dl (tw B0)) τ x).bind _ = none
        unfold stpL
        rw [hk]; rfl
      rw [hk, b2F (fun h => h rfl)] at w1
      rw [hrun]
      refine ⟨B2, e_241_12 _ ?_, TL.ch.tr (TL.sq w2)⟩
      unfold t_241_12
      simp (disch := omega) only [rI_d, rJ_d, rR_d, rN_d, wF_d, xI_d, xJ_d, xD_d, xQ_d, yI_d, yJ_d, yD_d, yQ_d, dI_s, dJ_s, dR_s, dN_s, dN_n, dH_s, dX_s, dL_s, dD_s, dQ_s, bC_r, bC_t, kI_s, kJ_s, kF_s, kD_s, kR_s, kV_s, I_lit, I_neg, I_add, I_sub, I_mul, I_ltT, I_ltF, I_leT, I_leF, I_eqT, I_eqF, c_int, c_long, c_obj, c_arr, c_bool, c_boolN, c_boolF, vn_bool, c_charN, vn_char, b2_f, b2_t, Int.toNat_natCast, ↓reduceIte, eq_self, and_self, and_true, true_and, not_false_eq_true, not_true_eq_false, L_0_0, L_0_1, L_0_2, L_0_3, L_0_4, L_0_5, L_0_6, L_0_7, L_0_8, L_0_9, L_0_10, L_0_11, L_0_12, L_0_13, L_0_14, L_0_15, C_0, L_1_0, L_1_1, L_1_2, C_1, L_2_0, L_2_1, L_2_2, C_2, L_3_0, L_3_1, L_3_2, C_3, L_65_0, L_65_1, L_65_2, L_65_3, L_65_4, C_65, L_66_0, L_66_1, L_66_2, L_66_3, C_66, L_129_0, L_129_1, L_129_2, L_129_3, C_129, L_198_0, L_198_1, L_198_2, L_198_3, L_198_4, L_198_5, L_198_6, L_198_7, L_198_8, L_198_9, L_198_10, L_198_11, L_198_12, L_198_13, L_198_14, L_198_15, L_198_16, L_198_17, L_198_18, L_198_19, L_198_20, L_198_21, L_198_22, L_198_23, L_198_24, L_198_25, L_198_26, L_198_27, L_198_28, L_198_29, L_198_30, L_198_31, L_198_32, L_198_33, L_198_34, L_198_35, L_198_36, L_198_37, L_198_38, L_198_39, L_198_40, L_198_41, L_198_42, L_198_43, L_198_44, L_198_45, L_198_46, L_198_47, L_198_48, C_198, A_199, A_200, A_201, A_202, A_203, A_204, A_205, A_206, A_207, A_208, A_209, A_210, A_211, A_212, A_213, A_214, A_215, A_216, A_217, A_218, A_219, A_220, A_221, A_222, A_223, A_224, A_225, A_226, A_227, A_228, A_128, A_191, A_rf, A_rs, A_rt, Q_4, Q_67, Q_130, t_241_0_1, t_241_0_2, t_241_0_3, t_241_12_1, t_241_12_2, t_241_12_3, t_241_12_4, t_241_12_5, t_241_12_6, t_241_12_7, t_241_12_8, t_241_12_9, t_241_12_10, t_241_12_11, t_241_12_12, t_241_12_13, t_241_12_14, t_241_12_15, t_241_12_16, t_241_12_17, t_241_12_18, t_241_12_19, r0, r2, ar, cc1, wg, cc2, r4, k5, k6, wc, hO1.2.2.2.2.2, w1]
      rfl
    | some j =>
      have hrun : runL (tw B0) (dl (tw B0)) τ (x :: ys) = runL (tw B0) (dl (tw B0)) (putM (tw B0) τ (cS x) (dl (tw B0) (cS x)) ((j : Int) % 4) ((j : Int) / 48) ((j : Int) / 4 % 12) (cM x)) ys := by
        show (stpL (tw B0) (dl (tw B0)) τ x).bind _ = _
        unfold stpL
        rw [hk]; rfl
      have w3' := w3 j hk
      rw [hk, b2T (fun h => by cases h)] at w1
      obtain ⟨p1, p2, p3⟩ := fst1_some _ _ _ hk
      have hperm := (hR.sp k1).2
      have hins := (ins_of_rsn ((rsn_p hperm).trans p1)).2.2.2.1
      have s1'' : SHT B2 129 cc τ.2 := SHT.sq s1' w2 (by omega)
      obtain ⟨B3, v1, v2, v3⟩ := w_208 (d := d) (by omega) hw w3' (Or.inr rfl) (by omega) hins (v := (z : Int)) (by omega) s1''
      have hT3 : TST B3 (putM (tw B0) τ (cS x) (dl (tw B0) (cS x)) ((j : Int) % 4) ((j : Int) / 48) ((j : Int) / 4 % 12) (cM x)) := by
        have er : rmP (tw B0) τ.2 (cS x) (cs (cS x)) ((j : Int) % 4) (cM x) ((j : Int) / 48) = (putM (tw B0) τ (cS x) (dl (tw B0) (cS x)) ((j : Int) % 4) ((j : Int) / 48) ((j : Int) / 4 % 12) (cM x)).2 := funext fun g => by
          show cif _ (rem (tw B0) (_ + mb (tw B0) (cS x) (cs (cS x)) _ _)) _ = cif _ (rem (tw B0) (_ + mb (tw B0) (cS x) (dl (tw B0) (cS x)) _ _)) _
          rw [mb_p hperm]
        rw [er] at v3
        refine ⟨_, v3, ⟨fun q => ?_, fun g hg => ?_⟩, ?_⟩
        · unfold putC
          by_cases e : ∃ k ∈ cs (cS x), q = (12 * ((j : Int) / 48 + oR (cs (cS x)) ((j : Int) % 4) (cM x) k) + ((j : Int) / 4 % 12 + oC (cs (cS x)) ((j : Int) % 4) (cM x) k)).toNat
          · rw [cifT e]; omega
          · rw [cifF e]; exact s2.1 q
        · show -1 ≤ cif _ (rem (tw B0) _) (τ.2 g) ∧ cif _ (rem (tw B0) _) (τ.2 g) ≤ 1000
          by_cases e : marked (tw B0) (cS x) ∧ g = ((tw B0).2 204 (cS x)).toNat
          · rw [cifT e]
            have := rem_b hw e.1.2 (x := (j : Int) / 48 + mb (tw B0) (cS x) (dl (tw B0) (cS x)) ((j : Int) % 4) (cM x))
            omega
          · rw [cifF e]; exact s2.2 g hg
        · rw [putC_nz (by omega), s3, putC_p hperm]; rfl
      have hR3 : CR K N G B3 ro (tw B0) sh st pc cs ps := ((hR.tl TL.ch).tl (TL.sq w2)).tl (TL.shq v2)
      obtain ⟨B', i1, i2⟩ := ih (z + 1) B3 _ (some (.ref c)) (by
        have : z + (ys.length + 1) = mm := hz
        omega) (fun j' x' hx' => by
        have := hf (j' + 1) x' hx'
        rw [show z + 1 + j' = z + (j' + 1) by omega]; exact this) hR3 hT3
      rw [hrun]
      refine ⟨B', e_241_12 _ ?_, ((TL.ch.tr (TL.sq w2)).tr (TL.shq v2)).tr i2⟩
      rw [show ((z + 1 : Nat) : Int) = (z : Int) + 1 by omega] at i1
      unfold t_241_12
      simp (disch := omega) only [rI_d, rJ_d, rR_d, rN_d, wF_d, xI_d, xJ_d, xD_d, xQ_d, yI_d, yJ_d, yD_d, yQ_d, dI_s, dJ_s, dR_s, dN_s, dN_n, dH_s, dX_s, dL_s, dD_s, dQ_s, bC_r, bC_t, kI_s, kJ_s, kF_s, kD_s, kR_s, kV_s, I_lit, I_neg, I_add, I_sub, I_mul, I_ltT, I_ltF, I_leT, I_leF, I_eqT, I_eqF, c_int, c_long, c_obj, c_arr, c_bool, c_boolN, c_boolF, vn_bool, c_charN, vn_char, b2_f, b2_t, Int.toNat_natCast, ↓reduceIte, eq_self, and_self, and_true, true_and, not_false_eq_true, not_true_eq_false, L_0_0, L_0_1, L_0_2, L_0_3, L_0_4, L_0_5, L_0_6, L_0_7, L_0_8, L_0_9, L_0_10, L_0_11, L_0_12, L_0_13, L_0_14, L_0_15, C_0, L_1_0, L_1_1, L_1_2, C_1, L_2_0, L_2_1, L_2_2, C_2, L_3_0, L_3_1, L_3_2, C_3, L_65_0, L_65_1, L_65_2, L_65_3, L_65_4, C_65, L_66_0, L_66_1, L_66_2, L_66_3, C_66, L_129_0, L_129_1, L_129_2, L_129_3, C_129, L_198_0, L_198_1, L_198_2, L_198_3, L_198_4, L_198_5, L_198_6, L_198_7, L_198_8, L_198_9, L_198_10, L_198_11, L_198_12, L_198_13, L_198_14, L_198_15, L_198_16, L_198_17, L_198_18, L_198_19, L_198_20, L_198_21, L_198_22, L_198_23, L_198_24, L_198_25, L_198_26, L_198_27, L_198_28, L_198_29, L_198_30, L_198_31, L_198_32, L_198_33, L_198_34, L_198_35, L_198_36, L_198_37, L_198_38, L_198_39, L_198_40, L_198_41, L_198_42, L_198_43, L_198_44, L_198_45, L_198_46, L_198_47, L_198_48, C_198, A_199, A_200, A_201, A_202, A_203, A_204, A_205, A_206, A_207, A_208, A_209, A_210, A_211, A_212, A_213, A_214, A_215, A_216, A_217, A_218, A_219, A_220, A_221, A_222, A_223, A_224, A_225, A_226, A_227, A_228, A_128, A_191, A_rf, A_rs, A_rt, Q_4, Q_67, Q_130, t_241_0_1, t_241_0_2, t_241_0_3, t_241_12_1, t_241_12_2, t_241_12_3, t_241_12_4, t_241_12_5, t_241_12_6, t_241_12_7, t_241_12_8, t_241_12_9, t_241_12_10, t_241_12_11, t_241_12_12, t_241_12_13, t_241_12_14, t_241_12_15, t_241_12_16, t_241_12_17, t_241_12_18, t_241_12_19, r0, r2, ar, cc1, wg, cc2, r4, k5, k6, wc, hO1.2.2.2.2.2, w1, hO2.2.2.2.2.2, v1, i1]
theorem w_241 (hd : 10 ≤ d) (hw : MW B0) (hru : RU (tw B0)) (ho : N + 231 ≤ o) (hoa : N + 231 ≤ oa) (hO : ORD G N o l oa gv lv n f) (hn : n ≤ 4) {base : Nat} (hb : N + 231 ≤ base) {L : List Int} (hS : SLI K G base sh l L) (hL : L.length ≤ 4) {ys : List Int} (hmm : ys.length ≤ n) (hf : ∀ j x, ys[j]? = some x → 0 ≤ f j ∧ L[(f j).toNat]? = some x) (hR : CR K N G B ro (tw B0) sh st pc cs ps) :
    ∃ B', gCa K d 241 [.ref o, .int (I (ys.length : Int))] (hH K N G B) = some (.inl (some (.int (I (rl (runL (tw B0) (dl (tw B0)) ts0 ys))))), hH K N G B') ∧ TL B B' := by
  obtain ⟨d, rfl, hd'⟩ := d_succ (show 9 + 1 ≤ d by omega)
  obtain ⟨oc, r0, r1, r2, r3, r4⟩ := hO.rd (K := K) (B := B) ho
  have w := w_112b (K := K) (N := N) (G := G) (B := B) (d := d) (by omega)
  obtain ⟨B', h1, h2⟩ := l_241 (d := d) (by omega) hw hru ho hoa hO hn hb hS hL hmm ys 0 (clS B 129) ts0 none (by omega) (fun j x hx => by rw [Nat.zero_add]; exact hf j x hx) (hR.tl TL.cl) TST.cl
  refine ⟨B', c_241 _ ?_, TL.cl.tr h2⟩
  unfold t_241_0
  simp (disch := omega) only [rI_d, rJ_d, rR_d, rN_d, wF_d, xI_d, xJ_d, xD_d, xQ_d, yI_d, yJ_d, yD_d, yQ_d, dI_s, dJ_s, dR_s, dN_s, dN_n, dH_s, dX_s, dL_s, dD_s, dQ_s, bC_r, bC_t, kI_s, kJ_s, kF_s, kD_s, kR_s, kV_s, I_lit, I_neg, I_add, I_sub, I_mul, I_ltT, I_ltF, I_leT, I_leF, I_eqT, I_eqF, c_int, c_long, c_obj, c_arr, c_bool, c_boolN, c_boolF, vn_bool, c_charN, vn_char, b2_f, b2_t, Int.toNat_natCast, ↓reduceIte, eq_self, and_self, and_true, true_and, not_false_eq_true, not_true_eq_false, L_0_0, L_0_1, L_0_2, L_0_3, L_0_4, L_0_5, L_0_6, L_0_7, L_0_8, L_0_9, L_0_10, L_0_11, L_0_12, L_0_13, L_0_14, L_0_15, C_0, L_1_0, L_1_1, L_1_2, C_1, L_2_0, L_2_1, L_2_2, C_2, L_3_0, L_3_1, L_3_2, C_3, L_65_0, L_65_1, L_65_2, L_65_3, L_65_4, C_65, L_66_0, L_66_1, L_66_2, L_66_3, C_66, L_129_0, L_129_1, L_129_2, L_129_3, C_129, L_198_0, L_198_1, L_198_2, L_198_3, L_198_4, L_198_5, L_198_6, L_198_7, L_198_8, L_198_9, L_198_10, L_198_11, L_198_12, L_198_13, L_198_14, L_198_15, L_198_16, L_198_17, L_198_18, L_198_19, L_198_20, L_198_21, L_198_22, L_198_23, L_198_24, L_198_25, L_198_26, L_198_27, L_198_28, L_198_29, L_198_30, L_198_31, L_198_32, L_198_33, L_198_34, L_198_35, L_198_36, L_198_37, L_198_38, L_198_39, L_198_40, L_198_41, L_198_42, L_198_43, L_198_44, L_198_45, L_198_46, L_198_47, L_198_48, C_198, A_199, A_200, A_201, A_202, A_203, A_204, A_205, A_206, A_207, A_208, A_209, A_210, A_211, A_212, A_213, A_214, A_215, A_216, A_217, A_218, A_219, A_220, A_221, A_222, A_223, A_224, A_225, A_226, A_227, A_228, A_128, A_191, A_rf, A_rs, A_rt, Q_4, Q_67, Q_130, t_241_0_1, t_241_0_2, t_241_0_3, t_241_12_1, t_241_12_2, t_241_12_3, t_241_12_4, t_241_12_5, t_241_12_6, t_241_12_7, t_241_12_8, t_241_12_9, t_241_12_10, t_241_12_11, t_241_12_12, t_241_12_13, t_241_12_14, t_241_12_15, t_241_12_16, t_241_12_17, t_241_12_18, t_241_12_19, r4, w]
  exact h1
end
