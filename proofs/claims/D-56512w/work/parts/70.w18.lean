/-! PURE 27: the model's least length -/
set_option maxRecDepth 100000
theorem bit_5 : ∀ q : Fin 5, (I 1 <<< ((I ((q.val : Nat) : Int)) &&& I 31)) - I 1 = I ((2 ^ q.val - 1 : Nat) : Int) := by decide
theorem bit_6 : ∀ q : Fin 5, bs (2 ^ q.val - 1) = List.range q.val ∧ 2 ^ q.val - 1 < 16 := by decide
/-- alike but for what the search for the least length leaves behind -/
def LQ (B B' : gB) : Prop := (∀ o k, (o ≠ 198 ∨ (k ≠ 0 ∧ k ≠ 33 ∧ k ≠ 36 ∧ k ≠ 37 ∧ k ≠ 38 ∧ k ≠ 39 ∧ k ≠ 41 ∧ k ≠ 48)) → B'.1 o k = B.1 o k) ∧ (∀ o, (o < 209 ∨ (214 < o ∧ o < 220 ∧ o ≠ 216) ∨ 228 < o) → B'.2.1 o = B.2.1 o) ∧ (∀ o j : Nat, 209 ≤ o → o ≤ 214 → (j : Int) < (B.1 198 17) → B'.2.1 o j = B.2.1 o j) ∧ (∀ g, B.2.1 217 g ≠ 0 → B'.2.1 216 g = B.2.1 216 g) ∧ B'.2.2 = B.2.2
abbrev cl0 : Nat → Int := fill (fun _ => 0) (-1) 720
abbrev ts0 : gT2 := (cl0, fun _ => -1)
theorem reC_ge {M : gM} (hc : cols M ≤ 12) : ∀ n, (∀ i, i < n → ins M (pL M i) (M.2 213 i) (M.2 214 i) (M.2 211 i) (M.2 212 i)) → ∀ q, 720 ≤ q → reC M n q = 0
  | 0, _, q, hq => by
    simp only [reC, fill]
    exact if_neg (by omega)
  | n + 1, h, q, hq => by
    unfold reC putC
    rw [cifF, reC_ge hc n (fun i hi => h i (by omega)) q hq]
    rintro ⟨k, hk, e⟩
    have := cells_lt (h n (by omega)) (fun k => dlp_lt) hc hk
    omega
theorem reO_ge {B : gB} (hw : MW B) : ∀ n g, 4 ≤ g → reO (tw B) n g = 0
  | 0, g, hg => rfl
  | n + 1, g, hg => by
    unfold reO
    rw [cifF, reO_ge hw n g hg]
    rintro ⟨-, e⟩
    have := mw_group hw (B.2.1 210 n).toNat
    dsimp only [tw] at e
    omega
theorem GI.ge {B : gB} (hw : MW B) (hg : GI B) {q : Nat} (hq : 720 ≤ q) : B.2.1 215 q = 0 := by
  have hm := mw_many hw
  rw [hg.1]
  exact reC_ge (cols_b hw).2 _ (fun i hi => (hg.2.2.2 i (by omega)).1) q hq
theorem emB_f {B : gB} {o k : Nat} (h : o ≠ 198 ∨ (k ≠ 17 ∧ k ≠ 18)) : (emB B).1 o k = B.1 o k := by
  unfold emB
  rw [sI_ne (by omega), sI_ne (by omega)]; rfl
theorem emB_a {B : gB} {o : Nat} (h : o ≠ 215) (h1 : o ≠ 216) (h2 : o ≠ 217) : (emB B).2.1 o = B.2.1 o := by
  unfold emB
  rw [sI_21, sI_21, st_ne h2, st_ne h1, st_ne h]
theorem emB_cl {B : gB} : (emB B).2.1 215 = fill (B.2.1 215) (-1) 720 := by
  unfold emB
  rw [sI_21, sI_21, st_ne (by omega), st_ne (by omega), st_eq]
theorem emB_ph {B : gB} : (emB B).2.1 216 = fill (B.2.1 216) (-1) 4 := by
  unfold emB
  rw [sI_21, sI_21, st_ne (by omega), st_eq]
theorem emB_og {B : gB} : (emB B).2.1 217 = fill (B.2.1 217) 0 4 := by
  unfold emB
  rw [sI_21, sI_21, st_eq]
theorem emB_many {B : gB} : (emB B).1 198 17 = 0 := by
  unfold emB
  rw [sI_ne (by omega), sI_eq rfl]
theorem emB_next {B : gB} : (emB B).1 198 18 = 0 := by
  unfold emB
  rw [sI_eq rfl]
theorem fill_b {f : Nat → Int} {v a b : Int} {z : Nat} (h : ∀ j, a ≤ f j ∧ f j ≤ b) (hv : a ≤ v ∧ v ≤ b) : ∀ j, a ≤ fill f v z j ∧ fill f v z j ≤ b := by
  intro j
  unfold fill
  split
  · exact hv
  · exact h j
theorem emB_mw {B : gB} (hw : MW B) : MW (emB B) := by
  unfold emB
  have h1 : MW (stA B 215 (fill (B.2.1 215) (-1) 720)) := mwst hw (fill_b (mw_cloth hw) (by show (-1 : Int) ≤ -1 ∧ (-1 : Int) ≤ 1000; omega))
  have h2 : MW (stA (stA B 215 (fill (B.2.1 215) (-1) 720)) 216 (fill (B.2.1 216) (-1) 4)) := mwst h1 (fill_b (mw_phase hw) (by show (-1 : Int) ≤ -1 ∧ (-1 : Int) ≤ 5; omega))
  have h3 : MW (stA (stA (stA B 215 (fill (B.2.1 215) (-1) 720)) 216 (fill (B.2.1 216) (-1) 4)) 217 (fill (B.2.1 217) 0 4)) := mwst h2 (fill_b (mw_ofGroup hw) (by show (0 : Int) ≤ 0 ∧ (0 : Int) ≤ 40; omega))
  exact ms_next (ms_many h3 (by omega)) (by omega)
section
variable {K : gK} {d N : Nat} {G : gH} {B : gB}
theorem w_128 (hd : 14 ≤ d) (hw : MW B) (hi : MI B) (hg : GI B) (h999 : (B.1 198 18) ≤ 900) : ∃ B' a, gCa K d 128 [.ref (N + 198)] (hH K N G B) = some (.inl (some (.int (I a))), hH K N G B') ∧ LQ B B' ∧ MW B' ∧ (0 ≤ a ∧ a ≤ 61) ∧ (∀ (u : List Nat) τ, u.Perm (List.range ((B.1 198 41)).toNat) → runL (tw B) (dl (tw B)) ts0 (u.map (B.2.1 222)) = some τ → a ≤ tlen τ) ∧ (a = 61 ∨ ∃ (u : List Nat) (τ : gT2), u.Perm (List.range ((B.1 198 41)).toNat) ∧ runL (tw B) (dl (tw B)) ts0 (u.map (B.2.1 222)) = some τ ∧ a = tlen τ) := by
  obtain ⟨d, rfl, hd'⟩ := d_succ (show 13 + 1 ≤ d by omega)
  have hm := mw_many hw
  have hq := mw_queued hw
  have hnx := mw_next hw
  have b5 := bit_5 ⟨((B.1 198 41)).toNat, by omega⟩
  have b6 := bit_6 ⟨((B.1 198 41)).toNat, by omega⟩
  dsimp only at b5 b6
  rw [show ((((B.1 198 41)).toNat : Nat) : Int) = (B.1 198 41) by omega] at b5
  -- the cloth put aside
  have hw1 : MW (cpB B ((B.1 198 17)).toNat) := cpB_mw hw
  have hwe := emB_mw hw1
  have hwl : MW (sI (emB (cpB B ((B.1 198 17)).toNat)) 198 48 61) := ms_least hwe (by omega)
  have ea : ∀ o, (o < 215 ∨ (217 < o ∧ o < 223) ∨ 228 < o) → (sI (emB (cpB B ((B.1 198 17)).toNat)) 198 48 61).2.1 o = B.2.1 o := fun o h => by
    rw [sI_21, emB_a (by omega) (by omega) (by omega), cpB_a (by omega)]
  have ef : ∀ o k, (o ≠ 198 ∨ (k ≠ 17 ∧ k ≠ 18 ∧ k ≠ 48)) → (sI (emB (cpB B ((B.1 198 17)).toNat)) 198 48 61).1 o k = B.1 o k := fun o k h => by
    rw [sI_ne (by omega), emB_f (by omega)]; rfl
  have eq : nsQ (tw (sI (emB (cpB B ((B.1 198 17)).toNat)) 198 48 61)) = nsQ (tw B) := nsQ_of (fun k _ q2 q3 _ _ _ _ _ _ q10 => ef 198 k (Or.inr ⟨q2, q3, q10⟩)) (fun o h => ea o (by omega))
  have ecl : (sI (emB (cpB B ((B.1 198 17)).toNat)) 198 48 61).2.1 215 = cl0 := by
    rw [sI_21, emB_cl, cpB_a (by omega)]
    funext q
    show (if q < 720 then (-1 : Int) else B.2.1 215 q) = (if q < 720 then -1 else 0)
    by_cases e : q < 720
    · rw [if_pos e, if_pos e]
    · rw [if_neg e, if_neg e]
      exact GI.ge hw hg (by omega)
  have eog : ∀ g, (sI (emB (cpB B ((B.1 198 17)).toNat)) 198 48 61).2.1 217 g = 0 := fun g => by
    rw [sI_21, emB_og, cpB_a (by omega)]
    unfold fill
    by_cases e : g < 4
    · rw [if_pos e]
    · rw [if_neg e, hg.2.2.1]
      exact reO_ge hw _ g (by omega)
  have ets : tS (sI (emB (cpB B ((B.1 198 17)).toNat)) 198 48 61) = ts0 := by
    unfold tS
    rw [ecl]
    refine Prod.ext (funext fun q => ?_) (funext fun g => ?_)
    · show (if (if q < 720 then (-1 : Int) else 0) = -1 then (-1 : Int) else 0) = (if q < 720 then (-1 : Int) else 0)
      by_cases e : q < 720
      · rw [if_pos e, if_pos rfl]
      · rw [if_neg e, if_neg (by decide)]
    · show rmT (tw (sI (emB (cpB B ((B.1 198 17)).toNat)) 198 48 61)) g = -1
      rw [rmT_e, eog, if_pos rfl]
  have emy : (sI (emB (cpB B ((B.1 198 17)).toNat)) 198 48 61).1 198 17 = 0 := by rw [sI_ne (by omega), emB_many]
  have enx : (sI (emB (cpB B ((B.1 198 17)).toNat)) 198 48 61).1 198 18 = 0 := by rw [sI_ne (by omega), emB_next]
  have hT : TI (sI (emB (cpB B ((B.1 198 17)).toNat)) 198 48 61) := by
    refine ⟨⟨hwl, fun s hs => ?_, fun g h => absurd (eog g) h⟩, fun q h => ?_, fun g => ?_⟩
    · rw [ea _ (by omega), qf (fun M => dl M s) (fun _ => rfl) eq]
      exact hi.2.1 s hs
    · rw [ecl, enx]
      show (if q < 720 then (-1 : Int) else 0) < 0
      rw [if_pos h]; decide
    · rw [eog, emy]; exact Int.le_refl _
  obtain ⟨B2, r1, r2, r3, r4⟩ := tr_all (K := K) (N := N) (G := G) ((B.1 198 41)).toNat d (by omega) (2 ^ ((B.1 198 41)).toNat - 1) _ b6.2 (by rw [b6.1, List.length_range]) (fun k hk => by
    rw [b6.1] at hk
    rw [ef _ _ (by omega)]
    have := List.mem_range.mp hk
    omega) hT (by rw [emy]; omega) (by rw [enx]; omega)
  -- laid anew
  have hw3 := emB_mw r3
  have hl0 : LZ B (emB B2) 0 := by
    refine ⟨hw3, fun o k q => ?_, fun o q => ?_, ?_, emB_many, ?_, ?_, ?_, fun o j _ _ q => absurd q (by omega), fun j hj => ?_⟩
    · rw [emB_f (by omega), r2.1 o k (by omega)]
      exact ef o k (by omega)
    · rw [emB_a (by omega) (by omega) (by omega), r2.2.1 o (by omega) (by omega) (by omega) (by omega)]
      exact ea o (by omega)
    · show B2.2.2 = B.2.2
      rw [r2.2.2.2.2]; rfl
    · rw [emB_cl, r2.cl, ecl]
      funext q
      show (if q < 720 then (-1 : Int) else (if q < 720 then (-1 : Int) else 0)) = (if q < 720 then (-1 : Int) else 0)
      by_cases e : q < 720
      · rw [if_pos e, if_pos e]
      · rw [if_neg e]
    · funext g
      rw [rmT_e, emB_og, r2.og]
      have : fill ((sI (emB (cpB B ((B.1 198 17)).toNat)) 198 48 61).2.1 217) 0 4 g = 0 := by
        unfold fill
        split
        · rfl
        · exact eog g
      rw [if_pos this]; rfl
    · funext g
      rw [emB_og, r2.og]
      show fill ((sI (emB (cpB B ((B.1 198 17)).toNat)) 198 48 61).2.1 217) 0 4 g = 0
      unfold fill
      split
      · rfl
      · exact eog g
    · have kk : ∀ o, 223 ≤ o → o ≤ 228 → (emB B2).2.1 o j = (cpB B ((B.1 198 17)).toNat).2.1 o j := fun o q1 q2 => by
        rw [emB_a (by omega) (by omega) (by omega), r2.2.1 o (by omega) (by omega) (by omega) (by omega), sI_21, emB_a (by omega) (by omega) (by omega)]
      have cp : ∀ f g : Nat → Int, cpF f g ((B.1 198 17)).toNat j = f j := fun f g => if_pos (by omega)
      rw [kk _ (by omega) (by omega), kk _ (by omega) (by omega), kk _ (by omega) (by omega), kk _ (by omega) (by omega), kk _ (by omega) (by omega), kk _ (by omega) (by omega)]
      unfold cpB
      refine ⟨?_, ?_, ?_, ?_, ?_, ?_⟩
      · rw [st_ne (by omega), st_ne (by omega), st_ne (by omega), st_ne (by omega), st_ne (by omega), st_eq]; exact cp _ _
      · rw [st_ne (by omega), st_ne (by omega), st_ne (by omega), st_ne (by omega), st_eq]; exact cp _ _
      · rw [st_ne (by omega), st_ne (by omega), st_ne (by omega), st_eq]; exact cp _ _
      · rw [st_ne (by omega), st_ne (by omega), st_eq]; exact cp _ _
      · rw [st_ne (by omega), st_eq]; exact cp _ _
      · rw [st_eq]; exact cp _ _
  have e48 : (emB B2).1 198 48 = (B2.1 198 48) := emB_f (by omega)
  have k2 := fun o4 => l_128_2 (K := K) (d := d) (N := N) (G := G) (by omega) hw hg h999 ((B.1 198 17)).toNat 0 (emB B2) o4 (by omega) (by omega) hl0
  have hls := mw_least r3
  obtain ⟨B', k3, k4, -⟩ := k2 none
  rw [e48] at k3
  have H : gRn K d 128 12 [some (.ref (N + 198)), some (.int (I ((B.1 198 17)))), some (.int (I ((B.1 198 18)))), some (.int (I ((B.1 198 17)))), none] [] (hH K N G (cpB B ((B.1 198 17)).toNat)) = some (.inl (some (.int (I ((B2.1 198 48))))), hH K N G (sI B' 198 18 ((B.1 198 18)))) := by
    refine e_128_12 _ ?_
    have w87 := w_87 (K := K) (d := d) (N := N) (G := G) (B0 := cpB B ((B.1 198 17)).toNat) (by omega)
    have w87' := w_87 (K := K) (d := d) (N := N) (G := G) (B0 := B2) (by omega)
    have f41 := ef 198 41 (by omega)
    unfold t_128_12
    simp (disch := omega) only [rI_d, rJ_d, rR_d, rN_d, wF_d, xI_d, xJ_d, xD_d, xQ_d, yI_d, yJ_d, yD_d, yQ_d, dI_s, dJ_s, dR_s, dN_s, dN_n, dH_s, dX_s, dL_s, dD_s, dQ_s, bC_r, bC_t, kI_s, kJ_s, kF_s, kD_s, kR_s, kV_s, I_lit, I_neg, I_add, I_sub, I_mul, I_ltT, I_ltF, I_leT, I_leF, I_eqT, I_eqF, c_int, c_long, c_obj, c_arr, c_bool, c_boolN, c_boolF, vn_bool, c_charN, vn_char, b2_f, b2_t, Int.toNat_natCast, ↓reduceIte, eq_self, and_self, and_true, true_and, not_false_eq_true, not_true_eq_false, L_0_0, L_0_1, L_0_2, L_0_3, L_0_4, L_0_5, L_0_6, L_0_7, L_0_8, L_0_9, L_0_10, L_0_11, L_0_12, L_0_13, L_0_14, L_0_15, C_0, L_1_0, L_1_1, L_1_2, C_1, L_2_0, L_2_1, L_2_2, C_2, L_3_0, L_3_1, L_3_2, C_3, L_65_0, L_65_1, L_65_2, L_65_3, L_65_4, C_65, L_66_0, L_66_1, L_66_2, L_66_3, C_66, L_129_0, L_129_1, L_129_2, L_129_3, C_129, L_198_0, L_198_1, L_198_2, L_198_3, L_198_4, L_198_5, L_198_6, L_198_7, L_198_8, L_198_9, L_198_10, L_198_11, L_198_12, L_198_13, L_198_14, L_198_15, L_198_16, L_198_17, L_198_18, L_198_19, L_198_20, L_198_21, L_198_22, L_198_23, L_198_24, L_198_25, L_198_26, L_198_27, L_198_28, L_198_29, L_198_30, L_198_31, L_198_32, L_198_33, L_198_34, L_198_35, L_198_36, L_198_37, L_198_38, L_198_39, L_198_40, L_198_41, L_198_42, L_198_43, L_198_44, L_198_45, L_198_46, L_198_47, L_198_48, C_198, A_199, A_200, A_201, A_202, A_203, A_204, A_205, A_206, A_207, A_208, A_209, A_210, A_211, A_212, A_213, A_214, A_215, A_216, A_217, A_218, A_219, A_220, A_221, A_222, A_223, A_224, A_225, A_226, A_227, A_228, A_128, A_191, A_rf, A_rs, A_rt, Q_4, Q_67, Q_130, t_128_0_1, t_128_0_2, t_128_12_1, t_128_12_2, t_128_12_3, t_128_12_4, t_128_12_5, t_128_12_6, t_128_12_7, t_128_12_8, t_128_12_9, t_128_12_10, t_128_12_11, t_128_12_12, t_128_12_13, t_128_12_14, t_128_12_15, t_128_12_16, t_128_12_17, t_128_12_18, t_128_12_19, t_128_12_20, t_128_12_21, t_128_12_22, t_128_12_23, t_128_12_24, t_128_12_25, t_128_12_26, t_128_12_27, t_128_12_28, t_128_12_29, t_128_123_1, t_128_123_2, t_128_123_3, t_128_123_4, t_128_123_5, t_128_123_6, t_128_123_7, t_128_123_8, t_128_123_9, t_128_123_10, t_128_123_11, t_128_123_12, t_128_123_13, t_128_123_14, t_128_123_15, t_128_123_16, t_128_123_17, t_128_123_18, t_128_123_19, t_128_123_20, t_128_123_21, t_128_123_22, t_128_123_23, M_0_8, M_0_9, M_0_10, M_0_11, M_0_12, M_0_13, M_0_14, M_0_15, M_1_0, M_1_1, M_1_2, M_2_0, M_2_1, M_2_2, M_3_0, M_3_1, M_3_2, M_65_0, M_65_1, M_65_2, M_65_3, M_65_4, M_66_2, M_129_2, M_198_0, M_198_1, M_198_2, M_198_3, M_198_4, M_198_5, M_198_7, M_198_17, M_198_18, M_198_28, M_198_31, M_198_32, M_198_33, M_198_36, M_198_37, M_198_38, M_198_39, M_198_41, M_198_48, S_199, S_200, S_201, S_202, S_203, S_204, S_205, S_206, S_207, S_208, S_209, S_210, S_211, S_212, S_213, S_214, S_215, S_216, S_217, S_218, S_219, S_220, S_221, S_222, S_223, S_224, S_225, S_226, S_227, S_228, S_128, S_191, S_rf, S_rs, S_rt, w87, w87', f41, b5, r1, k3]
  have run := l_128_1 hw H ((B.1 198 17)).toNat 0 (by omega) (by omega)
  rw [show (0 : Int).toNat = 0 from rfl, show cpB B 0 = B by unfold cpB; simp only [cpF_0, st_self]] at run
  have hphog : B'.2.1 217 = B.2.1 217 := k4.2.2.2.2.2.2.2.1.trans hg.2.2.1.symm
  have hrm : rmT (tw B') = rmT (tw B) := k4.2.2.2.2.2.2.1.trans hg.2.1.symm
  have m' : (B'.1 198 17) = (B.1 198 17) := by rw [k4.2.2.2.2.1]; omega
  refine ⟨sI B' 198 18 ((B.1 198 18)), (B2.1 198 48), c_128 _ ?_, ⟨fun o k q => ?_, fun o q => ?_, fun o j q1 q2 q3 => ?_, fun g hgg => ?_, ?_⟩, ms_next k4.1 hnx, hls, fun u τ hu hr => ?_, ?_⟩
  · unfold t_128_0
    simp (disch := omega) only [rI_d, rJ_d, rR_d, rN_d, wF_d, xI_d, xJ_d, xD_d, xQ_d, yI_d, yJ_d, yD_d, yQ_d, dI_s, dJ_s, dR_s, dN_s, dN_n, dH_s, dX_s, dL_s, dD_s, dQ_s, bC_r, bC_t, kI_s, kJ_s, kF_s, kD_s, kR_s, kV_s, I_lit, I_neg, I_add, I_sub, I_mul, I_ltT, I_ltF, I_leT, I_leF, I_eqT, I_eqF, c_int, c_long, c_obj, c_arr, c_bool, c_boolN, c_boolF, vn_bool, c_charN, vn_char, b2_f, b2_t, Int.toNat_natCast, ↓reduceIte, eq_self, and_self, and_true, true_and, not_false_eq_true, not_true_eq_false, L_0_0, L_0_1, L_0_2, L_0_3, L_0_4, L_0_5, L_0_6, L_0_7, L_0_8, L_0_9, L_0_10, L_0_11, L_0_12, L_0_13, L_0_14, L_0_15, C_0, L_1_0, L_1_1, L_1_2, C_1, L_2_0, L_2_1, L_2_2, C_2, L_3_0, L_3_1, L_3_2, C_3, L_65_0, L_65_1, L_65_2, L_65_3, L_65_4, C_65, L_66_0, L_66_1, L_66_2, L_66_3, C_66, L_129_0, L_129_1, L_129_2, L_129_3, C_129, L_198_0, L_198_1, L_198_2, L_198_3, L_198_4, L_198_5, L_198_6, L_198_7, L_198_8, L_198_9, L_198_10, L_198_11, L_198_12, L_198_13, L_198_14, L_198_15, L_198_16, L_198_17, L_198_18, L_198_19, L_198_20, L_198_21, L_198_22, L_198_23, L_198_24, L_198_25, L_198_26, L_198_27, L_198_28, L_198_29, L_198_30, L_198_31, L_198_32, L_198_33, L_198_34, L_198_35, L_198_36, L_198_37, L_198_38, L_198_39, L_198_40, L_198_41, L_198_42, L_198_43, L_198_44, L_198_45, L_198_46, L_198_47, L_198_48, C_198, A_199, A_200, A_201, A_202, A_203, A_204, A_205, A_206, A_207, A_208, A_209, A_210, A_211, A_212, A_213, A_214, A_215, A_216, A_217, A_218, A_219, A_220, A_221, A_222, A_223, A_224, A_225, A_226, A_227, A_228, A_128, A_191, A_rf, A_rs, A_rt, Q_4, Q_67, Q_130, t_128_0_1, t_128_0_2, t_128_12_1, t_128_12_2, t_128_12_3, t_128_12_4, t_128_12_5, t_128_12_6, t_128_12_7, t_128_12_8, t_128_12_9, t_128_12_10, t_128_12_11, t_128_12_12, t_128_12_13, t_128_12_14, t_128_12_15, t_128_12_16, t_128_12_17, t_128_12_18, t_128_12_19, t_128_12_20, t_128_12_21, t_128_12_22, t_128_12_23, t_128_12_24, t_128_12_25, t_128_12_26, t_128_12_27, t_128_12_28, t_128_12_29, t_128_123_1, t_128_123_2, t_128_123_3, t_128_123_4, t_128_123_5, t_128_123_6, t_128_123_7, t_128_123_8, t_128_123_9, t_128_123_10, t_128_123_11, t_128_123_12, t_128_123_13, t_128_123_14, t_128_123_15, t_128_123_16, t_128_123_17, t_128_123_18, t_128_123_19, t_128_123_20, t_128_123_21, t_128_123_22, t_128_123_23]
    exact run
  · by_cases e1 : o = 198 ∧ k = 18
    · rw [e1.1, e1.2, sI_eq rfl]
    · rw [sI_ne (by omega)]
      by_cases e2 : o = 198 ∧ k = 17
      · rw [e2.1, e2.2]; exact m'
      · exact k4.2.1 o k (by omega)
  · rw [sI_21]
    by_cases e1 : o = 215
    · subst e1
      exact k4.2.2.2.2.2.1.trans hg.1.symm
    · by_cases e2 : o = 217
      · subst e2; exact hphog
      · exact k4.2.2.1 o (by omega)
  · rw [sI_21]
    exact k4.2.2.2.2.2.2.2.2.1 o j q1 q2 (by omega)
  · rw [sI_21]
    have h1 := congrFun hrm g
    rw [rmT_e, rmT_e, hphog, if_neg hgg, if_neg hgg] at h1
    exact h1
  · exact k4.2.2.2.1
  · have := r4.2.1 u τ (by rw [b6.1]; exact hu)
    rw [ets, run_q eq, ea 222 (by omega)] at this
    exact this hr
  · rcases r4.2.2 with h | ⟨u, τ, h1, h2, h3⟩
    · left
      rw [h, sI_eq rfl]
    · rw [b6.1] at h1
      rw [ets, run_q eq, ea 222 (by omega)] at h2
      exact Or.inr ⟨u, τ, h1, h2, h3⟩
end
