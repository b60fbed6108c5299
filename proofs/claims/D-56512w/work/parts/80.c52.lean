/-! PURE 91: pieces taken out of the stock -/
set_option maxRecDepth 100000
section
noncomputable def tkS (M : gM) (st g : Int) (l : List (Nat × Int)) : Nat → Int := fun j => cif (∃ q ∈ l, q.1 = j / 2) (stM M st g ((M.1 7)) j) (M.2 208 j)
noncomputable def tkM (M : gM) (st g : Int) (l : List (Nat × Int)) : gM := (M.1, fun o => if o = 208 then tkS M st g l else M.2 o)
variable {K : gK} {P : Nat → Prop} {d : Nat} {H : gH} {ro : Nat → Nat} {a i : Nat} {M M' : gM} {cl sh : List Nat} {p : List (Nat × Int)}
theorem STP.upd (hb : HB H) (hkn : H.1 (K.2 3) = none) (h : STP K P H ro a i M p sh) : ∃ l, H.1 a = some (.inr (8, [.ref l, .int (I (M.2 219 i))])) ∧ FR (WO H ro (20 + i)) 0 0 H (gset H a (.inr (8, [.ref l, .int (I (M'.2 219 i))]))) ∧ STP K P (gset H a (.inr (8, [.ref l, .int (I (M'.2 219 i))]))) (roN H ro (20 + i)) a i M' p sh := by
  obtain ⟨l, lmc, le, ca, h1, c1, c2, c4, c5, hQ, r1, r2, r4⟩ := h
  have f1 : FR (WO H ro (20 + i)) 0 0 H (gset H a (.inr (8, [.ref l, .int (I (M'.2 219 i))]))) := (FR.set hb h1).mono (fun q _ hq => by subst hq; exact ⟨r1, _, h1, Or.inr (Or.inl rfl)⟩)
  have o1 : ∀ {x : Nat} {en : gE}, H.1 x = some en → (∀ fs, en ≠ .inr (8, fs)) → (gset H a (.inr (8, [.ref l, .int (I (M'.2 219 i))]))).1 x = some en := fun {x en} hx h4 => by
    rw [gs_ne]
    · exact hx
    · rintro rfl; exact h4 _ (Option.some.inj (hx.symm.trans h1))
  have n1 : (gset H a (.inr (8, [.ref l, .int (I (M'.2 219 i))]))).1 (K.2 3) = none := by
    rw [gs_ne]
    · exact hkn
    · rintro e; rw [e] at hkn; cases hkn.symm.trans h1
  have rl : ∀ {x : Nat} {en : gE}, H.1 x = some en → roN H ro (20 + i) x = ro x := fun {x en} hx => if_neg (Nat.not_le.mpr (hb.lt hx))
  refine ⟨l, h1, f1, l, lmc, le, ca, gs_eq, o1 c1 (fun fs e => by cases e), ?_, c4, fun j c q q1 q2 => ?_, ?_, (rl h1).trans r1, (rl c1).trans r2, r4⟩
  · rcases c2 with ⟨q1, q2, q3⟩ | ⟨q0, cap, f, q1, q2⟩
    · exact Or.inl ⟨q1, by rw [q1]; exact n1, q3⟩
    · exact Or.inr ⟨q0, cap, f, o1 q1 (fun fs e => by cases e), q2⟩
  · obtain ⟨b, z1, z2⟩ := c5 j c q q1 q2
    exact ⟨b, z1, o1 z2 (fun fs e => by cases e)⟩
  · rcases hQ with q | q
    · exact Or.inl q
    · refine Or.inr ?_
      show (if H.2.1 ≤ le then 20 + i else ro le) = 20 + i
      split <;> first | rfl | exact q
theorem nd_at {l : List (Nat × Int)} (h : (l.map Prod.fst).Nodup) {y : Nat} {q q' : Nat × Int} (hq : l[y]? = some q) (hq' : q' ∈ l.take y) : q'.1 ≠ q.1 := by
  obtain ⟨j, hj, e⟩ := List.mem_iff_getElem?.mp hq' |>.imp fun j hj => (⟨by
    have h1 := (List.getElem?_eq_some_iff.mp hj).1
    rw [List.length_take] at h1
    omega, by
    have h1 := (List.getElem?_eq_some_iff.mp hj).1
    rw [List.length_take] at h1
    rw [List.getElem?_take_of_lt (by omega)] at hj
    exact hj⟩ : j < y ∧ l[j]? = some q')
  have hp := List.pairwise_iff_getElem.mp (List.pairwise_map.mp h)
  obtain ⟨b1, b2'⟩ := List.getElem?_eq_some_iff.mp hq
  obtain ⟨b3, b4⟩ := List.getElem?_eq_some_iff.mp e
  have := hp j y b3 b1 hj
  rw [b2', b4] at this
  exact this
theorem tkS_all (hP : PSW p M i sh.length) (hn : (M.1 7) = (sh.length : Int)) (h8 : sh.length ≤ 8) {g : Int} : tkS M (i : Int) g p = stM M (i : Int) g ((M.1 7)) := funext fun j => by
  unfold tkS
  by_cases e : ∃ q ∈ p, q.1 = j / 2
  · rw [cifT e]
  · rw [cifF e]
    unfold stM
    by_cases z : (j : Int) < 2 * (M.1 7)
    · have hc : M.2 218 (8 * i + j / 2) = 0 := Classical.byContradiction fun h => e ⟨_, hP.2.2 (j / 2) (by omega) h, rfl⟩
      rw [if_pos z, show (8 * (i : Int) + (j : Int) / 2).toNat = 8 * i + j / 2 by omega, hc, Int.mul_zero]
      split
      · omega
      · split <;> omega
    · rw [if_neg z]
end
section
variable {K : gK} {d N : Nat} {G G' : gH} {B B' B0 : gB} {M M' : gM} {ro : Nat → Nat} {sh st pc : List Nat} {cs : Nat → List Nat} {ps : Nat → List (Nat × Int)} {a i : Nat}
theorem cs_id {y : Nat} : (fun j => if j = y then cs y else cs j) = cs := funext fun j => by
  by_cases e : j = y
  · rw [if_pos e, e]
  · rw [if_neg e]
theorem l_192 (hd : 3 ≤ d) (h8 : sh.length ≤ 8) (hi : st[i]? = some a) {g : Int} (hpr : ∀ s, 0 ≤ M.2 201 s ∧ M.2 201 s ≤ 1) : ∀ (n y : Nat) (G : gH) (ro : Nat → Nat) (o3 : Option Value), y + n = (ps i).length → CR K N G B ro (tkM M (i : Int) g ((ps i).take y)) sh st pc cs ps →
    ∃ G' ro', gRn K d 192 2 [some (.ref a), some (.int (I g)), some (.int (I (y : Int))), o3] [] (hH K N G B) = some (.inl none, hH K N G' B) ∧ G'.2 = G.2 ∧ CR K N G' B ro' (tkM M (i : Int) g (ps i)) sh st pc cs ps := by
  intro n
  induction n with
  | zero =>
    intro y G ro o3 hn hR
    obtain ⟨p', mc, e, ca, h1, c1, c2, c3, c4⟩ := hR.part hi
    have hP := (hR.sy hi).2
    have hl : (ps i).length ≤ 8 := by
      have h1 := (hP.perm h8).length_eq
      rw [h1]
      unfold cps
      rw [List.length_map]
      have := List.length_filter_le (fun s => decide ((tkM M (i : Int) g ((ps i).take y)).2 218 (8 * i + s) ≠ 0)) (List.range sh.length)
      rw [List.length_range] at this
      omega
    have g0 := gf_of h1 0
    simp only [List.getElem?_cons_zero] at g0
    have cc := cl_of c1
    have sz := w_110 (K := K) (d := d) (by omega) c1
    rw [c3] at sz
    have hR' := hR
    rw [List.take_of_length_le (by omega)] at hR'
    refine ⟨G, ro, ?_, rfl, hR'⟩
    refine e_192_2 _ ?_
    unfold t_192_2
    simp (disch := omega) only [rI_d, rJ_d, rR_d, rN_d, wF_d, xI_d, xJ_d, xD_d, xQ_d, yI_d, yJ_d, yD_d, yQ_d, dI_s, dJ_s, dR_s, dN_s, dN_n, dH_s, dX_s, dL_s, dD_s, dQ_s, bC_r, bC_t, kI_s, kJ_s, kF_s, kD_s, kR_s, kV_s, I_lit, I_neg, I_add, I_sub, I_mul, I_ltT, I_ltF, I_leT, I_leF, I_eqT, I_eqF, c_int, c_long, c_obj, c_arr, c_bool, c_boolN, c_boolF, vn_bool, c_charN, vn_char, b2_f, b2_t, Int.toNat_natCast, ↓reduceIte, eq_self, and_self, and_true, true_and, not_false_eq_true, not_true_eq_false, L_0_0, L_0_1, L_0_2, L_0_3, L_0_4, L_0_5, L_0_6, L_0_7, L_0_8, L_0_9, L_0_10, L_0_11, L_0_12, L_0_13, L_0_14, L_0_15, C_0, L_1_0, L_1_1, L_1_2, C_1, L_2_0, L_2_1, L_2_2, C_2, L_3_0, L_3_1, L_3_2, C_3, L_65_0, L_65_1, L_65_2, L_65_3, L_65_4, C_65, L_66_0, L_66_1, L_66_2, L_66_3, C_66, L_129_0, L_129_1, L_129_2, L_129_3, C_129, L_198_0, L_198_1, L_198_2, L_198_3, L_198_4, L_198_5, L_198_6, L_198_7, L_198_8, L_198_9, L_198_10, L_198_11, L_198_12, L_198_13, L_198_14, L_198_15, L_198_16, L_198_17, L_198_18, L_198_19, L_198_20, L_198_21, L_198_22, L_198_23, L_198_24, L_198_25, L_198_26, L_198_27, L_198_28, L_198_29, L_198_30, L_198_31, L_198_32, L_198_33, L_198_34, L_198_35, L_198_36, L_198_37, L_198_38, L_198_39, L_198_40, L_198_41, L_198_42, L_198_43, L_198_44, L_198_45, L_198_46, L_198_47, L_198_48, C_198, A_199, A_200, A_201, A_202, A_203, A_204, A_205, A_206, A_207, A_208, A_209, A_210, A_211, A_212, A_213, A_214, A_215, A_216, A_217, A_218, A_219, A_220, A_221, A_222, A_223, A_224, A_225, A_226, A_227, A_228, A_128, A_191, A_rf, A_rs, A_rt, Q_4, Q_67, Q_130, t_192_2_1, t_192_2_2, t_192_2_3, t_192_2_4, t_192_2_5, t_192_2_6, t_192_2_7, g0, cc, sz]
  | succ n ih =>
    intro y G ro o3 hn hR
    have hR := hR.z
    have hC := hR.1
    obtain ⟨p', mc, e, ca, h1, c1, c2, c3, c4⟩ := hR.part hi
    have hP := (hR.sy hi).2
    have hl : (ps i).length ≤ 8 := by
      have h1 := (hP.perm h8).length_eq
      rw [h1]
      unfold cps
      rw [List.length_map]
      have := List.length_filter_le (fun s => decide ((tkM M (i : Int) g ((ps i).take y)).2 218 (8 * i + s) ≠ 0)) (List.range sh.length)
      rw [List.length_range] at this
      omega
    have g0 := gf_of h1 0
    simp only [List.getElem?_cons_zero] at g0
    have cc := cl_of c1
    have sz := w_110 (K := K) (d := d) (by omega) c1
    rw [c3] at sz
    have hyl : y < (ps i).length := by omega
    have hk : (ps i)[y]? = some (ps i)[y] := List.getElem?_eq_getElem hyl
    have hmem : (ps i)[y] ∈ ps i := List.getElem_mem hyl
    have htk : (ps i).take (y + 1) = (ps i).take y ++ [(ps i)[y]] := by
      rw [List.take_add_one, hk]; rfl
    generalize (ps i)[y] = q at hk hmem htk
    obtain ⟨c, b, k1, k2, k3⟩ := c4 _ _ hk
    obtain ⟨m1, m2, m3⟩ := hP.2.1 q hmem
    have m2' : M.2 218 (8 * i + q.1) = q.2 := m2
    have hnin : ∀ q' ∈ (ps i).take y, q'.1 ≠ q.1 := fun q' hq' => nd_at hP.1 hk hq'
    have hsh : (M.1 7) = (sh.length : Int) := hR.nn.1
    have wg := w_178 (K := K) (d := d) (by omega) c1 c2 (z := (y : Int)) (by omega) (x := c) (by rw [Int.toNat_natCast]; exact k1) (by omega)
    have k4 := cl_of k3
    have k5 := gf_of k3 0
    have k6 := gf_of k3 1
    simp only [List.getElem?_cons_zero, List.getElem?_cons_succ] at k5 k6
    have A0 : ∀ l, (tkM M (i : Int) g l).2 208 = tkS M (i : Int) g l := fun l => rfl
    have E0 : tkS M (i : Int) g ((ps i).take y) (2 * q.1) = M.2 208 (2 * q.1) := cifF (by rintro ⟨q', h1, h2⟩; exact hnin q' h1 (by omega))
    have E1 : tkS M (i : Int) g ((ps i).take y) (2 * q.1 + 1) = M.2 208 (2 * q.1 + 1) := cifF (by rintro ⟨q', h1, h2⟩; exact hnin q' h1 (by omega))
    have F0 : tkS M (i : Int) g ((ps i).take (y + 1)) (2 * q.1) = M.2 208 (2 * q.1) - q.2 * g := by
      unfold tkS
      rw [cifT ⟨q, by rw [htk]; exact List.mem_append_right _ (List.mem_singleton.mpr rfl), by omega⟩]
      unfold stM
      rw [if_pos (by omega), if_pos (by omega), show (8 * (i : Int) + ((2 * q.1 : Nat) : Int) / 2).toNat = 8 * i + q.1 by omega, m2', Int.mul_comm]
    have F1 : tkS M (i : Int) g ((ps i).take (y + 1)) (2 * q.1 + 1) = M.2 208 (2 * q.1 + 1) - (if M.2 201 q.1 = 0 then 0 else q.2 * g) := by
      unfold tkS
      rw [cifT ⟨q, by rw [htk]; exact List.mem_append_right _ (List.mem_singleton.mpr rfl), by omega⟩]
      unfold stM
      rw [if_pos (by omega), if_neg (by omega), show (8 * (i : Int) + ((2 * q.1 + 1 : Nat) : Int) / 2).toNat = 8 * i + q.1 by omega, m2', Int.mul_comm, show (2 * q.1 + 1) / 2 = q.1 by omega]
    have hSE : ∀ j, j ≠ q.1 → SE (tkM M (i : Int) g ((ps i).take y)) (tkM M (i : Int) g ((ps i).take (y + 1))) j := fun j hj => by
      have key : ∀ x, x / 2 = j → tkS M (i : Int) g ((ps i).take (y + 1)) x = tkS M (i : Int) g ((ps i).take y) x := fun x hx => by
        unfold tkS
        refine cif_of ⟨fun ⟨q', h1, h2⟩ => ?_, fun ⟨q', h1, h2⟩ => ⟨q', by rw [htk]; exact List.mem_append_left _ h1, h2⟩⟩ (fun _ => rfl) (fun _ => rfl)
        rw [htk] at h1
        rcases List.mem_append.mp h1 with h1 | h1
        · exact ⟨q', h1, h2⟩
        · have := List.mem_singleton.mp h1
          rw [this] at h2
          omega
      exact ⟨rfl, rfl, rfl, key _ (by omega), key _ (by omega), rfl, rfl, rfl⟩
    obtain ⟨p'', mk, vr, u0, f1, f2⟩ := (hR.sp k2).1.upd (hC.hb (B := B)) hC.e (M' := tkM M (i : Int) g ((ps i).take (y + 1))) ⟨rfl, rfl, rfl, rfl, rfl⟩
    obtain ⟨r1, r2⟩ := hR.shp k2 f1 f2 (hR.sp k2).2 (fun _ _ => rfl) (fun o h1 h2 => (if_neg (by omega)).trans (if_neg (by omega)).symm) hSE (fun _ _ => rfl) h8
    have u1 := cl_of u0
    have wt := w_225 (K := K) (d := d) (by omega) (c := q.2 * g) u0 rfl (x1 := M.2 201 q.1) (x5 := M.2 208 (2 * q.1)) (x6 := M.2 208 (2 * q.1 + 1)) rfl (by rw [← E0]; rfl) (by rw [← E1]; rfl) (hpr q.1)
    have hgs : gset (hH K N G B) b (.inr (4, ((shF K (tkM M (i : Int) g ((ps i).take y)) q.1 p'' mk vr).set 5 (.int (I (M.2 208 (2 * q.1) - q.2 * g)))).set 6 (.int (I (M.2 208 (2 * q.1 + 1) - (if M.2 201 q.1 = 0 then 0 else q.2 * g)))))) = hH K N (dn N (gset (hH K N G B) b (.inr (4, shF K (tkM M (i : Int) g ((ps i).take (y + 1))) q.1 p'' mk vr)))) B := by
      rw [← r1, ← F0, ← F1]
      rfl
    rw [hgs] at wt
    have hdn : (dn N (gset (hH K N G B) b (.inr (4, shF K (tkM M (i : Int) g ((ps i).take (y + 1))) q.1 p'' mk vr)))).2 = G.2 := rfl
    generalize dn N (gset (hH K N G B) b (.inr (4, shF K (tkM M (i : Int) g ((ps i).take (y + 1))) q.1 p'' mk vr))) = G2 at *
    rw [cs_id] at r2
    obtain ⟨G', ro', i1, i3, i4⟩ := ih (y + 1) G2 _ (some (.ref c)) (by omega) r2
    refine ⟨G', ro', ?_, i3.trans hdn, i4⟩
    rw [show ((y + 1 : Nat) : Int) = (y : Int) + 1 by omega] at i1
    refine e_192_2 _ ?_
    unfold t_192_2
    simp (disch := omega) only [rI_d, rJ_d, rR_d, rN_d, wF_d, xI_d, xJ_d, xD_d, xQ_d, yI_d, yJ_d, yD_d, yQ_d, dI_s, dJ_s, dR_s, dN_s, dN_n, dH_s, dX_s, dL_s, dD_s, dQ_s, bC_r, bC_t, kI_s, kJ_s, kF_s, kD_s, kR_s, kV_s, I_lit, I_neg, I_add, I_sub, I_mul, I_ltT, I_ltF, I_leT, I_leF, I_eqT, I_eqF, c_int, c_long, c_obj, c_arr, c_bool, c_boolN, c_boolF, vn_bool, c_charN, vn_char, b2_f, b2_t, Int.toNat_natCast, ↓reduceIte, eq_self, and_self, and_true, true_and, not_false_eq_true, not_true_eq_false, L_0_0, L_0_1, L_0_2, L_0_3, L_0_4, L_0_5, L_0_6, L_0_7, L_0_8, L_0_9, L_0_10, L_0_11, L_0_12, L_0_13, L_0_14, L_0_15, C_0, L_1_0, L_1_1, L_1_2, C_1, L_2_0, L_2_1, L_2_2, C_2, L_3_0, L_3_1, L_3_2, C_3, L_65_0, L_65_1, L_65_2, L_65_3, L_65_4, C_65, L_66_0, L_66_1, L_66_2, L_66_3, C_66, L_129_0, L_129_1, L_129_2, L_129_3, C_129, L_198_0, L_198_1, L_198_2, L_198_3, L_198_4, L_198_5, L_198_6, L_198_7, L_198_8, L_198_9, L_198_10, L_198_11, L_198_12, L_198_13, L_198_14, L_198_15, L_198_16, L_198_17, L_198_18, L_198_19, L_198_20, L_198_21, L_198_22, L_198_23, L_198_24, L_198_25, L_198_26, L_198_27, L_198_28, L_198_29, L_198_30, L_198_31, L_198_32, L_198_33, L_198_34, L_198_35, L_198_36, L_198_37, L_198_38, L_198_39, L_198_40, L_198_41, L_198_42, L_198_43, L_198_44, L_198_45, L_198_46, L_198_47, L_198_48, C_198, A_199, A_200, A_201, A_202, A_203, A_204, A_205, A_206, A_207, A_208, A_209, A_210, A_211, A_212, A_213, A_214, A_215, A_216, A_217, A_218, A_219, A_220, A_221, A_222, A_223, A_224, A_225, A_226, A_227, A_228, A_128, A_191, A_rf, A_rs, A_rt, Q_4, Q_67, Q_130, t_192_2_1, t_192_2_2, t_192_2_3, t_192_2_4, t_192_2_5, t_192_2_6, t_192_2_7, g0, cc, sz, wg, k4, k5, k6, u1, wt, i1]
end
