/-! PURE 84: a style gets a part -/
set_option maxRecDepth 100000
section
variable {K : gK} {P : Nat → Prop} {d : Nat} {H : gH} {ro : Nat → Nat} {a i : Nat} {M : gM} {p : List (Nat × Int)} {sh : List Nat}
theorem get_appA {α : Type} {l : List α} {k : α} {j : Nat} {x : α} (h : (l ++ [k])[j]? = some x) : (j < l.length ∧ l[j]? = some x) ∨ (j = l.length ∧ x = k) := by
  by_cases hj : j < l.length
  · rw [List.getElem?_append_left hj] at h
    exact Or.inl ⟨hj, h⟩
  · rw [List.getElem?_append_right (by omega)] at h
    by_cases h0 : j - l.length = 0
    · rw [h0] at h
      exact Or.inr ⟨by omega, (Option.some.inj h).symm⟩
    · rw [List.getElem?_eq_none (by show 1 ≤ j - l.length; omega)] at h
      cases h
theorem mkPart (hd : 1 ≤ d) {b : Nat} {c : Int} : gCa K d 183 [.ref H.2.1, .ref b, .int (I c)] (gnew H (.inr (9, [.null, .int (I 0)])) 2) = some (.inl none, gnew H (.inr (9, [.ref b, .int (I c)])) 2) := by
  obtain ⟨d, rfl, hd'⟩ := d_succ (show 0 + 1 ≤ d by omega)
  have n1 : ∀ {x y : Value}, (gnew H (.inr (9, [x, y])) 2).1 H.2.1 = some (.inr (9, [x, y])) := gn_eq
  have s0 : ∀ {x y z : Value}, g_pf (gnew H (.inr (9, [x, y])) 2) H.2.1 9 0 z = some (gnew H (.inr (9, [z, y])) 2) := fun {x y z} => by rw [pf_of n1 (by decide : 0 < 2), gs_gn]; rfl
  have s1 : ∀ {x y z : Value}, g_pf (gnew H (.inr (9, [x, y])) 2) H.2.1 9 1 z = some (gnew H (.inr (9, [x, z])) 2) := fun {x y z} => by rw [pf_of n1 (by decide : 1 < 2), gs_gn]; rfl
  refine c_183 _ ?_
  unfold t_183_0
  simp (disch := omega) only [rI_d, rJ_d, rR_d, rN_d, wF_d, xI_d, xJ_d, xD_d, xQ_d, yI_d, yJ_d, yD_d, yQ_d, dI_s, dJ_s, dR_s, dN_s, dN_n, dH_s, dX_s, dL_s, dD_s, dQ_s, bC_r, bC_t, kI_s, kJ_s, kF_s, kD_s, kR_s, kV_s, I_lit, I_neg, I_add, I_sub, I_mul, I_ltT, I_ltF, I_leT, I_leF, I_eqT, I_eqF, c_int, c_long, c_obj, c_arr, c_bool, c_boolN, c_boolF, vn_bool, c_charN, vn_char, b2_f, b2_t, Int.toNat_natCast, ↓reduceIte, eq_self, and_self, and_true, true_and, not_false_eq_true, not_true_eq_false, L_0_0, L_0_1, L_0_2, L_0_3, L_0_4, L_0_5, L_0_6, L_0_7, L_0_8, L_0_9, L_0_10, L_0_11, L_0_12, L_0_13, L_0_14, L_0_15, C_0, L_1_0, L_1_1, L_1_2, C_1, L_2_0, L_2_1, L_2_2, C_2, L_3_0, L_3_1, L_3_2, C_3, L_65_0, L_65_1, L_65_2, L_65_3, L_65_4, C_65, L_66_0, L_66_1, L_66_2, L_66_3, C_66, L_129_0, L_129_1, L_129_2, L_129_3, C_129, L_198_0, L_198_1, L_198_2, L_198_3, L_198_4, L_198_5, L_198_6, L_198_7, L_198_8, L_198_9, L_198_10, L_198_11, L_198_12, L_198_13, L_198_14, L_198_15, L_198_16, L_198_17, L_198_18, L_198_19, L_198_20, L_198_21, L_198_22, L_198_23, L_198_24, L_198_25, L_198_26, L_198_27, L_198_28, L_198_29, L_198_30, L_198_31, L_198_32, L_198_33, L_198_34, L_198_35, L_198_36, L_198_37, L_198_38, L_198_39, L_198_40, L_198_41, L_198_42, L_198_43, L_198_44, L_198_45, L_198_46, L_198_47, L_198_48, C_198, A_199, A_200, A_201, A_202, A_203, A_204, A_205, A_206, A_207, A_208, A_209, A_210, A_211, A_212, A_213, A_214, A_215, A_216, A_217, A_218, A_219, A_220, A_221, A_222, A_223, A_224, A_225, A_226, A_227, A_228, A_128, A_191, A_rf, A_rs, A_rt, Q_4, Q_67, Q_130, t_183_0_1, t_183_0_2, s0, s1]
theorem growP (hd : 8 ≤ d) (hb : HB H) (hk3 : K.2 3 < H.2.1) (hkn : H.1 (K.2 3) = none) (h : STP K P H ro a i M p sh) (hl : p.length ≤ 8) {s b : Nat} {c : Int} (hs : sh[s]? = some b) :
    ∃ l H2, g_gf H a 8 0 = some (.ref l) ∧ g_cls (gnew H (.inr (9, [.ref b, .int (I c)])) 2) l = some 12 ∧ gCa K d 156 [.ref l, .ref H.2.1] (gnew H (.inr (9, [.ref b, .int (I c)])) 2) = some (.inl (some (.int (I 1))), H2) ∧ FR (WO H ro (20 + i)) 2 202 H H2 ∧ STP K P H2 (roN H ro (20 + i)) a i M (p ++ [(s, c)]) sh := by
  obtain ⟨l, lmc, le, ca, h1, c1, c2, c4, c5, hQ, r1, r2, r4⟩ := h
  have la := hb.lt h1
  have lp := hb.lt c1
  have s4 := gf_of h1 0
  simp only [List.getElem?_cons_zero] at s4
  have f1 : FR (WO H ro (20 + i)) 1 2 H (gnew H (.inr (9, [.ref b, .int (I c)])) 2) := FR.new hb
  have x1 : (gnew H (.inr (9, [.ref b, .int (I c)])) 2).1 H.2.1 = some (.inr (9, [.ref b, .int (I c)])) := gn_eq
  have p1 : ALo (gnew H (.inr (9, [.ref b, .int (I c)])) 2) l lmc le ca.length := (gn_lt lp).trans c1
  have a1 : (gnew H (.inr (9, [.ref b, .int (I c)])) 2).1 a = _ := (gn_lt la).trans h1
  have n1 : (gnew H (.inr (9, [.ref b, .int (I c)])) 2).1 (K.2 3) = none := (gn_lt hk3).trans hkn
  have k1 : (gnew H (.inr (9, [.ref b, .int (I c)])) 2).2.1 = H.2.1 + 1 := rfl
  have e1 : ARR K (gnew H (.inr (9, [.ref b, .int (I c)])) 2) le ca := by
    rcases c2 with ⟨q1, q2, q3⟩ | ⟨q0, cap, f, q1, q2⟩
    · exact Or.inl ⟨q1, by rw [q1]; exact n1, q3⟩
    · exact Or.inr ⟨q0, cap, f, (gn_lt (hb.lt q1)).trans q1, q2⟩
  have w1 : ∀ q, q = l ∨ (q = le ∧ (gnew H (.inr (9, [.ref b, .int (I c)])) 2).1 le ≠ none) → WO H ro (20 + i) q := by
    rintro q (rfl | ⟨rfl, q0⟩)
    · exact ⟨r2, _, c1, Or.inr (Or.inr (Or.inr rfl))⟩
    · rcases c2 with ⟨q1, q2, q3⟩ | ⟨q0, cap, f, q1, q2⟩
      · exact absurd (by rw [q1]; exact n1) q0
      · exact ⟨hQ.resolve_left q0, _, q1, Or.inl rfl⟩
  have hcells : ∀ (j x : Nat) (q : Nat × Int), ca[j]? = some x → p[j]? = some q → ∃ b, sh[q.1]? = some b ∧ (gnew H (.inr (9, [.ref b, .int (I c)])) 2).1 x = (gnew H (.inr (9, [.ref b, .int (I c)])) 2).1 x ∧ H.1 x = some (.inr (9, [.ref b, .int (I q.2)])) := fun j x q q1 q2 => by
    obtain ⟨b', z1, z2⟩ := c5 j x q q1 q2
    exact ⟨b', z1, rfl, z2⟩
  have up : ∀ {x : Nat} {en : gE}, H.1 x = some en → (gnew H (.inr (9, [.ref b, .int (I c)])) 2).1 x = some en := fun {x en} hx => (gn_lt (hb.lt hx)).trans hx
  have hob : ∀ x ∈ ca, OBJ (gnew H (.inr (9, [.ref b, .int (I c)])) 2) x := fun x hx => by
    obtain ⟨j, hj⟩ := List.mem_iff_getElem?.mp hx
    obtain ⟨k, hk⟩ := at_lt (l := p) (i := j) (by have := (List.getElem?_eq_some_iff.mp hj).1; omega)
    obtain ⟨b', z1, z2⟩ := c5 j x k hj hk
    exact ⟨9, cl_of (up z2), by omega⟩
  have hb1 := f1.hb
  clear hcells
  generalize hH1 : gnew H (.inr (9, [.ref b, .int (I c)])) 2 = H1 at *
  obtain ⟨H2, mc', e', g1, g2, g3, g4, g5⟩ := w_156 (K := K) (d := d) (by omega) hb1 (by omega) p1 e1 (by omega) hob (v := H.2.1) ⟨9, cl_of x1, by omega⟩
  have f2 : FR (WO H ro (20 + i)) 1 200 H1 H2 := g5.mono (fun q _ hq => w1 q hq)
  have out : ∀ {x : Nat} {en : gE}, H1.1 x = some en → (∀ fs, en ≠ .inr (12, fs)) → (∀ y, en ≠ .inl (5, y)) → H2.1 x = some en := fun {x en} hx h12 h5 => by
    refine g5.at hb1 hx ?_
    rintro (rfl | ⟨rfl, -⟩)
    · exact h12 _ (Option.some.inj (hx.symm.trans p1))
    · rcases e1 with ⟨q1, q2, q3⟩ | ⟨q0, cap, f, q1, q2⟩
      · rw [hx] at q2; cases q2
      · exact h5 _ (Option.some.inj (hx.symm.trans q1))
  have a2 := out a1 (fun fs e => by cases e) (fun y e => by cases e)
  have x2 := out x1 (fun fs e => by cases e) (fun y e => by cases e)
  have hQ' : e' = K.2 3 ∨ roN H ro (20 + i) e' = 20 + i := by
    rcases g4 with rfl | rfl
    · rcases hQ with q | q
      · exact Or.inl q
      · refine Or.inr ?_
        show (if H.2.1 ≤ e' then 20 + i else ro e') = 20 + i
        split <;> first | rfl | exact q
    · refine Or.inr ?_
      show (if H.2.1 ≤ H1.2.1 then 20 + i else ro H1.2.1) = 20 + i
      rw [if_pos (by omega)]
  have rl : ∀ q, q < H.2.1 → roN H ro (20 + i) q = ro q := fun q hq => if_neg (by omega)
  refine ⟨l, H2, s4, cl_of p1, g1, (f1.tr f2).le (by omega) (by omega), l, mc', e', ca ++ [H.2.1], a2, by rw [List.length_append]; exact g2, g3, by rw [List.length_append, List.length_append, c4]; rfl, fun j x q q1 q2 => ?_, hQ', (rl a la).trans r1, (rl l lp).trans r2, r4⟩
  rcases get_app q1 with ⟨q3, q4⟩ | ⟨q3, q4⟩
  · rcases get_appA q2 with ⟨q5, q6⟩ | ⟨q5, q6⟩
    · obtain ⟨b', z1, z2⟩ := c5 j x q q4 q6
      exact ⟨b', z1, out (up z2) (fun fs e => by cases e) (fun y e => by cases e)⟩
    · omega
  · rcases get_appA q2 with ⟨q5, q6⟩ | ⟨q5, q6⟩
    · omega
    · rw [q4, q6]
      exact ⟨b, hs, x2⟩
end
