/-! PURE 61: a shape gets a cell, or its mark -/
set_option maxRecDepth 100000
/-- what is one owner's and written in place -/
abbrev WO (H : gH) (ro : Nat → Nat) (o : Nat) : Nat → Prop := fun q => ro q = o ∧ ∃ e, H.1 q = some e ∧ mu e
abbrev roN (H : gH) (ro : Nat → Nat) (o : Nat) : Nat → Nat := fun q => if H.2.1 ≤ q then o else ro q
section
variable {K : gK} {P : Nat → Prop} {d : Nat} {H : gH} {ro : Nat → Nat} {a i : Nat} {M : gM} {cl : List Nat}
theorem grow (hd : 8 ≤ d) (hP : ∀ a, H.2.1 ≤ a → P a) (hb : HB H) (hk3 : K.2 3 < H.2.1) (hkn : H.1 (K.2 3) = none) (h : SHP K P H ro a i M cl) (hl : cl.length ≤ 24) (hl2 : ∀ k ∈ cl, k < 25) {r c : Int} (hr : 0 ≤ r ∧ r ≤ 4) (hc : 0 ≤ c ∧ c ≤ 4) :
    ∃ p H2 H3, g_gf H a 4 2 = some (.ref p) ∧ g_cls (gnew H (.inr (5, [.int (I r), .int (I c)])) 2) p = some 12 ∧ gCa K d 156 [.ref p, .ref H.2.1] (gnew H (.inr (5, [.int (I r), .int (I c)])) 2) = some (.inl (some (.int (I 1))), H2) ∧ g_cls H2 a = some 4 ∧ gCa K d 162 [.ref a] H2 = some (.inl none, H3) ∧ g_gf H3 a 4 2 = some (.ref p) ∧ g_cls H3 p = some 12 ∧ gCa K d 110 [.ref p] H3 = some (.inl (some (.int (I ((cl.length : Int) + 1)))), H3) ∧ FR (WO H ro (10 + i)) 858 2626 H H3 ∧ SHP K P H3 (roN H ro (10 + i)) a i M (cl ++ [(5 * r + c).toNat]) := by
  obtain ⟨p, mk, vr, h1, ⟨lmc, le, ca, c1, c2, hQ, c4, c5⟩, h3, ⟨vf, v1, v2⟩, r1, r2, r3, r4⟩ := h
  obtain ⟨s1, s2, s3, s4, -⟩ := sh_rd h1
  have la := hb.lt h1
  have lp := hb.lt c1
  have lv := hb.lt v1
  have lm := hb.lt h3
  have f1 : FR (WO H ro (10 + i)) 1 2 H (gnew H (.inr (5, [.int (I r), .int (I c)])) 2) := FR.new hb
  have x1 : (gnew H (.inr (5, [.int (I r), .int (I c)])) 2).1 H.2.1 = some (.inr (5, [.int (I r), .int (I c)])) := gn_eq
  have p1 : ALo (gnew H (.inr (5, [.int (I r), .int (I c)])) 2) p lmc le ca.length := (gn_lt lp).trans c1
  have a1 : (gnew H (.inr (5, [.int (I r), .int (I c)])) 2).1 a = _ := (gn_lt la).trans h1
  have m1 : (gnew H (.inr (5, [.int (I r), .int (I c)])) 2).1 mk = _ := (gn_lt lm).trans h3
  have vr1 : (gnew H (.inr (5, [.int (I r), .int (I c)])) 2).1 vr = _ := (gn_lt lv).trans v1
  have n1 : (gnew H (.inr (5, [.int (I r), .int (I c)])) 2).1 (K.2 3) = none := (gn_lt hk3).trans hkn
  have k1 : (gnew H (.inr (5, [.int (I r), .int (I c)])) 2).2.1 = H.2.1 + 1 := rfl
  have e1 : ARR K (gnew H (.inr (5, [.int (I r), .int (I c)])) 2) le ca := by
    rcases c2 with ⟨q1, q2, q3⟩ | ⟨q0, cap, f, q1, q2⟩
    · exact Or.inl ⟨q1, by rw [q1]; exact n1, q3⟩
    · exact Or.inr ⟨q0, cap, f, (gn_lt (hb.lt q1)).trans q1, q2⟩
  have w1 : ∀ q, q = p ∨ (q = le ∧ (gnew H (.inr (5, [.int (I r), .int (I c)])) 2).1 le ≠ none) → WO H ro (10 + i) q := by
    rintro q (rfl | ⟨rfl, q0⟩)
    · exact ⟨r2, _, c1, Or.inr (Or.inr (Or.inr rfl))⟩
    · rcases c2 with ⟨q1, q2, q3⟩ | ⟨q0, cap, f, q1, q2⟩
      · exact absurd (by rw [q1]; exact n1) q0
      · exact ⟨hQ.resolve_left q0, _, q1, Or.inl rfl⟩
  have hcells : ∀ (j x k : Nat), ca[j]? = some x → cl[j]? = some k → (gnew H (.inr (5, [.int (I r), .int (I c)])) 2).1 x = some (.inr (5, [.int (I ((k / 5 : Nat) : Int)), .int (I ((k % 5 : Nat) : Int))])) := fun j x k q1 q2 => (gn_lt (hb.lt (c5 j x k q1 q2))).trans (c5 j x k q1 q2)
  have hob : ∀ x ∈ ca, OBJ (gnew H (.inr (5, [.int (I r), .int (I c)])) 2) x := fun x hx => by
    obtain ⟨j, hj⟩ := List.mem_iff_getElem?.mp hx
    obtain ⟨k, hk⟩ := at_lt (l := cl) (i := j) (by have := (List.getElem?_eq_some_iff.mp hj).1; omega)
    exact ⟨5, cl_of (hcells j x k hj hk), by omega⟩
  have hb1 := f1.hb
  generalize hH1 : gnew H (.inr (5, [.int (I r), .int (I c)])) 2 = H1 at *
  obtain ⟨H2, mc', e', g1, g2, g3, g4, g5⟩ := w_156 (K := K) (d := d) (by omega) hb1 (by omega) p1 e1 (by omega) hob (v := H.2.1) ⟨5, cl_of x1, by omega⟩
  have f2 : FR (WO H ro (10 + i)) 1 200 H1 H2 := g5.mono (fun q _ hq => w1 q hq)
  have out : ∀ {x : Nat} {en : gE}, H1.1 x = some en → (∀ fs, en ≠ .inr (12, fs)) → (∀ y, en ≠ .inl (5, y)) → H2.1 x = some en := fun {x en} hx h12 h5 => by
    refine g5.at hb1 hx ?_
    rintro (rfl | ⟨rfl, -⟩)
    · exact h12 _ (Option.some.inj (hx.symm.trans p1))
    · rcases e1 with ⟨q1, q2, q3⟩ | ⟨q0, cap, f, q1, q2⟩
      · rw [hx] at q2; cases q2
      · exact h5 _ (Option.some.inj (hx.symm.trans q1))
  have a2 := out a1 (fun fs e => by cases e) (fun y e => by cases e)
  have m2 := out m1 (fun fs e => by cases e) (fun y e => by cases e)
  have vr2 := out vr1 (fun fs e => by cases e) (fun y e => by cases e)
  have x2 := out x1 (fun fs e => by cases e) (fun y e => by cases e)
  have n2 : H2.1 (K.2 3) = none := by
    rw [g5.2.2.2.2.2 (K.2 3) (by omega) ?_]
    · exact n1
    · rintro (q | ⟨q, q0⟩)
      · rw [q] at n1; cases n1.symm.trans p1
      · rw [← q] at q0; exact q0 n1
  have hQ' : e' = K.2 3 ∨ roN H ro (10 + i) e' = 10 + i := by
    rcases g4 with rfl | rfl
    · rcases hQ with q | q
      · exact Or.inl q
      · refine Or.inr ?_
        show (if H.2.1 ≤ e' then 10 + i else ro e') = 10 + i
        split <;> first | rfl | exact q
    · refine Or.inr ?_
      show (if H.2.1 ≤ H1.2.1 then 10 + i else ro H1.2.1) = 10 + i
      rw [if_pos (by omega)]
  have hk5 : ((((5 * r + c).toNat / 5 : Nat) : Int) = r) ∧ ((((5 * r + c).toNat % 5 : Nat) : Int) = c) := by omega
  have hCLS : CLS K H2 (fun e => e = K.2 3 ∨ roN H ro (10 + i) e = 10 + i) p (cl ++ [(5 * r + c).toNat]) := by
    refine ⟨mc', e', ca ++ [H.2.1], by rw [List.length_append]; exact g2, g3, hQ', by rw [List.length_append, List.length_append, c4]; rfl, fun j x k q1 q2 => ?_⟩
    rcases get_app q1 with ⟨q3, q4⟩ | ⟨q3, q4⟩
    · rcases get_app q2 with ⟨q5, q6⟩ | ⟨q5, q6⟩
      · exact out (hcells j x k q4 q6) (fun fs e => by cases e) (fun y e => by cases e)
      · omega
    · rcases get_app q2 with ⟨q5, q6⟩ | ⟨q5, q6⟩
      · omega
      · rw [q4, q6]
        show H2.1 H.2.1 = some (.inr (5, [.int (I _), .int (I _)]))
        rw [hk5.1, hk5.2]
        exact x2
  have hSX : SX K H2 (fun e => e = K.2 3 ∨ roN H ro (10 + i) e = 10 + i) P a p mk (cl ++ [(5 * r + c).toNat]) (M.2 205 i) (M.2 206 i) := by
    refine ⟨fun q hq => hP q (by have := f1.1; have := f2.1; omega), f2.hb, by have := f2.1; omega, n2, ⟨_, a2, rfl, rfl⟩, hCLS, m2, by rw [List.length_append]; show cl.length + 1 ≤ 25; omega, fun k hk => ?_⟩
    rcases List.mem_append.mp hk with q | q
    · exact hl2 k q
    · rw [List.mem_singleton.mp q]; omega
  obtain ⟨H3, y1, y2, y3⟩ := w_162 (K := K) (d := d) (by omega) hSX ⟨_, a2, rfl⟩ ⟨_, vr2⟩
  have hS3 := hSX.fr y3 (fun q w => by subst w; exact ⟨_, vr2⟩)
  have a3 := y3.at f2.hb a2 (ne_ca a2 vr2)
  obtain ⟨-, -, -, -, -, ⟨mc3, e3, ca3, z1, z2, z3, z4, z5⟩, z6, -, -⟩ := hS3
  have hs3 := w_110 (K := K) (d := d) (by omega) z1
  rw [z4, List.length_append] at hs3
  refine ⟨p, H2, H3, s4, cl_of p1, g1, cl_of a2, y1, gf_of a3 2, cl_of z1, hs3, ((f1.tr f2).tr (y3.mono (fun q _ hq => ?_))).le (by omega) (by omega), ?_⟩
  · subst hq
    exact ⟨r3, _, v1, Or.inr rfl⟩
  · have rl : ∀ q, q < H.2.1 → roN H ro (10 + i) q = ro q := fun q hq => if_neg (by omega)
    exact ⟨p, mk, vr, a3, ⟨mc3, e3, ca3, z1, z2, z3, z4, z5⟩, z6, y2, (rl a la).trans r1, (rl p lp).trans r2, (rl vr lv).trans r3, r4⟩
end
