/-! PURE 62: a shape's mark; cells and marks in the room -/
set_option maxRecDepth 100000
section
variable {K : gK} {P : Nat → Prop} {d : Nat} {H : gH} {ro : Nat → Nat} {a i : Nat} {M M' : gM} {cl : List Nat}
theorem remark (hd : 8 ≤ d) (hP : ∀ a, H.2.1 ≤ a → P a) (hb : HB H) (hk3 : K.2 3 < H.2.1) (hkn : H.1 (K.2 3) = none) (h : SHP K P H ro a i M cl) (hl : cl.length ≤ 25) (hl2 : ∀ k ∈ cl, k < 25) {g r c : Int} (hM : M'.2 200 i = M.2 200 i ∧ M'.2 201 i = M.2 201 i ∧ M'.2 204 i = g ∧ M'.2 208 (2 * i) = M.2 208 (2 * i) ∧ M'.2 208 (2 * i + 1) = M.2 208 (2 * i + 1) ∧ M'.2 207 i = M.2 207 i ∧ M'.2 205 i = r ∧ M'.2 206 i = c) :
    ∃ H1 H3 H4, g_gf H a 4 3 = some (.int (I (M.2 204 i))) ∧ g_pf H a 4 3 (.int (I g)) = some H1 ∧ g_pf (gnew H1 (.inr (5, [.int (I r), .int (I c)])) 2) a 4 4 (.ref H1.2.1) = some H3 ∧ g_cls H3 a = some 4 ∧ gCa K d 162 [.ref a] H3 = some (.inl none, H4) ∧ FR (WO H ro (10 + i)) 857 2426 H H4 ∧ SHP K P H4 (roN H ro (10 + i)) a i M' cl := by
  obtain ⟨e1, e2, e3, e4, e5, e6, e7, e8⟩ := hM
  obtain ⟨p, mk, vr, h1, ⟨lmc, le, ca, c1, c2, hQ, c4, c5⟩, h3, ⟨vf, v1, v2⟩, r1, r2, r3, r4⟩ := h
  obtain ⟨s1, s2, s3, s4, s5, -⟩ := sh_rd h1
  have la := hb.lt h1
  have lp := hb.lt c1
  have lv := hb.lt v1
  have pf3 := pf_of (k := 3) (v := .int (I g)) h1 (Nat.le_of_ble_eq_true rfl)
  unfold shF at pf3 h1
  simp only [List.set_cons_succ, List.set_cons_zero] at pf3
  have f1 : FR (WO H ro (10 + i)) 0 0 H (gset H a (.inr (4, [.ref (K.2 (ru (M.2 200 i))), .int (I (M.2 201 i)), .ref p, .int (I g), .ref mk, .int (I (M.2 208 (2 * i))), .int (I (M.2 208 (2 * i + 1))), .int (I (M.2 207 i)), .ref vr]))) := (FR.set hb h1).mono (fun q _ hq => by subst hq; exact ⟨r1, _, h1, Or.inl rfl⟩)
  have a1 : (gset H a (.inr (4, [.ref (K.2 (ru (M.2 200 i))), .int (I (M.2 201 i)), .ref p, .int (I g), .ref mk, .int (I (M.2 208 (2 * i))), .int (I (M.2 208 (2 * i + 1))), .int (I (M.2 207 i)), .ref vr]))).1 a = some (.inr (4, [.ref (K.2 (ru (M.2 200 i))), .int (I (M.2 201 i)), .ref p, .int (I g), .ref mk, .int (I (M.2 208 (2 * i))), .int (I (M.2 208 (2 * i + 1))), .int (I (M.2 207 i)), .ref vr])) := gs_eq
  have o1 : ∀ {x : Nat} {en : gE}, H.1 x = some en → (∀ fs, en ≠ .inr (4, fs)) → (gset H a (.inr (4, [.ref (K.2 (ru (M.2 200 i))), .int (I (M.2 201 i)), .ref p, .int (I g), .ref mk, .int (I (M.2 208 (2 * i))), .int (I (M.2 208 (2 * i + 1))), .int (I (M.2 207 i)), .ref vr]))).1 x = some en := fun {x en} hx h4 => by
    rw [gs_ne]
    · exact hx
    · rintro rfl; exact h4 _ (Option.some.inj (hx.symm.trans h1))
  have n1 : (gset H a (.inr (4, [.ref (K.2 (ru (M.2 200 i))), .int (I (M.2 201 i)), .ref p, .int (I g), .ref mk, .int (I (M.2 208 (2 * i))), .int (I (M.2 208 (2 * i + 1))), .int (I (M.2 207 i)), .ref vr]))).1 (K.2 3) = none := by
    rw [gs_ne]
    · exact hkn
    · rintro e; rw [e] at hkn; cases hkn.symm.trans h1
  have k1 : (gset H a (.inr (4, [.ref (K.2 (ru (M.2 200 i))), .int (I (M.2 201 i)), .ref p, .int (I g), .ref mk, .int (I (M.2 208 (2 * i))), .int (I (M.2 208 (2 * i + 1))), .int (I (M.2 207 i)), .ref vr]))).2.1 = H.2.1 := rfl
  generalize hH1 : gset H a (.inr (4, [.ref (K.2 (ru (M.2 200 i))), .int (I (M.2 201 i)), .ref p, .int (I g), .ref mk, .int (I (M.2 208 (2 * i))), .int (I (M.2 208 (2 * i + 1))), .int (I (M.2 207 i)), .ref vr])) = H1 at *
  have hb1 := f1.hb
  have f2 : FR (WO H ro (10 + i)) 1 2 H1 (gnew H1 (.inr (5, [.int (I r), .int (I c)])) 2) := FR.new hb1
  have a2 : (gnew H1 (.inr (5, [.int (I r), .int (I c)])) 2).1 a = _ := (gn_lt (by omega)).trans a1
  have x2 : (gnew H1 (.inr (5, [.int (I r), .int (I c)])) 2).1 H1.2.1 = some (.inr (5, [.int (I r), .int (I c)])) := gn_eq
  have o2 : ∀ {x : Nat} {en : gE}, H1.1 x = some en → (gnew H1 (.inr (5, [.int (I r), .int (I c)])) 2).1 x = some en := fun {x en} hx => (gn_lt (hb1.lt hx)).trans hx
  have n2 : (gnew H1 (.inr (5, [.int (I r), .int (I c)])) 2).1 (K.2 3) = none := (gn_lt (by omega)).trans n1
  have k2 : (gnew H1 (.inr (5, [.int (I r), .int (I c)])) 2).2.1 = H1.2.1 + 1 := rfl
  have pf4 := pf_of (k := 4) (v := .ref H1.2.1) a2 (Nat.le_of_ble_eq_true rfl)
  simp only [List.set_cons_succ, List.set_cons_zero] at pf4
  have hb2 := f2.hb
  generalize hH2 : gnew H1 (.inr (5, [.int (I r), .int (I c)])) 2 = H2 at *
  have f3 : FR (WO H ro (10 + i)) 0 0 H2 (gset H2 a (.inr (4, [.ref (K.2 (ru (M.2 200 i))), .int (I (M.2 201 i)), .ref p, .int (I g), .ref H1.2.1, .int (I (M.2 208 (2 * i))), .int (I (M.2 208 (2 * i + 1))), .int (I (M.2 207 i)), .ref vr]))) := (FR.set hb2 a2).mono (fun q _ hq => by subst hq; exact ⟨r1, _, h1, Or.inl rfl⟩)
  have a3 : (gset H2 a (.inr (4, [.ref (K.2 (ru (M.2 200 i))), .int (I (M.2 201 i)), .ref p, .int (I g), .ref H1.2.1, .int (I (M.2 208 (2 * i))), .int (I (M.2 208 (2 * i + 1))), .int (I (M.2 207 i)), .ref vr]))).1 a = some (.inr (4, [.ref (K.2 (ru (M.2 200 i))), .int (I (M.2 201 i)), .ref p, .int (I g), .ref H1.2.1, .int (I (M.2 208 (2 * i))), .int (I (M.2 208 (2 * i + 1))), .int (I (M.2 207 i)), .ref vr])) := gs_eq
  have o3 : ∀ {x : Nat} {en : gE}, H2.1 x = some en → (∀ fs, en ≠ .inr (4, fs)) → (gset H2 a (.inr (4, [.ref (K.2 (ru (M.2 200 i))), .int (I (M.2 201 i)), .ref p, .int (I g), .ref H1.2.1, .int (I (M.2 208 (2 * i))), .int (I (M.2 208 (2 * i + 1))), .int (I (M.2 207 i)), .ref vr]))).1 x = some en := fun {x en} hx h4 => by
    rw [gs_ne]
    · exact hx
    · rintro rfl; exact h4 _ (Option.some.inj (hx.symm.trans a2))
  have n3 : (gset H2 a (.inr (4, [.ref (K.2 (ru (M.2 200 i))), .int (I (M.2 201 i)), .ref p, .int (I g), .ref H1.2.1, .int (I (M.2 208 (2 * i))), .int (I (M.2 208 (2 * i + 1))), .int (I (M.2 207 i)), .ref vr]))).1 (K.2 3) = none := by
    rw [gs_ne]
    · exact n2
    · rintro e; rw [e] at n2; cases n2.symm.trans a2
  generalize hH3 : gset H2 a (.inr (4, [.ref (K.2 (ru (M.2 200 i))), .int (I (M.2 201 i)), .ref p, .int (I g), .ref H1.2.1, .int (I (M.2 208 (2 * i))), .int (I (M.2 208 (2 * i + 1))), .int (I (M.2 207 i)), .ref vr])) = H3 at *
  have o123 : ∀ {x : Nat} {en : gE}, H.1 x = some en → (∀ fs, en ≠ .inr (4, fs)) → H3.1 x = some en := fun hx h4 => o3 (o2 (o1 hx h4)) h4
  have p3 : ALo H3 p lmc le ca.length := o123 c1 (fun fs e => by cases e)
  have vr3 := o123 v1 (fun fs e => by cases e)
  have x3 : CE H3 H1.2.1 r c := o3 x2 (fun fs e => by cases e)
  have arr3 : ARR K H3 le ca := by
    rcases c2 with ⟨q1, q2, q3⟩ | ⟨q0, cap, f, q1, q2⟩
    · exact Or.inl ⟨q1, by rw [q1]; exact n3, q3⟩
    · exact Or.inr ⟨q0, cap, f, o123 q1 (fun fs e => by cases e), q2⟩
  have hQ' : le = K.2 3 ∨ roN H ro (10 + i) le = 10 + i := by
    rcases hQ with q | q
    · exact Or.inl q
    · refine Or.inr ?_
      show (if H.2.1 ≤ le then 10 + i else ro le) = 10 + i
      split <;> first | rfl | exact q
  have hSX : SX K H3 (fun e => e = K.2 3 ∨ roN H ro (10 + i) e = 10 + i) P a p H1.2.1 cl r c := by
    refine ⟨fun q hq => hP q (by have := f1.1; have := f2.1; have := f3.1; omega), f3.hb, by have := f3.1; omega, n3, ⟨_, a3, rfl, rfl⟩, ⟨lmc, le, ca, p3, arr3, hQ', c4, fun j x k q1 q2 => o123 (c5 j x k q1 q2) (fun fs e => by cases e)⟩, x3, hl, hl2⟩
  obtain ⟨H4, y1, y2, y3⟩ := w_162 (K := K) (d := d) (by omega) hSX ⟨_, a3, rfl⟩ ⟨_, vr3⟩
  have hS3 := hSX.fr y3 (fun q w => by subst w; exact ⟨_, vr3⟩)
  have a4 := y3.at f3.hb a3 (ne_ca a3 vr3)
  obtain ⟨-, -, -, -, -, z1, z6, -, -⟩ := hS3
  refine ⟨H1, H3, H4, s5, pf3, by rw [hH2]; exact pf4, cl_of a3, y1, (((f1.tr f2).tr f3).tr (y3.mono (fun q _ hq => ?_))).le (by omega) (by omega), ?_⟩
  · subst hq
    exact ⟨r3, _, v1, Or.inr rfl⟩
  · have rl : ∀ q, q < H.2.1 → roN H ro (10 + i) q = ro q := fun q hq => if_neg (by omega)
    refine ⟨p, H1.2.1, vr, ?_, z1, by rw [e7, e8]; exact z6, by rw [e7, e8]; exact y2, (rl a la).trans r1, (rl p lp).trans r2, (rl vr lv).trans r3, r4⟩
    unfold shF
    rw [e1, e2, e3, e4, e5, e6]
    exact a4
end
