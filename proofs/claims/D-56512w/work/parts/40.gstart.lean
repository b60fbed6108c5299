/-! THE START (printed by mkstart.py): what stands at the law's entry -/
set_option maxRecDepth 100000
section
variable {s : State} {b : Addr}
theorem st_cls (ht : ∀ w ∈ lw_tbl, w.before #[Value.ref b] s = true) : ∃ (dC : Nat → ClassId) (dI : Nat → Nat → Nat), ∀ (k : Nat) (q : vw_C), gcl[k]? = some q → u_Kn s q.1 q.2.1 q.2.2 (dC k) (dI k) := by
  obtain ⟨c0, i0, h0⟩ := u_known (C := RX1) (T := TX1) (N := 16) (n := 16) ht (fun w h => lw_all_tbl (in_X1 w h)) (ht _ (lw_all_tbl q101))
  obtain ⟨c1, i1, h1⟩ := u_known (C := RX2) (T := TX2) (N := 5) (n := 5) ht (fun w h => lw_all_tbl (in_X2 w h)) (ht _ (lw_all_tbl q137))
  obtain ⟨c2, i2, h2⟩ := u_known (C := RX3) (T := TX3) (N := 4) (n := 4) ht (fun w h => lw_all_tbl (in_X3 w h)) (ht _ (lw_all_tbl q171))
  obtain ⟨c3, i3, h3⟩ := u_known (C := RX4) (T := TX4) (N := 49) (n := 49) ht (fun w h => lw_all_tbl (in_X4 w h)) (ht _ (lw_all_tbl q1384))
  obtain ⟨c4, i4, h4⟩ := u_known (C := RX5) (T := TX5) (N := 9) (n := 9) ht (fun w h => lw_all_tbl (in_X5 w h)) (ht _ (lw_all_tbl q644))
  obtain ⟨c5, i5, h5⟩ := u_known (C := RX6) (T := TX6) (N := 2) (n := 2) ht (fun w h => lw_all_tbl (in_X6 w h)) (ht _ (lw_all_tbl q652))
  obtain ⟨c6, i6, h6⟩ := u_known (C := RX7) (T := TX7) (N := 3) (n := 3) ht (fun w h => lw_all_tbl (in_X7 w h)) (ht _ (lw_all_tbl q672))
  obtain ⟨c7, i7, h7⟩ := u_known (C := RX8) (T := TX8) (N := 6) (n := 6) ht (fun w h => lw_all_tbl (in_X8 w h)) (ht _ (lw_all_tbl q945))
  obtain ⟨c8, i8, h8⟩ := u_known (C := RX9) (T := TX9) (N := 2) (n := 2) ht (fun w h => lw_all_tbl (in_X9 w h)) (ht _ (lw_all_tbl q1115))
  obtain ⟨c9, i9, h9⟩ := u_known (C := RX10) (T := TX10) (N := 2) (n := 2) ht (fun w h => lw_all_tbl (in_X10 w h)) (ht _ (lw_all_tbl q1146))
  obtain ⟨c10, i10, h10⟩ := u_known (C := RX11) (T := TX11) (N := 2) (n := 2) ht (fun w h => lw_all_tbl (in_X11 w h)) (ht _ (lw_all_tbl q1188))
  obtain ⟨c11, i11, h11⟩ := u_known (C := RX12) (T := TX12) (N := 5) (n := 5) ht (fun w h => lw_all_tbl (in_X12 w h)) (ht _ (lw_all_tbl q1203))
  obtain ⟨c12, i12, h12⟩ := u_known (C := RJ2) (T := TJ2) (N := 3) (n := 3) ht (fun w h => lw_all_tbl (in_J2 w h)) (ht _ (lw_all_tbl q109))
  refine ⟨fun k => if k = 0 then c0 else if k = 1 then c1 else if k = 2 then c2 else if k = 3 then c3 else if k = 4 then c4 else if k = 5 then c5 else if k = 6 then c6 else if k = 7 then c7 else if k = 8 then c8 else if k = 9 then c9 else if k = 10 then c10 else if k = 11 then c11 else c12, fun k => if k = 0 then i0 else if k = 1 then i1 else if k = 2 then i2 else if k = 3 then i3 else if k = 4 then i4 else if k = 5 then i5 else if k = 6 then i6 else if k = 7 then i7 else if k = 8 then i8 else if k = 9 then i9 else if k = 10 then i10 else if k = 11 then i11 else i12, ?_⟩
  intro k q hq
  match k, hq with
  | 0, hq => cases hq; exact h0
  | 1, hq => cases hq; exact h1
  | 2, hq => cases hq; exact h2
  | 3, hq => cases hq; exact h3
  | 4, hq => cases hq; exact h4
  | 5, hq => cases hq; exact h5
  | 6, hq => cases hq; exact h6
  | 7, hq => cases hq; exact h7
  | 8, hq => cases hq; exact h8
  | 9, hq => cases hq; exact h9
  | 10, hq => cases hq; exact h10
  | 11, hq => cases hq; exact h11
  | 12, hq => cases hq; exact h12
  | k + 13, hq => simp [gcl] at hq
theorem st_arr (ht : ∀ w ∈ lw_tbl, w.before #[Value.ref b] s = true) : ∃ aC : Nat → ClassId, ∀ (l : Launch) (H : Heap) (D : va_G) (L : Nat → ClassId) (k : Nat) (q : ClassId × FieldType), (gtys (l, H, D, aC, L))[k]? = some q → ArrOfT s q.1 q.2 ∧ va_RA s q.1 q.2 := by
  obtain ⟨a0, k0, p0, e0, f0, g0⟩ := Cond.arrayClass_spec (ht _ (lw_all_tbl q198))
  obtain ⟨a1, k1, p1, e1, f1, g1⟩ := Cond.arrayClass_spec (ht _ (lw_all_tbl q169))
  obtain ⟨a2, k2, p2, e2, f2, g2⟩ := Cond.arrayClass_spec (ht _ (lw_all_tbl q1541))
  obtain ⟨a3, k3, p3, e3, f3, g3⟩ := Cond.arrayClass_spec (ht _ (lw_all_tbl q1828))
  obtain ⟨a4, k4, p4, e4, f4, g4⟩ := Cond.arrayClass_spec (ht _ (lw_all_tbl q1829))
  obtain ⟨p5, a5, k5, e5, -, f5, g5, h5⟩ := Cond.arrayOver_spec (ht _ q809)
  obtain ⟨p6, a6, k6, e6, -, f6, g6, h6⟩ := Cond.arrayOver_spec (ht _ q200)
  obtain ⟨p7, a7, k7, e7, -, f7, g7, h7⟩ := Cond.arrayOver_spec (ht _ q667)
  obtain ⟨p8, a8, k8, e8, -, f8, g8, h8⟩ := gAO_spec (show va_Nw _ s from ht _ q177)
  obtain ⟨p9, a9, k9, e9, -, f9, g9, h9⟩ := gAO_spec (show va_Nw _ s from ht _ q135)
  refine ⟨fun k => if k = 0 then a0 else if k = 1 then a1 else if k = 2 then a2 else if k = 3 then a3 else if k = 4 then a4 else if k = 5 then a5 else if k = 6 then a6 else if k = 7 then a7 else if k = 8 then a8 else a9, ?_⟩
  intro l H D L k q hq
  match k, hq with
  | 0, hq => cases hq; exact ⟨fun n z => ⟨fun k h => (by cases h), k0, f0, p0, g0⟩, e0⟩
  | 1, hq => cases hq; exact ⟨fun n z => ⟨fun k h => (by cases h), k1, f1, p1, g1⟩, e1⟩
  | 2, hq => cases hq; exact ⟨fun n z => ⟨fun k h => (by cases h), k2, f2, p2, g2⟩, e2⟩
  | 3, hq => cases hq; exact ⟨fun n z => ⟨fun k h => (by cases h), k3, f3, p3, g3⟩, e3⟩
  | 4, hq => cases hq; exact ⟨fun n z => ⟨fun k h => (by cases h), k4, f4, p4, g4⟩, e4⟩
  | 5, hq => cases hq; exact ⟨fun n z => ⟨fun k h => (by cases h), k5, f5, p5, g5⟩, k5, p5, f5, g5, e5, h5⟩
  | 6, hq => cases hq; exact ⟨fun n z => ⟨fun k h => (by cases h), k6, f6, p6, g6⟩, k6, p6, f6, g6, e6, h6⟩
  | 7, hq => cases hq; exact ⟨fun n z => ⟨fun k h => (by cases h), k7, f7, p7, g7⟩, k7, p7, f7, g7, e7, h7⟩
  | 8, hq => cases hq; exact ⟨fun n z => ⟨fun k h => (by cases h), k8, f8, p8, g8⟩, h8⟩
  | 9, hq => cases hq; exact ⟨fun n z => ⟨fun k h => (by cases h), k9, f9, p9, g9⟩, h9⟩
  | k + 10, hq => simp [gtys] at hq
theorem st_site {j : Nat} (h : (Cond.lambdaSite ⟨"CuttingRoom", "<init>", "()V"⟩ (gpcL j) (gixL j) (gsg j)).before #[Value.ref b] s = true) : ∃ (c : ClassId) (one : Option Addr), gSite j c one s ∧ ((∃ a, one = some a ∧ (gsg j).captured = [] ∧ ∃ cell : Cell, s.heap[a]? = some cell ∧ cell.cls = c ∧ cell.vm = .none) ∨ (one = none ∧ (gsg j).captured ≠ [])) := by
  obtain ⟨c, one, hat⟩ := Cond.lambdaSite_spec h
  obtain ⟨m, k, cf, i0, p0, l, h1, h2, h3, h4, -, h5, h6, h7, h8⟩ := State.lambdaAt?_spec hat
  obtain ⟨-, kc, -, -, -, -, -, -, -, -, -, -, -, -, hkc, -⟩ := Lambda.isMade_spec h6
  rcases h8 with ⟨a, cell, e1, e2, e3, e4, e5, e6, e7⟩ | ⟨e1, e2, e3⟩
  · refine ⟨c, one, ⟨m, k, kc, cf, i0, p0, l, h1, h2, hkc, h3, h4, h5, h6, h7, by rw [e1, e2]⟩, Or.inl ⟨a, e2, e3, cell, e4, e5, e6⟩⟩
  · exact ⟨c, one, ⟨m, k, kc, cf, i0, p0, l, h1, h2, hkc, h3, h4, h5, h6, h7, by rw [e1, e2]⟩, Or.inr ⟨e2, e3⟩⟩
theorem st_siteB {j : Nat} (hj : j < 5) (h : (Cond.lambdaSite ⟨"CuttingRoom", "<init>", "()V"⟩ (gpcL j) (gixL j) (gsg j)).before #[Value.ref b] s = true) : ∃ c : ClassId, gSite j c none s := by
  obtain ⟨c, one, h1, ⟨a, -, hc, -⟩ | ⟨rfl, -⟩⟩ := st_site h
  · have : ∀ σ ∈ lbs, σ.captured ≠ [] := by decide
    exact absurd hc (this _ (gsg_b j hj))
  · exact ⟨c, h1⟩
theorem st_siteS {j : Nat} (hj : j < 2) (h : (Cond.lambdaSite ⟨"CuttingRoom", "<init>", "()V"⟩ (gpcL (5 + j)) (gixL (5 + j)) (gsg (5 + j))).before #[Value.ref b] s = true) : ∃ (c : ClassId) (a : Addr), gSite (5 + j) c (some a) s ∧ ∃ cell : Cell, s.heap[a]? = some cell ∧ cell.cls = c ∧ cell.vm = .none := by
  obtain ⟨c, one, h1, ⟨a, rfl, -, hc⟩ | ⟨rfl, hc⟩⟩ := st_site h
  · exact ⟨c, a, h1, hc⟩
  · have : ∀ σ ∈ lss, σ.captured = [] := by decide
    exact absurd (this _ (gsg_s j hj)) hc
theorem st_ne {ca cb : ClassId} {a a' : Addr} (h1 : gSite 5 ca (some a) s) (h2 : gSite 6 cb (some a') s) (hO : ∀ o ok, s.vm.findClass "java/lang/Object" = some o → s.vm.classes[o]? = some ok → ok.instanceTypes.size = 0) : ca ≠ cb := by
  rintro rfl
  obtain ⟨m, k, kc, cf, i0, p0, l, n1, n2, n3, n4, n5, n6, n7, n8, n9⟩ := h1
  obtain ⟨m', k', kc', cf', i0', p0', l', n1', n2', n3', n4', n5', n6', n7', n8', n9'⟩ := h2
  obtain ⟨kx, hkx, hnx⟩ := className_of_methodNamed n1
  cases n2.symm.trans hkx
  cases n1.symm.trans n1'
  obtain ⟨z, tk, file, methk, ck, toy, t, q1, -, q2, q3, -⟩ := l_madeS (gsg_s 0 (by decide)) n2 hnx n7 hO
  obtain ⟨z', tk', file', methk', ck', toy', t', q1', -, q2', q3', -⟩ := l_madeS (gsg_s 1 (by decide)) n2 hnx n7' hO
  cases q1.symm.trans q1'
  cases q2.symm.trans q2'
  have e := q3.symm.trans q3'
  have e1 := (l_sM _ (gsg_s 0 (by decide))).2.2
  have e2 := (l_sM _ (gsg_s 1 (by decide))).2.2
  rw [e, e2] at e1
  exact absurd e1 (by decide)

theorem st_nc (hs : ∀ w ∈ flatC (Jvm.Cond.and given_1 narrow_1), w.before #[Value.ref b] s = true) : ∀ i j, i < 6 → j < 6 → i ≠ j → va_Nc (gex i) (gex j) s := by
  intro i j hi hj hij
  match i, j, hi, hj, hij with
  | 0, 0, _, _, h => exact absurd rfl h
  | 0, 1, _, _, _ => exact va_Nc.of (hs (Cond.not (.castable "java/lang/IllegalArgumentException" "java/lang/IllegalStateException")) (by decide +kernel))
  | 0, 2, _, _, _ => exact va_Nc.of (hs (Cond.not (.castable "java/lang/IllegalArgumentException" "java/lang/UnsupportedOperationException")) (by decide +kernel))
  | 0, 3, _, _, _ => exact va_Nc.of (hs (Cond.not (.castable "java/lang/IllegalArgumentException" "java/lang/IndexOutOfBoundsException")) (by decide +kernel))
  | 0, 4, _, _, _ => exact va_Nc.of (hs (Cond.not (.castable "java/lang/IllegalArgumentException" "java/util/NoSuchElementException")) (by decide +kernel))
  | 0, 5, _, _, _ => exact va_Nc.of (hs (Cond.not (.castable "java/lang/IllegalArgumentException" "java/lang/ArithmeticException")) (by decide +kernel))
  | 1, 0, _, _, _ => exact va_Nc.of (hs (Cond.not (.castable "java/lang/IllegalStateException" "java/lang/IllegalArgumentException")) (by decide +kernel))
  | 1, 1, _, _, h => exact absurd rfl h
  | 1, 2, _, _, _ => exact va_Nc.of (hs (Cond.not (.castable "java/lang/IllegalStateException" "java/lang/UnsupportedOperationException")) (by decide +kernel))
  | 1, 3, _, _, _ => exact va_Nc.of (hs (Cond.not (.castable "java/lang/IllegalStateException" "java/lang/IndexOutOfBoundsException")) (by decide +kernel))
  | 1, 4, _, _, _ => exact va_Nc.of (hs (Cond.not (.castable "java/lang/IllegalStateException" "java/util/NoSuchElementException")) (by decide +kernel))
  | 1, 5, _, _, _ => exact va_Nc.of (hs (Cond.not (.castable "java/lang/IllegalStateException" "java/lang/ArithmeticException")) (by decide +kernel))
  | 2, 0, _, _, _ => exact va_Nc.of (hs (Cond.not (.castable "java/lang/UnsupportedOperationException" "java/lang/IllegalArgumentException")) (by decide +kernel))
  | 2, 1, _, _, _ => exact va_Nc.of (hs (Cond.not (.castable "java/lang/UnsupportedOperationException" "java/lang/IllegalStateException")) (by decide +kernel))
  | 2, 2, _, _, h => exact absurd rfl h
  | 2, 3, _, _, _ => exact va_Nc.of (hs (Cond.not (.castable "java/lang/UnsupportedOperationException" "java/lang/IndexOutOfBoundsException")) (by decide +kernel))
  | 2, 4, _, _, _ => exact va_Nc.of (hs (Cond.not (.castable "java/lang/UnsupportedOperationException" "java/util/NoSuchElementException")) (by decide +kernel))
  | 2, 5, _, _, _ => exact va_Nc.of (hs (Cond.not (.castable "java/lang/UnsupportedOperationException" "java/lang/ArithmeticException")) (by decide +kernel))
  | 3, 0, _, _, _ => exact va_Nc.of (hs (Cond.not (.castable "java/lang/IndexOutOfBoundsException" "java/lang/IllegalArgumentException")) (by decide +kernel))
  | 3, 1, _, _, _ => exact va_Nc.of (hs (Cond.not (.castable "java/lang/IndexOutOfBoundsException" "java/lang/IllegalStateException")) (by decide +kernel))
  | 3, 2, _, _, _ => exact va_Nc.of (hs (Cond.not (.castable "java/lang/IndexOutOfBoundsException" "java/lang/UnsupportedOperationException")) (by decide +kernel))
  | 3, 3, _, _, h => exact absurd rfl h
  | 3, 4, _, _, _ => exact va_Nc.of (hs (Cond.not (.castable "java/lang/IndexOutOfBoundsException" "java/util/NoSuchElementException")) (by decide +kernel))
  | 3, 5, _, _, _ => exact va_Nc.of (hs (Cond.not (.castable "java/lang/IndexOutOfBoundsException" "java/lang/ArithmeticException")) (by decide +kernel))
  | 4, 0, _, _, _ => exact va_Nc.of (hs (Cond.not (.castable "java/util/NoSuchElementException" "java/lang/IllegalArgumentException")) (by decide +kernel))
  | 4, 1, _, _, _ => exact va_Nc.of (hs (Cond.not (.castable "java/util/NoSuchElementException" "java/lang/IllegalStateException")) (by decide +kernel))
  | 4, 2, _, _, _ => exact va_Nc.of (hs (Cond.not (.castable "java/util/NoSuchElementException" "java/lang/UnsupportedOperationException")) (by decide +kernel))
  | 4, 3, _, _, _ => exact va_Nc.of (hs (Cond.not (.castable "java/util/NoSuchElementException" "java/lang/IndexOutOfBoundsException")) (by decide +kernel))
  | 4, 4, _, _, h => exact absurd rfl h
  | 4, 5, _, _, _ => exact va_Nc.of (hs (Cond.not (.castable "java/util/NoSuchElementException" "java/lang/ArithmeticException")) (by decide +kernel))
  | 5, 0, _, _, _ => exact va_Nc.of (hs (Cond.not (.castable "java/lang/ArithmeticException" "java/lang/IllegalArgumentException")) (by decide +kernel))
  | 5, 1, _, _, _ => exact va_Nc.of (hs (Cond.not (.castable "java/lang/ArithmeticException" "java/lang/IllegalStateException")) (by decide +kernel))
  | 5, 2, _, _, _ => exact va_Nc.of (hs (Cond.not (.castable "java/lang/ArithmeticException" "java/lang/UnsupportedOperationException")) (by decide +kernel))
  | 5, 3, _, _, _ => exact va_Nc.of (hs (Cond.not (.castable "java/lang/ArithmeticException" "java/lang/IndexOutOfBoundsException")) (by decide +kernel))
  | 5, 4, _, _, _ => exact va_Nc.of (hs (Cond.not (.castable "java/lang/ArithmeticException" "java/util/NoSuchElementException")) (by decide +kernel))
  | 5, 5, _, _, h => exact absurd rfl h
  | i + 6, _, h, _, _ => exact absurd h (by omega)
  | _, j + 6, _, h, _ => exact absurd h (by omega)
end
