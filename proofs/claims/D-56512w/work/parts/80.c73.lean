/-! PURE 112: steps of the law (printed by mkc73.py) -/
set_option maxRecDepth 100000
section
variable {K : gK} {d N : Nat} {G G' : gH} {B B' B3 : gB} {M0 : gM} {i n z1 z2 z3 z4 z5 ch k w v : Int} {E : Nat}
theorem OA0 (hi : 0 ≤ i ∧ i + 6 ≤ (K.1.2.1 : Int)) (hl : K.1.2.1 ≤ 384) (h1 : K.1.2.2 (i + 1).toNat = I z1) (h2 : K.1.2.2 (i + 2).toNat = I z2) (r2 : R32 z2) (h3 : K.1.2.2 (i + 3).toNat = I z3) (hv : R32 v) (hal : AL G G' 1100 15000) (hrm : RM K N G' B' M0) (h0 : gCa K d 88 [.ref N, .int (I z1), .int (I (bz z2)), .int (I z3)] (hH K N G B) = some (.inl (some (.int (I v))), hH K N G' B')) (hM : gCa K (d + 1) 4 [.ref (N + 198), .int (I z1), .int (I (bz z2)), .int (I z3)] (hH K N G' (sA B' 229 0 v)) = some (.inl (some (.int (I v))), hH K N G' B3)) (hmd : MDQ (sA B' 229 0 v) B3) (hth : (B3.1 198 0) = 0) (hq : MQ M0 (tw B3)) (hinv : INV (n + 1) B3) : LST K (d + 1) N n G B 220 i := by
  refine ⟨G', B3, fun x o6 o7 o8 hn => ?_, hinv, hrm.fin (fun o k h1 h2 => hmd.1 o k (by omega)) (fun o j h1 => (hmd.2.1 o j (by omega)).trans (sA_ne (Or.inl (by omega)))) hq, hal⟩
  have hT := w_5 (K := K) (N := N) (G := G') (B := B3) (d := d + 1) (by omega)
  rw [hth] at hT
  exact CS0 hi hl h1 h2 r2 h3 (k := 0) (by omega) hv (X_3 hv h0) hM hT (fun _ => (hmd.2.1 229 0 (by omega)).trans (sA_eq rfl)) hn
theorem OB0 (hi : 0 ≤ i ∧ i + 6 ≤ (K.1.2.1 : Int)) (hl : K.1.2.1 ≤ 384) (h1 : K.1.2.2 (i + 1).toNat = I z1) (h2 : K.1.2.2 (i + 2).toNat = I z2) (r2 : R32 z2) (h3 : K.1.2.2 (i + 3).toNat = I z3) (hw : R32 w) (hal : AL G G' 1100 15000) (hrm : RM K N G' B' M0) (h0 : gCa K d 88 [.ref N, .int (I z1), .int (I (bz z2)), .int (I z3)] (hH K N G B) = some (.inr E, hH K N G' B')) (hE : gHd 3 7 E = some (some (I k))) (hk : 1 ≤ k ∧ k < 10) (hM : gCa K (d + 1) 4 [.ref (N + 198), .int (I z1), .int (I (bz z2)), .int (I z3)] (hH K N G' B') = some (.inl (some (.int (I w))), hH K N G' B3)) (hmd : MDQ B' B3) (hth : (B3.1 198 0) = k) (hq : MQ M0 (tw B3)) (hinv : INV (n + 1) B3) : LST K (d + 1) N n G B 220 i := by
  refine ⟨G', B3, fun x o6 o7 o8 hn => ?_, hinv, hrm.fin (fun o k h1 h2 => hmd.1 o k (by omega)) (fun o j h1 => hmd.2.1 o j (by omega)) hq, hal⟩
  have hT := w_5 (K := K) (N := N) (G := G') (B := B3) (d := d + 1) (by omega)
  rw [hth] at hT
  exact CS0 hi hl h1 h2 r2 h3 (k := k) (by omega) hw (Y_3 h0 hE) hM hT (fun h => by omega) hn
theorem OA1 (hi : 0 ≤ i ∧ i + 6 ≤ (K.1.2.1 : Int)) (hl : K.1.2.1 ≤ 384) (h1 : K.1.2.2 (i + 1).toNat = I z1) (r1 : R32 z1) (hv : 0 ≤ v ∧ v ≤ 1) (hal : AL G G' 1100 15000) (hrm : RM K N G' B' M0) (h0 : gCa K d 91 [.ref N, .int (I (bz z1))] (hH K N G B) = some (.inl (some (.int (I v))), hH K N G' B')) (hM : gCa K (d + 1) 7 [.ref (N + 198), .int (I (bz z1))] (hH K N G' (sA B' 229 0 v)) = some (.inl (some (.int (I v))), hH K N G' B3)) (hmd : MDQ (sA B' 229 0 v) B3) (hth : (B3.1 198 0) = 0) (hq : MQ M0 (tw B3)) (hinv : INV (n + 1) B3) : LST K (d + 1) N n G B 316 i := by
  refine ⟨G', B3, fun x o6 o7 o8 hn => ?_, hinv, hrm.fin (fun o k h1 h2 => hmd.1 o k (by omega)) (fun o j h1 => (hmd.2.1 o j (by omega)).trans (sA_ne (Or.inl (by omega)))) hq, hal⟩
  have hT := w_5 (K := K) (N := N) (G := G') (B := B3) (d := d + 1) (by omega)
  rw [hth] at hT
  exact CS1 hi hl h1 r1 (k := 0) (by omega) hv (X_6 hv h0) hM hT (fun _ => (hmd.2.1 229 0 (by omega)).trans (sA_eq rfl)) hn
theorem OB1 (hi : 0 ≤ i ∧ i + 6 ≤ (K.1.2.1 : Int)) (hl : K.1.2.1 ≤ 384) (h1 : K.1.2.2 (i + 1).toNat = I z1) (r1 : R32 z1) (hw : 0 ≤ w ∧ w ≤ 1) (hal : AL G G' 1100 15000) (hrm : RM K N G' B' M0) (h0 : gCa K d 91 [.ref N, .int (I (bz z1))] (hH K N G B) = some (.inr E, hH K N G' B')) (hE : gHd 6 4 E = some (some (I k))) (hk : 1 ≤ k ∧ k < 10) (hM : gCa K (d + 1) 7 [.ref (N + 198), .int (I (bz z1))] (hH K N G' B') = some (.inl (some (.int (I w))), hH K N G' B3)) (hmd : MDQ B' B3) (hth : (B3.1 198 0) = k) (hq : MQ M0 (tw B3)) (hinv : INV (n + 1) B3) : LST K (d + 1) N n G B 316 i := by
  refine ⟨G', B3, fun x o6 o7 o8 hn => ?_, hinv, hrm.fin (fun o k h1 h2 => hmd.1 o k (by omega)) (fun o j h1 => hmd.2.1 o j (by omega)) hq, hal⟩
  have hT := w_5 (K := K) (N := N) (G := G') (B := B3) (d := d + 1) (by omega)
  rw [hth] at hT
  exact CS1 hi hl h1 r1 (k := k) (by omega) hw (Y_6 h0 hE) hM hT (fun h => by omega) hn
theorem OA2 (hi : 0 ≤ i ∧ i + 6 ≤ (K.1.2.1 : Int)) (hl : K.1.2.1 ≤ 384) (h1 : K.1.2.2 (i + 1).toNat = I z1) (h2 : K.1.2.2 (i + 2).toNat = I z2) (hv : R32 v) (hal : AL G G' 1100 15000) (hrm : RM K N G' B' M0) (h0 : gCa K d 92 [.ref N, .int (I z1), .int (I z2)] (hH K N G B) = some (.inl (some (.int (I v))), hH K N G' B')) (hM : gCa K (d + 1) 9 [.ref (N + 198), .int (I z1), .int (I z2)] (hH K N G' (sA B' 229 0 v)) = some (.inl (some (.int (I v))), hH K N G' B3)) (hmd : MDQ (sA B' 229 0 v) B3) (hth : (B3.1 198 0) = 0) (hq : MQ M0 (tw B3)) (hinv : INV (n + 1) B3) : LST K (d + 1) N n G B 395 i := by
  refine ⟨G', B3, fun x o6 o7 o8 hn => ?_, hinv, hrm.fin (fun o k h1 h2 => hmd.1 o k (by omega)) (fun o j h1 => (hmd.2.1 o j (by omega)).trans (sA_ne (Or.inl (by omega)))) hq, hal⟩
  have hT := w_5 (K := K) (N := N) (G := G') (B := B3) (d := d + 1) (by omega)
  rw [hth] at hT
  exact CS2 hi hl h1 h2 (k := 0) (by omega) hv (X_8 hv h0) hM hT (fun _ => (hmd.2.1 229 0 (by omega)).trans (sA_eq rfl)) hn
theorem OB2 (hi : 0 ≤ i ∧ i + 6 ≤ (K.1.2.1 : Int)) (hl : K.1.2.1 ≤ 384) (h1 : K.1.2.2 (i + 1).toNat = I z1) (h2 : K.1.2.2 (i + 2).toNat = I z2) (hw : R32 w) (hal : AL G G' 1100 15000) (hrm : RM K N G' B' M0) (h0 : gCa K d 92 [.ref N, .int (I z1), .int (I z2)] (hH K N G B) = some (.inr E, hH K N G' B')) (hE : gHd 8 5 E = some (some (I k))) (hk : 1 ≤ k ∧ k < 10) (hM : gCa K (d + 1) 9 [.ref (N + 198), .int (I z1), .int (I z2)] (hH K N G' B') = some (.inl (some (.int (I w))), hH K N G' B3)) (hmd : MDQ B' B3) (hth : (B3.1 198 0) = k) (hq : MQ M0 (tw B3)) (hinv : INV (n + 1) B3) : LST K (d + 1) N n G B 395 i := by
  refine ⟨G', B3, fun x o6 o7 o8 hn => ?_, hinv, hrm.fin (fun o k h1 h2 => hmd.1 o k (by omega)) (fun o j h1 => hmd.2.1 o j (by omega)) hq, hal⟩
  have hT := w_5 (K := K) (N := N) (G := G') (B := B3) (d := d + 1) (by omega)
  rw [hth] at hT
  exact CS2 hi hl h1 h2 (k := k) (by omega) hw (Y_8 h0 hE) hM hT (fun h => by omega) hn
theorem OS3 (hi : 0 ≤ i ∧ i + 6 ≤ (K.1.2.1 : Int)) (hl : K.1.2.1 ≤ 384) (hal : AL G G' 1100 15000) (hrm : RM K N G' B' M0) (h0 : gCa K (d + 1) 10 [.ref N] (hH K N G B) = some (.inl (some (.int (I w))), hH K N G' B')) (hM : gCa K (d + 1) 11 [.ref (N + 198)] (hH K N G' B') = some (.inl (some (.int (I w))), hH K N G' B3)) (hmd : MDQ B' B3) (hq : MQ M0 (tw B3)) (hinv : INV (n + 1) B3) : LST K (d + 1) N n G B 463 i :=
  ⟨G', B3, fun x o6 o7 o8 hn => CS3 hi hl h0 hM hn, hinv, hrm.fin (fun o k h1 h2 => hmd.1 o k (by omega)) (fun o j h1 => hmd.2.1 o j (by omega)) hq, hal⟩
theorem OA4 (hi : 0 ≤ i ∧ i + 6 ≤ (K.1.2.1 : Int)) (hl : K.1.2.1 ≤ 384) (h1 : K.1.2.2 (i + 1).toNat = I z1) (hch : ((I z1).toUInt32 % 65536).toInt32 = I ch) (h2 : K.1.2.2 (i + 2).toNat = I z2) (r2 : R32 z2) (hv : R32 v) (hal : AL G G' 1100 15000) (hrm : RM K N G' B' M0) (h0 : gCa K d 94 [.ref N, .int (I ch), .int (I (bz z2))] (hH K N G B) = some (.inl (some (.int (I v))), hH K N G' B')) (hM : gCa K (d + 1) 13 [.ref (N + 198), .int (I ch), .int (I (bz z2))] (hH K N G' (sA B' 229 0 v)) = some (.inl (some (.int (I v))), hH K N G' B3)) (hmd : MDQ (sA B' 229 0 v) B3) (hth : (B3.1 198 0) = 0) (hq : MQ M0 (tw B3)) (hinv : INV (n + 1) B3) : LST K (d + 1) N n G B 476 i := by
  refine ⟨G', B3, fun x o6 o7 o8 hn => ?_, hinv, hrm.fin (fun o k h1 h2 => hmd.1 o k (by omega)) (fun o j h1 => (hmd.2.1 o j (by omega)).trans (sA_ne (Or.inl (by omega)))) hq, hal⟩
  have hT := w_5 (K := K) (N := N) (G := G') (B := B3) (d := d + 1) (by omega)
  rw [hth] at hT
  exact CS4 hi hl h1 hch h2 r2 (k := 0) (by omega) hv (X_12 hv h0) hM hT (fun _ => (hmd.2.1 229 0 (by omega)).trans (sA_eq rfl)) hn
theorem OB4 (hi : 0 ≤ i ∧ i + 6 ≤ (K.1.2.1 : Int)) (hl : K.1.2.1 ≤ 384) (h1 : K.1.2.2 (i + 1).toNat = I z1) (hch : ((I z1).toUInt32 % 65536).toInt32 = I ch) (h2 : K.1.2.2 (i + 2).toNat = I z2) (r2 : R32 z2) (hw : R32 w) (hal : AL G G' 1100 15000) (hrm : RM K N G' B' M0) (h0 : gCa K d 94 [.ref N, .int (I ch), .int (I (bz z2))] (hH K N G B) = some (.inr E, hH K N G' B')) (hE : gHd 12 5 E = some (some (I k))) (hk : 1 ≤ k ∧ k < 10) (hM : gCa K (d + 1) 13 [.ref (N + 198), .int (I ch), .int (I (bz z2))] (hH K N G' B') = some (.inl (some (.int (I w))), hH K N G' B3)) (hmd : MDQ B' B3) (hth : (B3.1 198 0) = k) (hq : MQ M0 (tw B3)) (hinv : INV (n + 1) B3) : LST K (d + 1) N n G B 476 i := by
  refine ⟨G', B3, fun x o6 o7 o8 hn => ?_, hinv, hrm.fin (fun o k h1 h2 => hmd.1 o k (by omega)) (fun o j h1 => hmd.2.1 o j (by omega)) hq, hal⟩
  have hT := w_5 (K := K) (N := N) (G := G') (B := B3) (d := d + 1) (by omega)
  rw [hth] at hT
  exact CS4 hi hl h1 hch h2 r2 (k := k) (by omega) hw (Y_12 h0 hE) hM hT (fun h => by omega) hn
theorem OA5 (hi : 0 ≤ i ∧ i + 6 ≤ (K.1.2.1 : Int)) (hl : K.1.2.1 ≤ 384) (h1 : K.1.2.2 (i + 1).toNat = I z1) (h2 : K.1.2.2 (i + 2).toNat = I z2) (h3 : K.1.2.2 (i + 3).toNat = I z3) (hv : R32 v) (hal : AL G G' 1100 15000) (hrm : RM K N G' B' M0) (h0 : gCa K d 95 [.ref N, .int (I z1), .int (I z2), .int (I z3)] (hH K N G B) = some (.inl (some (.int (I v))), hH K N G' B')) (hM : gCa K (d + 1) 15 [.ref (N + 198), .int (I z1), .int (I z2), .int (I z3)] (hH K N G' (sA B' 229 0 v)) = some (.inl (some (.int (I v))), hH K N G' B3)) (hmd : MDQ (sA B' 229 0 v) B3) (hth : (B3.1 198 0) = 0) (hq : MQ M0 (tw B3)) (hinv : INV (n + 1) B3) : LST K (d + 1) N n G B 562 i := by
  refine ⟨G', B3, fun x o6 o7 o8 hn => ?_, hinv, hrm.fin (fun o k h1 h2 => hmd.1 o k (by omega)) (fun o j h1 => (hmd.2.1 o j (by omega)).trans (sA_ne (Or.inl (by omega)))) hq, hal⟩
  have hT := w_5 (K := K) (N := N) (G := G') (B := B3) (d := d + 1) (by omega)
  rw [hth] at hT
  exact CS5 hi hl h1 h2 h3 (k := 0) (by omega) hv (X_14 hv h0) hM hT (fun _ => (hmd.2.1 229 0 (by omega)).trans (sA_eq rfl)) hn
theorem OB5 (hi : 0 ≤ i ∧ i + 6 ≤ (K.1.2.1 : Int)) (hl : K.1.2.1 ≤ 384) (h1 : K.1.2.2 (i + 1).toNat = I z1) (h2 : K.1.2.2 (i + 2).toNat = I z2) (h3 : K.1.2.2 (i + 3).toNat = I z3) (hw : R32 w) (hal : AL G G' 1100 15000) (hrm : RM K N G' B' M0) (h0 : gCa K d 95 [.ref N, .int (I z1), .int (I z2), .int (I z3)] (hH K N G B) = some (.inr E, hH K N G' B')) (hE : gHd 14 7 E = some (some (I k))) (hk : 1 ≤ k ∧ k < 10) (hM : gCa K (d + 1) 15 [.ref (N + 198), .int (I z1), .int (I z2), .int (I z3)] (hH K N G' B') = some (.inl (some (.int (I w))), hH K N G' B3)) (hmd : MDQ B' B3) (hth : (B3.1 198 0) = k) (hq : MQ M0 (tw B3)) (hinv : INV (n + 1) B3) : LST K (d + 1) N n G B 562 i := by
  refine ⟨G', B3, fun x o6 o7 o8 hn => ?_, hinv, hrm.fin (fun o k h1 h2 => hmd.1 o k (by omega)) (fun o j h1 => hmd.2.1 o j (by omega)) hq, hal⟩
  have hT := w_5 (K := K) (N := N) (G := G') (B := B3) (d := d + 1) (by omega)
  rw [hth] at hT
  exact CS5 hi hl h1 h2 h3 (k := k) (by omega) hw (Y_14 h0 hE) hM hT (fun h => by omega) hn
theorem OA6 (hi : 0 ≤ i ∧ i + 6 ≤ (K.1.2.1 : Int)) (hl : K.1.2.1 ≤ 384) (h1 : K.1.2.2 (i + 1).toNat = I z1) (h2 : K.1.2.2 (i + 2).toNat = I z2) (h3 : K.1.2.2 (i + 3).toNat = I z3) (h4 : K.1.2.2 (i + 4).toNat = I z4) (hv : R32 v) (hal : AL G G' 1100 15000) (hrm : RM K N G' B' M0) (h0 : gCa K d 98 [.ref N, .int (I z1), .int (I z2), .int (I z3), .int (I z4)] (hH K N G B) = some (.inl (some (.int (I v))), hH K N G' B')) (hM : gCa K (d + 1) 17 [.ref (N + 198), .int (I z1), .int (I z2), .int (I z3), .int (I z4)] (hH K N G' (sA B' 229 0 v)) = some (.inl (some (.int (I v))), hH K N G' B3)) (hmd : MDQ (sA B' 229 0 v) B3) (hth : (B3.1 198 0) = 0) (hq : MQ M0 (tw B3)) (hinv : INV (n + 1) B3) : LST K (d + 1) N n G B 642 i := by
  refine ⟨G', B3, fun x o6 o7 o8 hn => ?_, hinv, hrm.fin (fun o k h1 h2 => hmd.1 o k (by omega)) (fun o j h1 => (hmd.2.1 o j (by omega)).trans (sA_ne (Or.inl (by omega)))) hq, hal⟩
  have hT := w_5 (K := K) (N := N) (G := G') (B := B3) (d := d + 1) (by omega)
  rw [hth] at hT
  exact CS6 hi hl h1 h2 h3 h4 (k := 0) (by omega) hv (X_16 hv h0) hM hT (fun _ => (hmd.2.1 229 0 (by omega)).trans (sA_eq rfl)) hn
theorem OB6 (hi : 0 ≤ i ∧ i + 6 ≤ (K.1.2.1 : Int)) (hl : K.1.2.1 ≤ 384) (h1 : K.1.2.2 (i + 1).toNat = I z1) (h2 : K.1.2.2 (i + 2).toNat = I z2) (h3 : K.1.2.2 (i + 3).toNat = I z3) (h4 : K.1.2.2 (i + 4).toNat = I z4) (hw : R32 w) (hal : AL G G' 1100 15000) (hrm : RM K N G' B' M0) (h0 : gCa K d 98 [.ref N, .int (I z1), .int (I z2), .int (I z3), .int (I z4)] (hH K N G B) = some (.inr E, hH K N G' B')) (hE : gHd 16 9 E = some (some (I k))) (hk : 1 ≤ k ∧ k < 10) (hM : gCa K (d + 1) 17 [.ref (N + 198), .int (I z1), .int (I z2), .int (I z3), .int (I z4)] (hH K N G' B') = some (.inl (some (.int (I w))), hH K N G' B3)) (hmd : MDQ B' B3) (hth : (B3.1 198 0) = k) (hq : MQ M0 (tw B3)) (hinv : INV (n + 1) B3) : LST K (d + 1) N n G B 642 i := by
  refine ⟨G', B3, fun x o6 o7 o8 hn => ?_, hinv, hrm.fin (fun o k h1 h2 => hmd.1 o k (by omega)) (fun o j h1 => hmd.2.1 o j (by omega)) hq, hal⟩
  have hT := w_5 (K := K) (N := N) (G := G') (B := B3) (d := d + 1) (by omega)
  rw [hth] at hT
  exact CS6 hi hl h1 h2 h3 h4 (k := k) (by omega) hw (Y_16 h0 hE) hM hT (fun h => by omega) hn
theorem OA7 (hi : 0 ≤ i ∧ i + 6 ≤ (K.1.2.1 : Int)) (hl : K.1.2.1 ≤ 384) (h1 : K.1.2.2 (i + 1).toNat = I z1) (hv : R32 v) (hal : AL G G' 1100 15000) (hrm : RM K N G' B' M0) (h0 : gCa K d 99 [.ref N, .int (I z1)] (hH K N G B) = some (.inl (some (.int (I v))), hH K N G' B')) (hM : gCa K (d + 1) 19 [.ref (N + 198), .int (I z1)] (hH K N G' (sA B' 229 0 v)) = some (.inl (some (.int (I v))), hH K N G' B3)) (hmd : MDQ (sA B' 229 0 v) B3) (hth : (B3.1 198 0) = 0) (hq : MQ M0 (tw B3)) (hinv : INV (n + 1) B3) : LST K (d + 1) N n G B 734 i := by
  refine ⟨G', B3, fun x o6 o7 o8 hn => ?_, hinv, hrm.fin (fun o k h1 h2 => hmd.1 o k (by omega)) (fun o j h1 => (hmd.2.1 o j (by omega)).trans (sA_ne (Or.inl (by omega)))) hq, hal⟩
  have hT := w_5 (K := K) (N := N) (G := G') (B := B3) (d := d + 1) (by omega)
  rw [hth] at hT
  exact CS7 hi hl h1 (k := 0) (by omega) hv (X_18 hv h0) hM hT (fun _ => (hmd.2.1 229 0 (by omega)).trans (sA_eq rfl)) hn
theorem OB7 (hi : 0 ≤ i ∧ i + 6 ≤ (K.1.2.1 : Int)) (hl : K.1.2.1 ≤ 384) (h1 : K.1.2.2 (i + 1).toNat = I z1) (hw : R32 w) (hal : AL G G' 1100 15000) (hrm : RM K N G' B' M0) (h0 : gCa K d 99 [.ref N, .int (I z1)] (hH K N G B) = some (.inr E, hH K N G' B')) (hE : gHd 18 4 E = some (some (I k))) (hk : 1 ≤ k ∧ k < 10) (hM : gCa K (d + 1) 19 [.ref (N + 198), .int (I z1)] (hH K N G' B') = some (.inl (some (.int (I w))), hH K N G' B3)) (hmd : MDQ B' B3) (hth : (B3.1 198 0) = k) (hq : MQ M0 (tw B3)) (hinv : INV (n + 1) B3) : LST K (d + 1) N n G B 734 i := by
  refine ⟨G', B3, fun x o6 o7 o8 hn => ?_, hinv, hrm.fin (fun o k h1 h2 => hmd.1 o k (by omega)) (fun o j h1 => hmd.2.1 o j (by omega)) hq, hal⟩
  have hT := w_5 (K := K) (N := N) (G := G') (B := B3) (d := d + 1) (by omega)
  rw [hth] at hT
  exact CS7 hi hl h1 (k := k) (by omega) hw (Y_18 h0 hE) hM hT (fun h => by omega) hn
theorem OA8 (hi : 0 ≤ i ∧ i + 6 ≤ (K.1.2.1 : Int)) (hl : K.1.2.1 ≤ 384) (h1 : K.1.2.2 (i + 1).toNat = I z1) (h2 : K.1.2.2 (i + 2).toNat = I z2) (h3 : K.1.2.2 (i + 3).toNat = I z3) (h4 : K.1.2.2 (i + 4).toNat = I z4) (h5 : K.1.2.2 (i + 5).toNat = I z5) (r5 : R32 z5) (hv : R32 v) (hal : AL G G' 1100 15000) (hrm : RM K N G' B' M0) (h0 : gCa K d 100 [.ref N, .int (I z1), .int (I z2), .int (I z3), .int (I z4), .int (I (bz z5))] (hH K N G B) = some (.inl (some (.int (I v))), hH K N G' B')) (hM : gCa K (d + 1) 21 [.ref (N + 198), .int (I z1), .int (I z2), .int (I z3), .int (I z4), .int (I (bz z5))] (hH K N G' (sA B' 229 0 v)) = some (.inl (some (.int (I v))), hH K N G' B3)) (hmd : MDQ (sA B' 229 0 v) B3) (hth : (B3.1 198 0) = 0) (hq : MQ M0 (tw B3)) (hinv : INV (n + 1) B3) : LST K (d + 1) N n G B 790 i := by
  refine ⟨G', B3, fun x o6 o7 o8 hn => ?_, hinv, hrm.fin (fun o k h1 h2 => hmd.1 o k (by omega)) (fun o j h1 => (hmd.2.1 o j (by omega)).trans (sA_ne (Or.inl (by omega)))) hq, hal⟩
  have hT := w_5 (K := K) (N := N) (G := G') (B := B3) (d := d + 1) (by omega)
  rw [hth] at hT
  exact CS8 hi hl h1 h2 h3 h4 h5 r5 (k := 0) (by omega) hv (X_20 hv h0) hM hT (fun _ => (hmd.2.1 229 0 (by omega)).trans (sA_eq rfl)) hn
theorem OB8 (hi : 0 ≤ i ∧ i + 6 ≤ (K.1.2.1 : Int)) (hl : K.1.2.1 ≤ 384) (h1 : K.1.2.2 (i + 1).toNat = I z1) (h2 : K.1.2.2 (i + 2).toNat = I z2) (h3 : K.1.2.2 (i + 3).toNat = I z3) (h4 : K.1.2.2 (i + 4).toNat = I z4) (h5 : K.1.2.2 (i + 5).toNat = I z5) (r5 : R32 z5) (hw : R32 w) (hal : AL G G' 1100 15000) (hrm : RM K N G' B' M0) (h0 : gCa K d 100 [.ref N, .int (I z1), .int (I z2), .int (I z3), .int (I z4), .int (I (bz z5))] (hH K N G B) = some (.inr E, hH K N G' B')) (hE : gHd 20 11 E = some (some (I k))) (hk : 1 ≤ k ∧ k < 10) (hM : gCa K (d + 1) 21 [.ref (N + 198), .int (I z1), .int (I z2), .int (I z3), .int (I z4), .int (I (bz z5))] (hH K N G' B') = some (.inl (some (.int (I w))), hH K N G' B3)) (hmd : MDQ B' B3) (hth : (B3.1 198 0) = k) (hq : MQ M0 (tw B3)) (hinv : INV (n + 1) B3) : LST K (d + 1) N n G B 790 i := by
  refine ⟨G', B3, fun x o6 o7 o8 hn => ?_, hinv, hrm.fin (fun o k h1 h2 => hmd.1 o k (by omega)) (fun o j h1 => hmd.2.1 o j (by omega)) hq, hal⟩
  have hT := w_5 (K := K) (N := N) (G := G') (B := B3) (d := d + 1) (by omega)
  rw [hth] at hT
  exact CS8 hi hl h1 h2 h3 h4 h5 r5 (k := k) (by omega) hw (Y_20 h0 hE) hM hT (fun h => by omega) hn
theorem OA9 (hi : 0 ≤ i ∧ i + 6 ≤ (K.1.2.1 : Int)) (hl : K.1.2.1 ≤ 384) (h1 : K.1.2.2 (i + 1).toNat = I z1) (h2 : K.1.2.2 (i + 2).toNat = I z2) (h3 : K.1.2.2 (i + 3).toNat = I z3) (h4 : K.1.2.2 (i + 4).toNat = I z4) (h5 : K.1.2.2 (i + 5).toNat = I z5) (r5 : R32 z5) (hv : R32 v) (hal : AL G G' 1100 15000) (hrm : RM K N G' B' M0) (h0 : gCa K d 103 [.ref N, .int (I z1), .int (I z2), .int (I z3), .int (I z4), .int (I (bz z5))] (hH K N G B) = some (.inl (some (.int (I v))), hH K N G' B')) (hM : gCa K (d + 1) 23 [.ref (N + 198), .int (I z1), .int (I z2), .int (I z3), .int (I z4), .int (I (bz z5))] (hH K N G' (sA B' 229 0 v)) = some (.inl (some (.int (I v))), hH K N G' B3)) (hmd : MDQ (sA B' 229 0 v) B3) (hth : (B3.1 198 0) = 0) (hq : MQ M0 (tw B3)) (hinv : INV (n + 1) B3) : LST K (d + 1) N n G B 910 i := by
  refine ⟨G', B3, fun x o6 o7 o8 hn => ?_, hinv, hrm.fin (fun o k h1 h2 => hmd.1 o k (by omega)) (fun o j h1 => (hmd.2.1 o j (by omega)).trans (sA_ne (Or.inl (by omega)))) hq, hal⟩
  have hT := w_5 (K := K) (N := N) (G := G') (B := B3) (d := d + 1) (by omega)
  rw [hth] at hT
  exact CS9 hi hl h1 h2 h3 h4 h5 r5 (k := 0) (by omega) hv (X_22 hv h0) hM hT (fun _ => (hmd.2.1 229 0 (by omega)).trans (sA_eq rfl)) hn
theorem OB9 (hi : 0 ≤ i ∧ i + 6 ≤ (K.1.2.1 : Int)) (hl : K.1.2.1 ≤ 384) (h1 : K.1.2.2 (i + 1).toNat = I z1) (h2 : K.1.2.2 (i + 2).toNat = I z2) (h3 : K.1.2.2 (i + 3).toNat = I z3) (h4 : K.1.2.2 (i + 4).toNat = I z4) (h5 : K.1.2.2 (i + 5).toNat = I z5) (r5 : R32 z5) (hw : R32 w) (hal : AL G G' 1100 15000) (hrm : RM K N G' B' M0) (h0 : gCa K d 103 [.ref N, .int (I z1), .int (I z2), .int (I z3), .int (I z4), .int (I (bz z5))] (hH K N G B) = some (.inr E, hH K N G' B')) (hE : gHd 22 11 E = some (some (I k))) (hk : 1 ≤ k ∧ k < 10) (hM : gCa K (d + 1) 23 [.ref (N + 198), .int (I z1), .int (I z2), .int (I z3), .int (I z4), .int (I (bz z5))] (hH K N G' B') = some (.inl (some (.int (I w))), hH K N G' B3)) (hmd : MDQ B' B3) (hth : (B3.1 198 0) = k) (hq : MQ M0 (tw B3)) (hinv : INV (n + 1) B3) : LST K (d + 1) N n G B 910 i := by
  refine ⟨G', B3, fun x o6 o7 o8 hn => ?_, hinv, hrm.fin (fun o k h1 h2 => hmd.1 o k (by omega)) (fun o j h1 => hmd.2.1 o j (by omega)) hq, hal⟩
  have hT := w_5 (K := K) (N := N) (G := G') (B := B3) (d := d + 1) (by omega)
  rw [hth] at hT
  exact CS9 hi hl h1 h2 h3 h4 h5 r5 (k := k) (by omega) hw (Y_22 h0 hE) hM hT (fun h => by omega) hn
theorem OA10 (hi : 0 ≤ i ∧ i + 6 ≤ (K.1.2.1 : Int)) (hl : K.1.2.1 ≤ 384) (h1 : K.1.2.2 (i + 1).toNat = I z1) (h2 : K.1.2.2 (i + 2).toNat = I z2) (r2 : R32 z2) (hv : R32 v) (hal : AL G G' 1100 15000) (hrm : RM K N G' B' M0) (h0 : gCa K d 104 [.ref N, .int (I z1), .int (I (bz z2))] (hH K N G B) = some (.inl (some (.int (I v))), hH K N G' B')) (hM : gCa K (d + 1) 25 [.ref (N + 198), .int (I z1), .int (I (bz z2))] (hH K N G' (sA B' 229 0 v)) = some (.inl (some (.int (I v))), hH K N G' B3)) (hmd : MDQ (sA B' 229 0 v) B3) (hth : (B3.1 198 0) = 0) (hq : MQ M0 (tw B3)) (hinv : INV (n + 1) B3) : LST K (d + 1) N n G B 1030 i := by
  refine ⟨G', B3, fun x o6 o7 o8 hn => ?_, hinv, hrm.fin (fun o k h1 h2 => hmd.1 o k (by omega)) (fun o j h1 => (hmd.2.1 o j (by omega)).trans (sA_ne (Or.inl (by omega)))) hq, hal⟩
  have hT := w_5 (K := K) (N := N) (G := G') (B := B3) (d := d + 1) (by omega)
  rw [hth] at hT
  exact CS10 hi hl h1 h2 r2 (k := 0) (by omega) hv (X_24 hv h0) hM hT (fun _ => (hmd.2.1 229 0 (by omega)).trans (sA_eq rfl)) hn
theorem OB10 (hi : 0 ≤ i ∧ i + 6 ≤ (K.1.2.1 : Int)) (hl : K.1.2.1 ≤ 384) (h1 : K.1.2.2 (i + 1).toNat = I z1) (h2 : K.1.2.2 (i + 2).toNat = I z2) (r2 : R32 z2) (hw : R32 w) (hal : AL G G' 1100 15000) (hrm : RM K N G' B' M0) (h0 : gCa K d 104 [.ref N, .int (I z1), .int (I (bz z2))] (hH K N G B) = some (.inr E, hH K N G' B')) (hE : gHd 24 5 E = some (some (I k))) (hk : 1 ≤ k ∧ k < 10) (hM : gCa K (d + 1) 25 [.ref (N + 198), .int (I z1), .int (I (bz z2))] (hH K N G' B') = some (.inl (some (.int (I w))), hH K N G' B3)) (hmd : MDQ B' B3) (hth : (B3.1 198 0) = k) (hq : MQ M0 (tw B3)) (hinv : INV (n + 1) B3) : LST K (d + 1) N n G B 1030 i := by
  refine ⟨G', B3, fun x o6 o7 o8 hn => ?_, hinv, hrm.fin (fun o k h1 h2 => hmd.1 o k (by omega)) (fun o j h1 => hmd.2.1 o j (by omega)) hq, hal⟩
  have hT := w_5 (K := K) (N := N) (G := G') (B := B3) (d := d + 1) (by omega)
  rw [hth] at hT
  exact CS10 hi hl h1 h2 r2 (k := k) (by omega) hw (Y_24 h0 hE) hM hT (fun h => by omega) hn
theorem OA11 (hi : 0 ≤ i ∧ i + 6 ≤ (K.1.2.1 : Int)) (hl : K.1.2.1 ≤ 384) (h1 : K.1.2.2 (i + 1).toNat = I z1) (hv : R32 v) (hal : AL G G' 1100 15000) (hrm : RM K N G' B' M0) (h0 : gCa K d 106 [.ref N, .int (I z1)] (hH K N G B) = some (.inl (some (.int (I v))), hH K N G' B')) (hM : gCa K (d + 1) 27 [.ref (N + 198), .int (I z1)] (hH K N G' (sA B' 229 0 v)) = some (.inl (some (.int (I v))), hH K N G' B3)) (hmd : MDQ (sA B' 229 0 v) B3) (hth : (B3.1 198 0) = 0) (hq : MQ M0 (tw B3)) (hinv : INV (n + 1) B3) : LST K (d + 1) N n G B 1114 i := by
  refine ⟨G', B3, fun x o6 o7 o8 hn => ?_, hinv, hrm.fin (fun o k h1 h2 => hmd.1 o k (by omega)) (fun o j h1 => (hmd.2.1 o j (by omega)).trans (sA_ne (Or.inl (by omega)))) hq, hal⟩
  have hT := w_5 (K := K) (N := N) (G := G') (B := B3) (d := d + 1) (by omega)
  rw [hth] at hT
  exact CS11 hi hl h1 (k := 0) (by omega) hv (X_26 hv h0) hM hT (fun _ => (hmd.2.1 229 0 (by omega)).trans (sA_eq rfl)) hn
theorem OB11 (hi : 0 ≤ i ∧ i + 6 ≤ (K.1.2.1 : Int)) (hl : K.1.2.1 ≤ 384) (h1 : K.1.2.2 (i + 1).toNat = I z1) (hw : R32 w) (hal : AL G G' 1100 15000) (hrm : RM K N G' B' M0) (h0 : gCa K d 106 [.ref N, .int (I z1)] (hH K N G B) = some (.inr E, hH K N G' B')) (hE : gHd 26 4 E = some (some (I k))) (hk : 1 ≤ k ∧ k < 10) (hM : gCa K (d + 1) 27 [.ref (N + 198), .int (I z1)] (hH K N G' B') = some (.inl (some (.int (I w))), hH K N G' B3)) (hmd : MDQ B' B3) (hth : (B3.1 198 0) = k) (hq : MQ M0 (tw B3)) (hinv : INV (n + 1) B3) : LST K (d + 1) N n G B 1114 i := by
  refine ⟨G', B3, fun x o6 o7 o8 hn => ?_, hinv, hrm.fin (fun o k h1 h2 => hmd.1 o k (by omega)) (fun o j h1 => hmd.2.1 o j (by omega)) hq, hal⟩
  have hT := w_5 (K := K) (N := N) (G := G') (B := B3) (d := d + 1) (by omega)
  rw [hth] at hT
  exact CS11 hi hl h1 (k := k) (by omega) hw (Y_26 h0 hE) hM hT (fun h => by omega) hn
theorem OS12 (hi : 0 ≤ i ∧ i + 6 ≤ (K.1.2.1 : Int)) (hl : K.1.2.1 ≤ 384) (hal : AL G G' 1100 15000) (hrm : RM K N G' B' M0) (h0 : gCa K (d + 1) 28 [.ref N] (hH K N G B) = some (.inl (some (.int (I w))), hH K N G' B')) (hM : gCa K (d + 1) 29 [.ref (N + 198)] (hH K N G' B') = some (.inl (some (.int (I w))), hH K N G' B3)) (hmd : MDQ B' B3) (hq : MQ M0 (tw B3)) (hinv : INV (n + 1) B3) : LST K (d + 1) N n G B 1170 i :=
  ⟨G', B3, fun x o6 o7 o8 hn => CS12 hi hl h0 hM hn, hinv, hrm.fin (fun o k h1 h2 => hmd.1 o k (by omega)) (fun o j h1 => hmd.2.1 o j (by omega)) hq, hal⟩
theorem OS13 (hi : 0 ≤ i ∧ i + 6 ≤ (K.1.2.1 : Int)) (hl : K.1.2.1 ≤ 384) (hal : AL G G' 1100 15000) (hrm : RM K N G' B' M0) (h0 : gCa K (d + 1) 30 [.ref N] (hH K N G B) = some (.inl (some (.int (I w))), hH K N G' B')) (hM : gCa K (d + 1) 31 [.ref (N + 198)] (hH K N G' B') = some (.inl (some (.int (I w))), hH K N G' B3)) (hmd : MDQ B' B3) (hq : MQ M0 (tw B3)) (hinv : INV (n + 1) B3) : LST K (d + 1) N n G B 1183 i :=
  ⟨G', B3, fun x o6 o7 o8 hn => CS13 hi hl h0 hM hn, hinv, hrm.fin (fun o k h1 h2 => hmd.1 o k (by omega)) (fun o j h1 => hmd.2.1 o j (by omega)) hq, hal⟩
theorem OA14 (hi : 0 ≤ i ∧ i + 6 ≤ (K.1.2.1 : Int)) (hl : K.1.2.1 ≤ 384) (h1 : K.1.2.2 (i + 1).toNat = I z1) (hv : R32 v) (hal : AL G G' 1100 15000) (hrm : RM K N G' B' M0) (h0 : gCa K d 113 [.ref N, .int (I z1)] (hH K N G B) = some (.inl (some (.int (I v))), hH K N G' B')) (hM : gCa K (d + 1) 33 [.ref (N + 198), .int (I z1)] (hH K N G' (sA B' 229 0 v)) = some (.inl (some (.int (I v))), hH K N G' B3)) (hmd : MDQ (sA B' 229 0 v) B3) (hth : (B3.1 198 0) = 0) (hq : MQ M0 (tw B3)) (hinv : INV (n + 1) B3) : LST K (d + 1) N n G B 1196 i := by
  refine ⟨G', B3, fun x o6 o7 o8 hn => ?_, hinv, hrm.fin (fun o k h1 h2 => hmd.1 o k (by omega)) (fun o j h1 => (hmd.2.1 o j (by omega)).trans (sA_ne (Or.inl (by omega)))) hq, hal⟩
  have hT := w_5 (K := K) (N := N) (G := G') (B := B3) (d := d + 1) (by omega)
  rw [hth] at hT
  exact CS14 hi hl h1 (k := 0) (by omega) hv (X_32 hv h0) hM hT (fun _ => (hmd.2.1 229 0 (by omega)).trans (sA_eq rfl)) hn
theorem OB14 (hi : 0 ≤ i ∧ i + 6 ≤ (K.1.2.1 : Int)) (hl : K.1.2.1 ≤ 384) (h1 : K.1.2.2 (i + 1).toNat = I z1) (hw : R32 w) (hal : AL G G' 1100 15000) (hrm : RM K N G' B' M0) (h0 : gCa K d 113 [.ref N, .int (I z1)] (hH K N G B) = some (.inr E, hH K N G' B')) (hE : gHd 32 4 E = some (some (I k))) (hk : 1 ≤ k ∧ k < 10) (hM : gCa K (d + 1) 33 [.ref (N + 198), .int (I z1)] (hH K N G' B') = some (.inl (some (.int (I w))), hH K N G' B3)) (hmd : MDQ B' B3) (hth : (B3.1 198 0) = k) (hq : MQ M0 (tw B3)) (hinv : INV (n + 1) B3) : LST K (d + 1) N n G B 1196 i := by
  refine ⟨G', B3, fun x o6 o7 o8 hn => ?_, hinv, hrm.fin (fun o k h1 h2 => hmd.1 o k (by omega)) (fun o j h1 => hmd.2.1 o j (by omega)) hq, hal⟩
  have hT := w_5 (K := K) (N := N) (G := G') (B := B3) (d := d + 1) (by omega)
  rw [hth] at hT
  exact CS14 hi hl h1 (k := k) (by omega) hw (Y_32 h0 hE) hM hT (fun h => by omega) hn
theorem OA15 (hi : 0 ≤ i ∧ i + 6 ≤ (K.1.2.1 : Int)) (hl : K.1.2.1 ≤ 384) (h1 : K.1.2.2 (i + 1).toNat = I z1) (hv : R32 v) (hal : AL G G' 1100 15000) (hrm : RM K N G' B' M0) (h0 : gCa K d 114 [.ref N, .int (I z1)] (hH K N G B) = some (.inl (some (.int (I v))), hH K N G' B')) (hM : gCa K (d + 1) 35 [.ref (N + 198), .int (I z1)] (hH K N G' (sA B' 229 0 v)) = some (.inl (some (.int (I v))), hH K N G' B3)) (hmd : MDQ (sA B' 229 0 v) B3) (hth : (B3.1 198 0) = 0) (hq : MQ M0 (tw B3)) (hinv : INV (n + 1) B3) : LST K (d + 1) N n G B 1252 i := by
  refine ⟨G', B3, fun x o6 o7 o8 hn => ?_, hinv, hrm.fin (fun o k h1 h2 => hmd.1 o k (by omega)) (fun o j h1 => (hmd.2.1 o j (by omega)).trans (sA_ne (Or.inl (by omega)))) hq, hal⟩
  have hT := w_5 (K := K) (N := N) (G := G') (B := B3) (d := d + 1) (by omega)
  rw [hth] at hT
  exact CS15 hi hl h1 (k := 0) (by omega) hv (X_34 hv h0) hM hT (fun _ => (hmd.2.1 229 0 (by omega)).trans (sA_eq rfl)) hn
theorem OB15 (hi : 0 ≤ i ∧ i + 6 ≤ (K.1.2.1 : Int)) (hl : K.1.2.1 ≤ 384) (h1 : K.1.2.2 (i + 1).toNat = I z1) (hw : R32 w) (hal : AL G G' 1100 15000) (hrm : RM K N G' B' M0) (h0 : gCa K d 114 [.ref N, .int (I z1)] (hH K N G B) = some (.inr E, hH K N G' B')) (hE : gHd 34 4 E = some (some (I k))) (hk : 1 ≤ k ∧ k < 10) (hM : gCa K (d + 1) 35 [.ref (N + 198), .int (I z1)] (hH K N G' B') = some (.inl (some (.int (I w))), hH K N G' B3)) (hmd : MDQ B' B3) (hth : (B3.1 198 0) = k) (hq : MQ M0 (tw B3)) (hinv : INV (n + 1) B3) : LST K (d + 1) N n G B 1252 i := by
  refine ⟨G', B3, fun x o6 o7 o8 hn => ?_, hinv, hrm.fin (fun o k h1 h2 => hmd.1 o k (by omega)) (fun o j h1 => hmd.2.1 o j (by omega)) hq, hal⟩
  have hT := w_5 (K := K) (N := N) (G := G') (B := B3) (d := d + 1) (by omega)
  rw [hth] at hT
  exact CS15 hi hl h1 (k := k) (by omega) hw (Y_34 h0 hE) hM hT (fun h => by omega) hn
theorem OA16 (hi : 0 ≤ i ∧ i + 6 ≤ (K.1.2.1 : Int)) (hl : K.1.2.1 ≤ 384) (h1 : K.1.2.2 (i + 1).toNat = I z1) (hv : R32 v) (hal : AL G G' 1100 15000) (hrm : RM K N G' B' M0) (h0 : gCa K d 115 [.ref N, .int (I z1)] (hH K N G B) = some (.inl (some (.int (I v))), hH K N G' B')) (hM : gCa K (d + 1) 37 [.ref (N + 198), .int (I z1)] (hH K N G' (sA B' 229 0 v)) = some (.inl (some (.int (I v))), hH K N G' B3)) (hmd : MDQ (sA B' 229 0 v) B3) (hth : (B3.1 198 0) = 0) (hq : MQ M0 (tw B3)) (hinv : INV (n + 1) B3) : LST K (d + 1) N n G B 1308 i := by
  refine ⟨G', B3, fun x o6 o7 o8 hn => ?_, hinv, hrm.fin (fun o k h1 h2 => hmd.1 o k (by omega)) (fun o j h1 => (hmd.2.1 o j (by omega)).trans (sA_ne (Or.inl (by omega)))) hq, hal⟩
  have hT := w_5 (K := K) (N := N) (G := G') (B := B3) (d := d + 1) (by omega)
  rw [hth] at hT
  exact CS16 hi hl h1 (k := 0) (by omega) hv (X_36 hv h0) hM hT (fun _ => (hmd.2.1 229 0 (by omega)).trans (sA_eq rfl)) hn
theorem OB16 (hi : 0 ≤ i ∧ i + 6 ≤ (K.1.2.1 : Int)) (hl : K.1.2.1 ≤ 384) (h1 : K.1.2.2 (i + 1).toNat = I z1) (hw : R32 w) (hal : AL G G' 1100 15000) (hrm : RM K N G' B' M0) (h0 : gCa K d 115 [.ref N, .int (I z1)] (hH K N G B) = some (.inr E, hH K N G' B')) (hE : gHd 36 4 E = some (some (I k))) (hk : 1 ≤ k ∧ k < 10) (hM : gCa K (d + 1) 37 [.ref (N + 198), .int (I z1)] (hH K N G' B') = some (.inl (some (.int (I w))), hH K N G' B3)) (hmd : MDQ B' B3) (hth : (B3.1 198 0) = k) (hq : MQ M0 (tw B3)) (hinv : INV (n + 1) B3) : LST K (d + 1) N n G B 1308 i := by
  refine ⟨G', B3, fun x o6 o7 o8 hn => ?_, hinv, hrm.fin (fun o k h1 h2 => hmd.1 o k (by omega)) (fun o j h1 => hmd.2.1 o j (by omega)) hq, hal⟩
  have hT := w_5 (K := K) (N := N) (G := G') (B := B3) (d := d + 1) (by omega)
  rw [hth] at hT
  exact CS16 hi hl h1 (k := k) (by omega) hw (Y_36 h0 hE) hM hT (fun h => by omega) hn
theorem OA17 (hi : 0 ≤ i ∧ i + 6 ≤ (K.1.2.1 : Int)) (hl : K.1.2.1 ≤ 384) (h1 : K.1.2.2 (i + 1).toNat = I z1) (h2 : K.1.2.2 (i + 2).toNat = I z2) (hv : R32 v) (hal : AL G G' 1100 15000) (hrm : RM K N G' B' M0) (h0 : gCa K d 116 [.ref N, .int (I z1), .int (I z2)] (hH K N G B) = some (.inl (some (.int (I v))), hH K N G' B')) (hM : gCa K (d + 1) 39 [.ref (N + 198), .int (I z1), .int (I z2)] (hH K N G' (sA B' 229 0 v)) = some (.inl (some (.int (I v))), hH K N G' B3)) (hmd : MDQ (sA B' 229 0 v) B3) (hth : (B3.1 198 0) = 0) (hq : MQ M0 (tw B3)) (hinv : INV (n + 1) B3) : LST K (d + 1) N n G B 1364 i := by
  refine ⟨G', B3, fun x o6 o7 o8 hn => ?_, hinv, hrm.fin (fun o k h1 h2 => hmd.1 o k (by omega)) (fun o j h1 => (hmd.2.1 o j (by omega)).trans (sA_ne (Or.inl (by omega)))) hq, hal⟩
  have hT := w_5 (K := K) (N := N) (G := G') (B := B3) (d := d + 1) (by omega)
  rw [hth] at hT
  exact CS17 hi hl h1 h2 (k := 0) (by omega) hv (X_38 hv h0) hM hT (fun _ => (hmd.2.1 229 0 (by omega)).trans (sA_eq rfl)) hn
theorem OB17 (hi : 0 ≤ i ∧ i + 6 ≤ (K.1.2.1 : Int)) (hl : K.1.2.1 ≤ 384) (h1 : K.1.2.2 (i + 1).toNat = I z1) (h2 : K.1.2.2 (i + 2).toNat = I z2) (hw : R32 w) (hal : AL G G' 1100 15000) (hrm : RM K N G' B' M0) (h0 : gCa K d 116 [.ref N, .int (I z1), .int (I z2)] (hH K N G B) = some (.inr E, hH K N G' B')) (hE : gHd 38 5 E = some (some (I k))) (hk : 1 ≤ k ∧ k < 10) (hM : gCa K (d + 1) 39 [.ref (N + 198), .int (I z1), .int (I z2)] (hH K N G' B') = some (.inl (some (.int (I w))), hH K N G' B3)) (hmd : MDQ B' B3) (hth : (B3.1 198 0) = k) (hq : MQ M0 (tw B3)) (hinv : INV (n + 1) B3) : LST K (d + 1) N n G B 1364 i := by
  refine ⟨G', B3, fun x o6 o7 o8 hn => ?_, hinv, hrm.fin (fun o k h1 h2 => hmd.1 o k (by omega)) (fun o j h1 => hmd.2.1 o j (by omega)) hq, hal⟩
  have hT := w_5 (K := K) (N := N) (G := G') (B := B3) (d := d + 1) (by omega)
  rw [hth] at hT
  exact CS17 hi hl h1 h2 (k := k) (by omega) hw (Y_38 h0 hE) hM hT (fun h => by omega) hn
theorem OA18 (hi : 0 ≤ i ∧ i + 6 ≤ (K.1.2.1 : Int)) (hl : K.1.2.1 ≤ 384) (h1 : K.1.2.2 (i + 1).toNat = I z1) (h2 : K.1.2.2 (i + 2).toNat = I z2) (hv : R32 v) (hal : AL G G' 1100 15000) (hrm : RM K N G' B' M0) (h0 : gCa K d 117 [.ref N, .int (I z1), .int (I z2)] (hH K N G B) = some (.inl (some (.int (I v))), hH K N G' B')) (hM : gCa K (d + 1) 41 [.ref (N + 198), .int (I z1), .int (I z2)] (hH K N G' (sA B' 229 0 v)) = some (.inl (some (.int (I v))), hH K N G' B3)) (hmd : MDQ (sA B' 229 0 v) B3) (hth : (B3.1 198 0) = 0) (hq : MQ M0 (tw B3)) (hinv : INV (n + 1) B3) : LST K (d + 1) N n G B 1432 i := by
  refine ⟨G', B3, fun x o6 o7 o8 hn => ?_, hinv, hrm.fin (fun o k h1 h2 => hmd.1 o k (by omega)) (fun o j h1 => (hmd.2.1 o j (by omega)).trans (sA_ne (Or.inl (by omega)))) hq, hal⟩
  have hT := w_5 (K := K) (N := N) (G := G') (B := B3) (d := d + 1) (by omega)
  rw [hth] at hT
  exact CS18 hi hl h1 h2 (k := 0) (by omega) hv (X_40 hv h0) hM hT (fun _ => (hmd.2.1 229 0 (by omega)).trans (sA_eq rfl)) hn
theorem OB18 (hi : 0 ≤ i ∧ i + 6 ≤ (K.1.2.1 : Int)) (hl : K.1.2.1 ≤ 384) (h1 : K.1.2.2 (i + 1).toNat = I z1) (h2 : K.1.2.2 (i + 2).toNat = I z2) (hw : R32 w) (hal : AL G G' 1100 15000) (hrm : RM K N G' B' M0) (h0 : gCa K d 117 [.ref N, .int (I z1), .int (I z2)] (hH K N G B) = some (.inr E, hH K N G' B')) (hE : gHd 40 5 E = some (some (I k))) (hk : 1 ≤ k ∧ k < 10) (hM : gCa K (d + 1) 41 [.ref (N + 198), .int (I z1), .int (I z2)] (hH K N G' B') = some (.inl (some (.int (I w))), hH K N G' B3)) (hmd : MDQ B' B3) (hth : (B3.1 198 0) = k) (hq : MQ M0 (tw B3)) (hinv : INV (n + 1) B3) : LST K (d + 1) N n G B 1432 i := by
  refine ⟨G', B3, fun x o6 o7 o8 hn => ?_, hinv, hrm.fin (fun o k h1 h2 => hmd.1 o k (by omega)) (fun o j h1 => hmd.2.1 o j (by omega)) hq, hal⟩
  have hT := w_5 (K := K) (N := N) (G := G') (B := B3) (d := d + 1) (by omega)
  rw [hth] at hT
  exact CS18 hi hl h1 h2 (k := k) (by omega) hw (Y_40 h0 hE) hM hT (fun h => by omega) hn
theorem OS19 (hi : 0 ≤ i ∧ i + 6 ≤ (K.1.2.1 : Int)) (hl : K.1.2.1 ≤ 384) (hal : AL G G' 1100 15000) (hrm : RM K N G' B' M0) (h0 : gCa K (d + 1) 42 [.ref N] (hH K N G B) = some (.inl (some (.int (I w))), hH K N G' B')) (hM : gCa K (d + 1) 43 [.ref (N + 198)] (hH K N G' B') = some (.inl (some (.int (I w))), hH K N G' B3)) (hmd : MDQ B' B3) (hq : MQ M0 (tw B3)) (hinv : INV (n + 1) B3) : LST K (d + 1) N n G B 1500 i :=
  ⟨G', B3, fun x o6 o7 o8 hn => CS19 hi hl h0 hM hn, hinv, hrm.fin (fun o k h1 h2 => hmd.1 o k (by omega)) (fun o j h1 => hmd.2.1 o j (by omega)) hq, hal⟩
theorem OS20 (hi : 0 ≤ i ∧ i + 6 ≤ (K.1.2.1 : Int)) (hl : K.1.2.1 ≤ 384) (hal : AL G G' 1100 15000) (hrm : RM K N G' B' M0) (h0 : gCa K (d + 1) 44 [.ref N] (hH K N G B) = some (.inl (some (.int (I w))), hH K N G' B')) (hM : gCa K (d + 1) 45 [.ref (N + 198)] (hH K N G' B') = some (.inl (some (.int (I w))), hH K N G' B3)) (hmd : MDQ B' B3) (hq : MQ M0 (tw B3)) (hinv : INV (n + 1) B3) : LST K (d + 1) N n G B 1513 i :=
  ⟨G', B3, fun x o6 o7 o8 hn => CS20 hi hl h0 hM hn, hinv, hrm.fin (fun o k h1 h2 => hmd.1 o k (by omega)) (fun o j h1 => hmd.2.1 o j (by omega)) hq, hal⟩
theorem OA21 (hi : 0 ≤ i ∧ i + 6 ≤ (K.1.2.1 : Int)) (hl : K.1.2.1 ≤ 384) (h1 : K.1.2.2 (i + 1).toNat = I z1) (hv : R32 v) (hal : AL G G' 1100 15000) (hrm : RM K N G' B' M0) (h0 : gCa K d 120 [.ref N, .int (I z1)] (hH K N G B) = some (.inl (some (.int (I v))), hH K N G' B')) (hM : gCa K (d + 1) 47 [.ref (N + 198), .int (I z1)] (hH K N G' (sA B' 229 0 v)) = some (.inl (some (.int (I v))), hH K N G' B3)) (hmd : MDQ (sA B' 229 0 v) B3) (hth : (B3.1 198 0) = 0) (hq : MQ M0 (tw B3)) (hinv : INV (n + 1) B3) : LST K (d + 1) N n G B 1526 i := by
  refine ⟨G', B3, fun x o6 o7 o8 hn => ?_, hinv, hrm.fin (fun o k h1 h2 => hmd.1 o k (by omega)) (fun o j h1 => (hmd.2.1 o j (by omega)).trans (sA_ne (Or.inl (by omega)))) hq, hal⟩
  have hT := w_5 (K := K) (N := N) (G := G') (B := B3) (d := d + 1) (by omega)
  rw [hth] at hT
  exact CS21 hi hl h1 (k := 0) (by omega) hv (X_46 hv h0) hM hT (fun _ => (hmd.2.1 229 0 (by omega)).trans (sA_eq rfl)) hn
theorem OB21 (hi : 0 ≤ i ∧ i + 6 ≤ (K.1.2.1 : Int)) (hl : K.1.2.1 ≤ 384) (h1 : K.1.2.2 (i + 1).toNat = I z1) (hw : R32 w) (hal : AL G G' 1100 15000) (hrm : RM K N G' B' M0) (h0 : gCa K d 120 [.ref N, .int (I z1)] (hH K N G B) = some (.inr E, hH K N G' B')) (hE : gHd 46 4 E = some (some (I k))) (hk : 1 ≤ k ∧ k < 10) (hM : gCa K (d + 1) 47 [.ref (N + 198), .int (I z1)] (hH K N G' B') = some (.inl (some (.int (I w))), hH K N G' B3)) (hmd : MDQ B' B3) (hth : (B3.1 198 0) = k) (hq : MQ M0 (tw B3)) (hinv : INV (n + 1) B3) : LST K (d + 1) N n G B 1526 i := by
  refine ⟨G', B3, fun x o6 o7 o8 hn => ?_, hinv, hrm.fin (fun o k h1 h2 => hmd.1 o k (by omega)) (fun o j h1 => hmd.2.1 o j (by omega)) hq, hal⟩
  have hT := w_5 (K := K) (N := N) (G := G') (B := B3) (d := d + 1) (by omega)
  rw [hth] at hT
  exact CS21 hi hl h1 (k := k) (by omega) hw (Y_46 h0 hE) hM hT (fun h => by omega) hn
theorem OA22 (hi : 0 ≤ i ∧ i + 6 ≤ (K.1.2.1 : Int)) (hl : K.1.2.1 ≤ 384) (hv : R32 v) (hal : AL G G' 1100 15000) (hrm : RM K N G' B' M0) (h0 : gCa K d 121 [.ref N] (hH K N G B) = some (.inl (some (.int (I v))), hH K N G' B')) (hM : gCa K (d + 1) 49 [.ref (N + 198)] (hH K N G' (sA B' 229 0 v)) = some (.inl (some (.int (I v))), hH K N G' B3)) (hmd : MDQ (sA B' 229 0 v) B3) (hth : (B3.1 198 0) = 0) (hq : MQ M0 (tw B3)) (hinv : INV (n + 1) B3) : LST K (d + 1) N n G B 1582 i := by
  refine ⟨G', B3, fun x o6 o7 o8 hn => ?_, hinv, hrm.fin (fun o k h1 h2 => hmd.1 o k (by omega)) (fun o j h1 => (hmd.2.1 o j (by omega)).trans (sA_ne (Or.inl (by omega)))) hq, hal⟩
  have hT := w_5 (K := K) (N := N) (G := G') (B := B3) (d := d + 1) (by omega)
  rw [hth] at hT
  exact CS22 hi hl (k := 0) (by omega) hv (X_48 hv h0) hM hT (fun _ => (hmd.2.1 229 0 (by omega)).trans (sA_eq rfl)) hn
theorem OB22 (hi : 0 ≤ i ∧ i + 6 ≤ (K.1.2.1 : Int)) (hl : K.1.2.1 ≤ 384) (hw : R32 w) (hal : AL G G' 1100 15000) (hrm : RM K N G' B' M0) (h0 : gCa K d 121 [.ref N] (hH K N G B) = some (.inr E, hH K N G' B')) (hE : gHd 48 3 E = some (some (I k))) (hk : 1 ≤ k ∧ k < 10) (hM : gCa K (d + 1) 49 [.ref (N + 198)] (hH K N G' B') = some (.inl (some (.int (I w))), hH K N G' B3)) (hmd : MDQ B' B3) (hth : (B3.1 198 0) = k) (hq : MQ M0 (tw B3)) (hinv : INV (n + 1) B3) : LST K (d + 1) N n G B 1582 i := by
  refine ⟨G', B3, fun x o6 o7 o8 hn => ?_, hinv, hrm.fin (fun o k h1 h2 => hmd.1 o k (by omega)) (fun o j h1 => hmd.2.1 o j (by omega)) hq, hal⟩
  have hT := w_5 (K := K) (N := N) (G := G') (B := B3) (d := d + 1) (by omega)
  rw [hth] at hT
  exact CS22 hi hl (k := k) (by omega) hw (Y_48 h0 hE) hM hT (fun h => by omega) hn
theorem OA23 (hi : 0 ≤ i ∧ i + 6 ≤ (K.1.2.1 : Int)) (hl : K.1.2.1 ≤ 384) (h1 : K.1.2.2 (i + 1).toNat = I z1) (h2 : K.1.2.2 (i + 2).toNat = I z2) (h3 : K.1.2.2 (i + 3).toNat = I z3) (hv : R32 v) (hal : AL G G' 1100 15000) (hrm : RM K N G' B' M0) (h0 : gCa K d 122 [.ref N, .int (I z1), .int (I z2), .int (I z3)] (hH K N G B) = some (.inl (some (.int (I v))), hH K N G' B')) (hM : gCa K (d + 1) 51 [.ref (N + 198), .int (I z1), .int (I z2), .int (I z3)] (hH K N G' (sA B' 229 0 v)) = some (.inl (some (.int (I v))), hH K N G' B3)) (hmd : MDQ (sA B' 229 0 v) B3) (hth : (B3.1 198 0) = 0) (hq : MQ M0 (tw B3)) (hinv : INV (n + 1) B3) : LST K (d + 1) N n G B 1626 i := by
  refine ⟨G', B3, fun x o6 o7 o8 hn => ?_, hinv, hrm.fin (fun o k h1 h2 => hmd.1 o k (by omega)) (fun o j h1 => (hmd.2.1 o j (by omega)).trans (sA_ne (Or.inl (by omega)))) hq, hal⟩
  have hT := w_5 (K := K) (N := N) (G := G') (B := B3) (d := d + 1) (by omega)
  rw [hth] at hT
  exact CS23 hi hl h1 h2 h3 (k := 0) (by omega) hv (X_50 hv h0) hM hT (fun _ => (hmd.2.1 229 0 (by omega)).trans (sA_eq rfl)) hn
theorem OB23 (hi : 0 ≤ i ∧ i + 6 ≤ (K.1.2.1 : Int)) (hl : K.1.2.1 ≤ 384) (h1 : K.1.2.2 (i + 1).toNat = I z1) (h2 : K.1.2.2 (i + 2).toNat = I z2) (h3 : K.1.2.2 (i + 3).toNat = I z3) (hw : R32 w) (hal : AL G G' 1100 15000) (hrm : RM K N G' B' M0) (h0 : gCa K d 122 [.ref N, .int (I z1), .int (I z2), .int (I z3)] (hH K N G B) = some (.inr E, hH K N G' B')) (hE : gHd 50 7 E = some (some (I k))) (hk : 1 ≤ k ∧ k < 10) (hM : gCa K (d + 1) 51 [.ref (N + 198), .int (I z1), .int (I z2), .int (I z3)] (hH K N G' B') = some (.inl (some (.int (I w))), hH K N G' B3)) (hmd : MDQ B' B3) (hth : (B3.1 198 0) = k) (hq : MQ M0 (tw B3)) (hinv : INV (n + 1) B3) : LST K (d + 1) N n G B 1626 i := by
  refine ⟨G', B3, fun x o6 o7 o8 hn => ?_, hinv, hrm.fin (fun o k h1 h2 => hmd.1 o k (by omega)) (fun o j h1 => hmd.2.1 o j (by omega)) hq, hal⟩
  have hT := w_5 (K := K) (N := N) (G := G') (B := B3) (d := d + 1) (by omega)
  rw [hth] at hT
  exact CS23 hi hl h1 h2 h3 (k := k) (by omega) hw (Y_50 h0 hE) hM hT (fun h => by omega) hn
theorem OA24 (hi : 0 ≤ i ∧ i + 6 ≤ (K.1.2.1 : Int)) (hl : K.1.2.1 ≤ 384) (h1 : K.1.2.2 (i + 1).toNat = I z1) (hv : R32 v) (hal : AL G G' 1100 15000) (hrm : RM K N G' B' M0) (h0 : gCa K d 125 [.ref N, .int (I z1)] (hH K N G B) = some (.inl (some (.int (I v))), hH K N G' B')) (hM : gCa K (d + 1) 53 [.ref (N + 198), .int (I z1)] (hH K N G' (sA B' 229 0 v)) = some (.inl (some (.int (I v))), hH K N G' B3)) (hmd : MDQ (sA B' 229 0 v) B3) (hth : (B3.1 198 0) = 0) (hq : MQ M0 (tw B3)) (hinv : INV (n + 1) B3) : LST K (d + 1) N n G B 1706 i := by
  refine ⟨G', B3, fun x o6 o7 o8 hn => ?_, hinv, hrm.fin (fun o k h1 h2 => hmd.1 o k (by omega)) (fun o j h1 => (hmd.2.1 o j (by omega)).trans (sA_ne (Or.inl (by omega)))) hq, hal⟩
  have hT := w_5 (K := K) (N := N) (G := G') (B := B3) (d := d + 1) (by omega)
  rw [hth] at hT
  exact CS24 hi hl h1 (k := 0) (by omega) hv (X_52 hv h0) hM hT (fun _ => (hmd.2.1 229 0 (by omega)).trans (sA_eq rfl)) hn
theorem OB24 (hi : 0 ≤ i ∧ i + 6 ≤ (K.1.2.1 : Int)) (hl : K.1.2.1 ≤ 384) (h1 : K.1.2.2 (i + 1).toNat = I z1) (hw : R32 w) (hal : AL G G' 1100 15000) (hrm : RM K N G' B' M0) (h0 : gCa K d 125 [.ref N, .int (I z1)] (hH K N G B) = some (.inr E, hH K N G' B')) (hE : gHd 52 4 E = some (some (I k))) (hk : 1 ≤ k ∧ k < 10) (hM : gCa K (d + 1) 53 [.ref (N + 198), .int (I z1)] (hH K N G' B') = some (.inl (some (.int (I w))), hH K N G' B3)) (hmd : MDQ B' B3) (hth : (B3.1 198 0) = k) (hq : MQ M0 (tw B3)) (hinv : INV (n + 1) B3) : LST K (d + 1) N n G B 1706 i := by
  refine ⟨G', B3, fun x o6 o7 o8 hn => ?_, hinv, hrm.fin (fun o k h1 h2 => hmd.1 o k (by omega)) (fun o j h1 => hmd.2.1 o j (by omega)) hq, hal⟩
  have hT := w_5 (K := K) (N := N) (G := G') (B := B3) (d := d + 1) (by omega)
  rw [hth] at hT
  exact CS24 hi hl h1 (k := k) (by omega) hw (Y_52 h0 hE) hM hT (fun h => by omega) hn
theorem OA25 (hi : 0 ≤ i ∧ i + 6 ≤ (K.1.2.1 : Int)) (hl : K.1.2.1 ≤ 384) (h1 : K.1.2.2 (i + 1).toNat = I z1) (hv : R32 v) (hal : AL G G' 1100 15000) (hrm : RM K N G' B' M0) (h0 : gCa K d 126 [.ref N, .int (I z1)] (hH K N G B) = some (.inl (some (.int (I v))), hH K N G' B')) (hM : gCa K (d + 1) 55 [.ref (N + 198), .int (I z1)] (hH K N G' (sA B' 229 0 v)) = some (.inl (some (.int (I v))), hH K N G' B3)) (hmd : MDQ (sA B' 229 0 v) B3) (hth : (B3.1 198 0) = 0) (hq : MQ M0 (tw B3)) (hinv : INV (n + 1) B3) : LST K (d + 1) N n G B 1762 i := by
  refine ⟨G', B3, fun x o6 o7 o8 hn => ?_, hinv, hrm.fin (fun o k h1 h2 => hmd.1 o k (by omega)) (fun o j h1 => (hmd.2.1 o j (by omega)).trans (sA_ne (Or.inl (by omega)))) hq, hal⟩
  have hT := w_5 (K := K) (N := N) (G := G') (B := B3) (d := d + 1) (by omega)
  rw [hth] at hT
  exact CS25 hi hl h1 (k := 0) (by omega) hv (X_54 hv h0) hM hT (fun _ => (hmd.2.1 229 0 (by omega)).trans (sA_eq rfl)) hn
theorem OB25 (hi : 0 ≤ i ∧ i + 6 ≤ (K.1.2.1 : Int)) (hl : K.1.2.1 ≤ 384) (h1 : K.1.2.2 (i + 1).toNat = I z1) (hw : R32 w) (hal : AL G G' 1100 15000) (hrm : RM K N G' B' M0) (h0 : gCa K d 126 [.ref N, .int (I z1)] (hH K N G B) = some (.inr E, hH K N G' B')) (hE : gHd 54 4 E = some (some (I k))) (hk : 1 ≤ k ∧ k < 10) (hM : gCa K (d + 1) 55 [.ref (N + 198), .int (I z1)] (hH K N G' B') = some (.inl (some (.int (I w))), hH K N G' B3)) (hmd : MDQ B' B3) (hth : (B3.1 198 0) = k) (hq : MQ M0 (tw B3)) (hinv : INV (n + 1) B3) : LST K (d + 1) N n G B 1762 i := by
  refine ⟨G', B3, fun x o6 o7 o8 hn => ?_, hinv, hrm.fin (fun o k h1 h2 => hmd.1 o k (by omega)) (fun o j h1 => hmd.2.1 o j (by omega)) hq, hal⟩
  have hT := w_5 (K := K) (N := N) (G := G') (B := B3) (d := d + 1) (by omega)
  rw [hth] at hT
  exact CS25 hi hl h1 (k := k) (by omega) hw (Y_54 h0 hE) hM hT (fun h => by omega) hn
theorem OA26 (hi : 0 ≤ i ∧ i + 6 ≤ (K.1.2.1 : Int)) (hl : K.1.2.1 ≤ 384) (h1 : K.1.2.2 (i + 1).toNat = I z1) (hv : R32 v) (hal : AL G G' 1100 15000) (hrm : RM K N G' B' M0) (h0 : gCa K d 129 [.ref N, .int (I z1)] (hH K N G B) = some (.inl (some (.int (I v))), hH K N G' B')) (hM : gCa K (d + 1) 57 [.ref (N + 198), .int (I z1)] (hH K N G' (sA B' 229 0 v)) = some (.inl (some (.int (I v))), hH K N G' B3)) (hmd : MDQ (sA B' 229 0 v) B3) (hth : (B3.1 198 0) = 0) (hq : MQ M0 (tw B3)) (hinv : INV (n + 1) B3) : LST K (d + 1) N n G B 1818 i := by
  refine ⟨G', B3, fun x o6 o7 o8 hn => ?_, hinv, hrm.fin (fun o k h1 h2 => hmd.1 o k (by omega)) (fun o j h1 => (hmd.2.1 o j (by omega)).trans (sA_ne (Or.inl (by omega)))) hq, hal⟩
  have hT := w_5 (K := K) (N := N) (G := G') (B := B3) (d := d + 1) (by omega)
  rw [hth] at hT
  exact CS26 hi hl h1 (k := 0) (by omega) hv (X_56 hv h0) hM hT (fun _ => (hmd.2.1 229 0 (by omega)).trans (sA_eq rfl)) hn
theorem OB26 (hi : 0 ≤ i ∧ i + 6 ≤ (K.1.2.1 : Int)) (hl : K.1.2.1 ≤ 384) (h1 : K.1.2.2 (i + 1).toNat = I z1) (hw : R32 w) (hal : AL G G' 1100 15000) (hrm : RM K N G' B' M0) (h0 : gCa K d 129 [.ref N, .int (I z1)] (hH K N G B) = some (.inr E, hH K N G' B')) (hE : gHd 56 4 E = some (some (I k))) (hk : 1 ≤ k ∧ k < 10) (hM : gCa K (d + 1) 57 [.ref (N + 198), .int (I z1)] (hH K N G' B') = some (.inl (some (.int (I w))), hH K N G' B3)) (hmd : MDQ B' B3) (hth : (B3.1 198 0) = k) (hq : MQ M0 (tw B3)) (hinv : INV (n + 1) B3) : LST K (d + 1) N n G B 1818 i := by
  refine ⟨G', B3, fun x o6 o7 o8 hn => ?_, hinv, hrm.fin (fun o k h1 h2 => hmd.1 o k (by omega)) (fun o j h1 => hmd.2.1 o j (by omega)) hq, hal⟩
  have hT := w_5 (K := K) (N := N) (G := G') (B := B3) (d := d + 1) (by omega)
  rw [hth] at hT
  exact CS26 hi hl h1 (k := k) (by omega) hw (Y_56 h0 hE) hM hT (fun h => by omega) hn
theorem OA27 (hi : 0 ≤ i ∧ i + 6 ≤ (K.1.2.1 : Int)) (hl : K.1.2.1 ≤ 384) (h1 : K.1.2.2 (i + 1).toNat = I z1) (hv : R32 v) (hal : AL G G' 1100 15000) (hrm : RM K N G' B' M0) (h0 : gCa K d 130 [.ref N, .int (I z1)] (hH K N G B) = some (.inl (some (.int (I v))), hH K N G' B')) (hM : gCa K (d + 1) 59 [.ref (N + 198), .int (I z1)] (hH K N G' (sA B' 229 0 v)) = some (.inl (some (.int (I v))), hH K N G' B3)) (hmd : MDQ (sA B' 229 0 v) B3) (hth : (B3.1 198 0) = 0) (hq : MQ M0 (tw B3)) (hinv : INV (n + 1) B3) : LST K (d + 1) N n G B 1874 i := by
  refine ⟨G', B3, fun x o6 o7 o8 hn => ?_, hinv, hrm.fin (fun o k h1 h2 => hmd.1 o k (by omega)) (fun o j h1 => (hmd.2.1 o j (by omega)).trans (sA_ne (Or.inl (by omega)))) hq, hal⟩
  have hT := w_5 (K := K) (N := N) (G := G') (B := B3) (d := d + 1) (by omega)
  rw [hth] at hT
  exact CS27 hi hl h1 (k := 0) (by omega) hv (X_58 hv h0) hM hT (fun _ => (hmd.2.1 229 0 (by omega)).trans (sA_eq rfl)) hn
theorem OB27 (hi : 0 ≤ i ∧ i + 6 ≤ (K.1.2.1 : Int)) (hl : K.1.2.1 ≤ 384) (h1 : K.1.2.2 (i + 1).toNat = I z1) (hw : R32 w) (hal : AL G G' 1100 15000) (hrm : RM K N G' B' M0) (h0 : gCa K d 130 [.ref N, .int (I z1)] (hH K N G B) = some (.inr E, hH K N G' B')) (hE : gHd 58 4 E = some (some (I k))) (hk : 1 ≤ k ∧ k < 10) (hM : gCa K (d + 1) 59 [.ref (N + 198), .int (I z1)] (hH K N G' B') = some (.inl (some (.int (I w))), hH K N G' B3)) (hmd : MDQ B' B3) (hth : (B3.1 198 0) = k) (hq : MQ M0 (tw B3)) (hinv : INV (n + 1) B3) : LST K (d + 1) N n G B 1874 i := by
  refine ⟨G', B3, fun x o6 o7 o8 hn => ?_, hinv, hrm.fin (fun o k h1 h2 => hmd.1 o k (by omega)) (fun o j h1 => hmd.2.1 o j (by omega)) hq, hal⟩
  have hT := w_5 (K := K) (N := N) (G := G') (B := B3) (d := d + 1) (by omega)
  rw [hth] at hT
  exact CS27 hi hl h1 (k := k) (by omega) hw (Y_58 h0 hE) hM hT (fun h => by omega) hn
theorem OS28 (hi : 0 ≤ i ∧ i + 6 ≤ (K.1.2.1 : Int)) (hl : K.1.2.1 ≤ 384) (hal : AL G G' 1100 15000) (hrm : RM K N G' B' M0) (h0 : gCa K (d + 1) 60 [.ref N] (hH K N G B) = some (.inl (some (.int (I w))), hH K N G' B')) (hM : gCa K (d + 1) 61 [.ref (N + 198)] (hH K N G' B') = some (.inl (some (.int (I w))), hH K N G' B3)) (hmd : MDQ B' B3) (hq : MQ M0 (tw B3)) (hinv : INV (n + 1) B3) : LST K (d + 1) N n G B 1930 i :=
  ⟨G', B3, fun x o6 o7 o8 hn => CS28 hi hl h0 hM hn, hinv, hrm.fin (fun o k h1 h2 => hmd.1 o k (by omega)) (fun o j h1 => hmd.2.1 o j (by omega)) hq, hal⟩
theorem OA29 (hi : 0 ≤ i ∧ i + 6 ≤ (K.1.2.1 : Int)) (hl : K.1.2.1 ≤ 384) (h1 : K.1.2.2 (i + 1).toNat = I z1) (hv : R32 v) (hal : AL G G' 1100 15000) (hrm : RM K N G' B' M0) (h0 : gCa K d 131 [.ref N, .int (I z1)] (hH K N G B) = some (.inl (some (.int (I v))), hH K N G' B')) (hM : gCa K (d + 1) 63 [.ref (N + 198), .int (I z1)] (hH K N G' (sA B' 229 0 v)) = some (.inl (some (.int (I v))), hH K N G' B3)) (hmd : MDQ (sA B' 229 0 v) B3) (hth : (B3.1 198 0) = 0) (hq : MQ M0 (tw B3)) (hinv : INV (n + 1) B3) : LST K (d + 1) N n G B 1943 i := by
  refine ⟨G', B3, fun x o6 o7 o8 hn => ?_, hinv, hrm.fin (fun o k h1 h2 => hmd.1 o k (by omega)) (fun o j h1 => (hmd.2.1 o j (by omega)).trans (sA_ne (Or.inl (by omega)))) hq, hal⟩
  have hT := w_5 (K := K) (N := N) (G := G') (B := B3) (d := d + 1) (by omega)
  rw [hth] at hT
  exact CS29 hi hl h1 (k := 0) (by omega) hv (X_62 hv h0) hM hT (fun _ => (hmd.2.1 229 0 (by omega)).trans (sA_eq rfl)) hn
theorem OB29 (hi : 0 ≤ i ∧ i + 6 ≤ (K.1.2.1 : Int)) (hl : K.1.2.1 ≤ 384) (h1 : K.1.2.2 (i + 1).toNat = I z1) (hw : R32 w) (hal : AL G G' 1100 15000) (hrm : RM K N G' B' M0) (h0 : gCa K d 131 [.ref N, .int (I z1)] (hH K N G B) = some (.inr E, hH K N G' B')) (hE : gHd 62 4 E = some (some (I k))) (hk : 1 ≤ k ∧ k < 10) (hM : gCa K (d + 1) 63 [.ref (N + 198), .int (I z1)] (hH K N G' B') = some (.inl (some (.int (I w))), hH K N G' B3)) (hmd : MDQ B' B3) (hth : (B3.1 198 0) = k) (hq : MQ M0 (tw B3)) (hinv : INV (n + 1) B3) : LST K (d + 1) N n G B 1943 i := by
  refine ⟨G', B3, fun x o6 o7 o8 hn => ?_, hinv, hrm.fin (fun o k h1 h2 => hmd.1 o k (by omega)) (fun o j h1 => hmd.2.1 o j (by omega)) hq, hal⟩
  have hT := w_5 (K := K) (N := N) (G := G') (B := B3) (d := d + 1) (by omega)
  rw [hth] at hT
  exact CS29 hi hl h1 (k := k) (by omega) hw (Y_62 h0 hE) hM hT (fun h => by omega) hn
theorem OA30 (hi : 0 ≤ i ∧ i + 6 ≤ (K.1.2.1 : Int)) (hl : K.1.2.1 ≤ 384) (h1 : K.1.2.2 (i + 1).toNat = I z1) (h2 : K.1.2.2 (i + 2).toNat = I z2) (r2 : R32 z2) (hv : R32 v) (hal : AL G G' 1100 15000) (hrm : RM K N G' B' M0) (h0 : gCa K d 135 [.ref N, .int (I z1), .int (I (bz z2))] (hH K N G B) = some (.inl (some (.int (I v))), hH K N G' B')) (hM : gCa K (d + 1) 65 [.ref (N + 198), .int (I z1), .int (I (bz z2))] (hH K N G' (sA B' 229 0 v)) = some (.inl (some (.int (I v))), hH K N G' B3)) (hmd : MDQ (sA B' 229 0 v) B3) (hth : (B3.1 198 0) = 0) (hq : MQ M0 (tw B3)) (hinv : INV (n + 1) B3) : LST K (d + 1) N n G B 1999 i := by
  refine ⟨G', B3, fun x o6 o7 o8 hn => ?_, hinv, hrm.fin (fun o k h1 h2 => hmd.1 o k (by omega)) (fun o j h1 => (hmd.2.1 o j (by omega)).trans (sA_ne (Or.inl (by omega)))) hq, hal⟩
  have hT := w_5 (K := K) (N := N) (G := G') (B := B3) (d := d + 1) (by omega)
  rw [hth] at hT
  exact CS30 hi hl h1 h2 r2 (k := 0) (by omega) hv (X_64 hv h0) hM hT (fun _ => (hmd.2.1 229 0 (by omega)).trans (sA_eq rfl)) hn
theorem OB30 (hi : 0 ≤ i ∧ i + 6 ≤ (K.1.2.1 : Int)) (hl : K.1.2.1 ≤ 384) (h1 : K.1.2.2 (i + 1).toNat = I z1) (h2 : K.1.2.2 (i + 2).toNat = I z2) (r2 : R32 z2) (hw : R32 w) (hal : AL G G' 1100 15000) (hrm : RM K N G' B' M0) (h0 : gCa K d 135 [.ref N, .int (I z1), .int (I (bz z2))] (hH K N G B) = some (.inr E, hH K N G' B')) (hE : gHd 64 5 E = some (some (I k))) (hk : 1 ≤ k ∧ k < 10) (hM : gCa K (d + 1) 65 [.ref (N + 198), .int (I z1), .int (I (bz z2))] (hH K N G' B') = some (.inl (some (.int (I w))), hH K N G' B3)) (hmd : MDQ B' B3) (hth : (B3.1 198 0) = k) (hq : MQ M0 (tw B3)) (hinv : INV (n + 1) B3) : LST K (d + 1) N n G B 1999 i := by
  refine ⟨G', B3, fun x o6 o7 o8 hn => ?_, hinv, hrm.fin (fun o k h1 h2 => hmd.1 o k (by omega)) (fun o j h1 => hmd.2.1 o j (by omega)) hq, hal⟩
  have hT := w_5 (K := K) (N := N) (G := G') (B := B3) (d := d + 1) (by omega)
  rw [hth] at hT
  exact CS30 hi hl h1 h2 r2 (k := k) (by omega) hw (Y_64 h0 hE) hM hT (fun h => by omega) hn
theorem OA31 (hi : 0 ≤ i ∧ i + 6 ≤ (K.1.2.1 : Int)) (hl : K.1.2.1 ≤ 384) (h1 : K.1.2.2 (i + 1).toNat = I z1) (hv : R32 v) (hal : AL G G' 1100 15000) (hrm : RM K N G' B' M0) (h0 : gCa K d 136 [.ref N, .int (I z1)] (hH K N G B) = some (.inl (some (.int (I v))), hH K N G' B')) (hM : gCa K (d + 1) 67 [.ref (N + 198), .int (I z1)] (hH K N G' (sA B' 229 0 v)) = some (.inl (some (.int (I v))), hH K N G' B3)) (hmd : MDQ (sA B' 229 0 v) B3) (hth : (B3.1 198 0) = 0) (hq : MQ M0 (tw B3)) (hinv : INV (n + 1) B3) : LST K (d + 1) N n G B 2083 i := by
  refine ⟨G', B3, fun x o6 o7 o8 hn => ?_, hinv, hrm.fin (fun o k h1 h2 => hmd.1 o k (by omega)) (fun o j h1 => (hmd.2.1 o j (by omega)).trans (sA_ne (Or.inl (by omega)))) hq, hal⟩
  have hT := w_5 (K := K) (N := N) (G := G') (B := B3) (d := d + 1) (by omega)
  rw [hth] at hT
  exact CS31 hi hl h1 (k := 0) (by omega) hv (X_66 hv h0) hM hT (fun _ => (hmd.2.1 229 0 (by omega)).trans (sA_eq rfl)) hn
theorem OB31 (hi : 0 ≤ i ∧ i + 6 ≤ (K.1.2.1 : Int)) (hl : K.1.2.1 ≤ 384) (h1 : K.1.2.2 (i + 1).toNat = I z1) (hw : R32 w) (hal : AL G G' 1100 15000) (hrm : RM K N G' B' M0) (h0 : gCa K d 136 [.ref N, .int (I z1)] (hH K N G B) = some (.inr E, hH K N G' B')) (hE : gHd 66 4 E = some (some (I k))) (hk : 1 ≤ k ∧ k < 10) (hM : gCa K (d + 1) 67 [.ref (N + 198), .int (I z1)] (hH K N G' B') = some (.inl (some (.int (I w))), hH K N G' B3)) (hmd : MDQ B' B3) (hth : (B3.1 198 0) = k) (hq : MQ M0 (tw B3)) (hinv : INV (n + 1) B3) : LST K (d + 1) N n G B 2083 i := by
  refine ⟨G', B3, fun x o6 o7 o8 hn => ?_, hinv, hrm.fin (fun o k h1 h2 => hmd.1 o k (by omega)) (fun o j h1 => hmd.2.1 o j (by omega)) hq, hal⟩
  have hT := w_5 (K := K) (N := N) (G := G') (B := B3) (d := d + 1) (by omega)
  rw [hth] at hT
  exact CS31 hi hl h1 (k := k) (by omega) hw (Y_66 h0 hE) hM hT (fun h => by omega) hn
theorem OA32 (hi : 0 ≤ i ∧ i + 6 ≤ (K.1.2.1 : Int)) (hl : K.1.2.1 ≤ 384) (h1 : K.1.2.2 (i + 1).toNat = I z1) (hv : R32 v) (hal : AL G G' 1100 15000) (hrm : RM K N G' B' M0) (h0 : gCa K d 138 [.ref N, .int (I z1)] (hH K N G B) = some (.inl (some (.int (I v))), hH K N G' B')) (hM : gCa K (d + 1) 69 [.ref (N + 198), .int (I z1)] (hH K N G' (sA B' 229 0 v)) = some (.inl (some (.int (I v))), hH K N G' B3)) (hmd : MDQ (sA B' 229 0 v) B3) (hth : (B3.1 198 0) = 0) (hq : MQ M0 (tw B3)) (hinv : INV (n + 1) B3) : LST K (d + 1) N n G B 2139 i := by
  refine ⟨G', B3, fun x o6 o7 o8 hn => ?_, hinv, hrm.fin (fun o k h1 h2 => hmd.1 o k (by omega)) (fun o j h1 => (hmd.2.1 o j (by omega)).trans (sA_ne (Or.inl (by omega)))) hq, hal⟩
  have hT := w_5 (K := K) (N := N) (G := G') (B := B3) (d := d + 1) (by omega)
  rw [hth] at hT
  exact CS32 hi hl h1 (k := 0) (by omega) hv (X_68 hv h0) hM hT (fun _ => (hmd.2.1 229 0 (by omega)).trans (sA_eq rfl)) hn
theorem OB32 (hi : 0 ≤ i ∧ i + 6 ≤ (K.1.2.1 : Int)) (hl : K.1.2.1 ≤ 384) (h1 : K.1.2.2 (i + 1).toNat = I z1) (hw : R32 w) (hal : AL G G' 1100 15000) (hrm : RM K N G' B' M0) (h0 : gCa K d 138 [.ref N, .int (I z1)] (hH K N G B) = some (.inr E, hH K N G' B')) (hE : gHd 68 4 E = some (some (I k))) (hk : 1 ≤ k ∧ k < 10) (hM : gCa K (d + 1) 69 [.ref (N + 198), .int (I z1)] (hH K N G' B') = some (.inl (some (.int (I w))), hH K N G' B3)) (hmd : MDQ B' B3) (hth : (B3.1 198 0) = k) (hq : MQ M0 (tw B3)) (hinv : INV (n + 1) B3) : LST K (d + 1) N n G B 2139 i := by
  refine ⟨G', B3, fun x o6 o7 o8 hn => ?_, hinv, hrm.fin (fun o k h1 h2 => hmd.1 o k (by omega)) (fun o j h1 => hmd.2.1 o j (by omega)) hq, hal⟩
  have hT := w_5 (K := K) (N := N) (G := G') (B := B3) (d := d + 1) (by omega)
  rw [hth] at hT
  exact CS32 hi hl h1 (k := k) (by omega) hw (Y_68 h0 hE) hM hT (fun h => by omega) hn
theorem OA33 (hi : 0 ≤ i ∧ i + 6 ≤ (K.1.2.1 : Int)) (hl : K.1.2.1 ≤ 384) (h1 : K.1.2.2 (i + 1).toNat = I z1) (h2 : K.1.2.2 (i + 2).toNat = I z2) (hv : R32 v) (hal : AL G G' 1100 15000) (hrm : RM K N G' B' M0) (h0 : gCa K d 139 [.ref N, .int (I z1), .int (I z2)] (hH K N G B) = some (.inl (some (.int (I v))), hH K N G' B')) (hM : gCa K (d + 1) 71 [.ref (N + 198), .int (I z1), .int (I z2)] (hH K N G' (sA B' 229 0 v)) = some (.inl (some (.int (I v))), hH K N G' B3)) (hmd : MDQ (sA B' 229 0 v) B3) (hth : (B3.1 198 0) = 0) (hq : MQ M0 (tw B3)) (hinv : INV (n + 1) B3) : LST K (d + 1) N n G B 2195 i := by
  refine ⟨G', B3, fun x o6 o7 o8 hn => ?_, hinv, hrm.fin (fun o k h1 h2 => hmd.1 o k (by omega)) (fun o j h1 => (hmd.2.1 o j (by omega)).trans (sA_ne (Or.inl (by omega)))) hq, hal⟩
  have hT := w_5 (K := K) (N := N) (G := G') (B := B3) (d := d + 1) (by omega)
  rw [hth] at hT
  exact CS33 hi hl h1 h2 (k := 0) (by omega) hv (X_70 hv h0) hM hT (fun _ => (hmd.2.1 229 0 (by omega)).trans (sA_eq rfl)) hn
theorem OB33 (hi : 0 ≤ i ∧ i + 6 ≤ (K.1.2.1 : Int)) (hl : K.1.2.1 ≤ 384) (h1 : K.1.2.2 (i + 1).toNat = I z1) (h2 : K.1.2.2 (i + 2).toNat = I z2) (hw : R32 w) (hal : AL G G' 1100 15000) (hrm : RM K N G' B' M0) (h0 : gCa K d 139 [.ref N, .int (I z1), .int (I z2)] (hH K N G B) = some (.inr E, hH K N G' B')) (hE : gHd 70 5 E = some (some (I k))) (hk : 1 ≤ k ∧ k < 10) (hM : gCa K (d + 1) 71 [.ref (N + 198), .int (I z1), .int (I z2)] (hH K N G' B') = some (.inl (some (.int (I w))), hH K N G' B3)) (hmd : MDQ B' B3) (hth : (B3.1 198 0) = k) (hq : MQ M0 (tw B3)) (hinv : INV (n + 1) B3) : LST K (d + 1) N n G B 2195 i := by
  refine ⟨G', B3, fun x o6 o7 o8 hn => ?_, hinv, hrm.fin (fun o k h1 h2 => hmd.1 o k (by omega)) (fun o j h1 => hmd.2.1 o j (by omega)) hq, hal⟩
  have hT := w_5 (K := K) (N := N) (G := G') (B := B3) (d := d + 1) (by omega)
  rw [hth] at hT
  exact CS33 hi hl h1 h2 (k := k) (by omega) hw (Y_70 h0 hE) hM hT (fun h => by omega) hn
theorem OA34 (hi : 0 ≤ i ∧ i + 6 ≤ (K.1.2.1 : Int)) (hl : K.1.2.1 ≤ 384) (h1 : K.1.2.2 (i + 1).toNat = I z1) (hv : R32 v) (hal : AL G G' 1100 15000) (hrm : RM K N G' B' M0) (h0 : gCa K d 140 [.ref N, .int (I z1)] (hH K N G B) = some (.inl (some (.int (I v))), hH K N G' B')) (hM : gCa K (d + 1) 73 [.ref (N + 198), .int (I z1)] (hH K N G' (sA B' 229 0 v)) = some (.inl (some (.int (I v))), hH K N G' B3)) (hmd : MDQ (sA B' 229 0 v) B3) (hth : (B3.1 198 0) = 0) (hq : MQ M0 (tw B3)) (hinv : INV (n + 1) B3) : LST K (d + 1) N n G B 2263 i := by
  refine ⟨G', B3, fun x o6 o7 o8 hn => ?_, hinv, hrm.fin (fun o k h1 h2 => hmd.1 o k (by omega)) (fun o j h1 => (hmd.2.1 o j (by omega)).trans (sA_ne (Or.inl (by omega)))) hq, hal⟩
  have hT := w_5 (K := K) (N := N) (G := G') (B := B3) (d := d + 1) (by omega)
  rw [hth] at hT
  exact CS34 hi hl h1 (k := 0) (by omega) hv (X_72 hv h0) hM hT (fun _ => (hmd.2.1 229 0 (by omega)).trans (sA_eq rfl)) hn
theorem OB34 (hi : 0 ≤ i ∧ i + 6 ≤ (K.1.2.1 : Int)) (hl : K.1.2.1 ≤ 384) (h1 : K.1.2.2 (i + 1).toNat = I z1) (hw : R32 w) (hal : AL G G' 1100 15000) (hrm : RM K N G' B' M0) (h0 : gCa K d 140 [.ref N, .int (I z1)] (hH K N G B) = some (.inr E, hH K N G' B')) (hE : gHd 72 4 E = some (some (I k))) (hk : 1 ≤ k ∧ k < 10) (hM : gCa K (d + 1) 73 [.ref (N + 198), .int (I z1)] (hH K N G' B') = some (.inl (some (.int (I w))), hH K N G' B3)) (hmd : MDQ B' B3) (hth : (B3.1 198 0) = k) (hq : MQ M0 (tw B3)) (hinv : INV (n + 1) B3) : LST K (d + 1) N n G B 2263 i := by
  refine ⟨G', B3, fun x o6 o7 o8 hn => ?_, hinv, hrm.fin (fun o k h1 h2 => hmd.1 o k (by omega)) (fun o j h1 => hmd.2.1 o j (by omega)) hq, hal⟩
  have hT := w_5 (K := K) (N := N) (G := G') (B := B3) (d := d + 1) (by omega)
  rw [hth] at hT
  exact CS34 hi hl h1 (k := k) (by omega) hw (Y_72 h0 hE) hM hT (fun h => by omega) hn
theorem OA35 (hi : 0 ≤ i ∧ i + 6 ≤ (K.1.2.1 : Int)) (hl : K.1.2.1 ≤ 384) (h1 : K.1.2.2 (i + 1).toNat = I z1) (h2 : K.1.2.2 (i + 2).toNat = I z2) (hv : R32 v) (hal : AL G G' 1100 15000) (hrm : RM K N G' B' M0) (h0 : gCa K d 141 [.ref N, .int (I z1), .int (I z2)] (hH K N G B) = some (.inl (some (.int (I v))), hH K N G' B')) (hM : gCa K (d + 1) 75 [.ref (N + 198), .int (I z1), .int (I z2)] (hH K N G' (sA B' 229 0 v)) = some (.inl (some (.int (I v))), hH K N G' B3)) (hmd : MDQ (sA B' 229 0 v) B3) (hth : (B3.1 198 0) = 0) (hq : MQ M0 (tw B3)) (hinv : INV (n + 1) B3) : LST K (d + 1) N n G B 2319 i := by
  refine ⟨G', B3, fun x o6 o7 o8 hn => ?_, hinv, hrm.fin (fun o k h1 h2 => hmd.1 o k (by omega)) (fun o j h1 => (hmd.2.1 o j (by omega)).trans (sA_ne (Or.inl (by omega)))) hq, hal⟩
  have hT := w_5 (K := K) (N := N) (G := G') (B := B3) (d := d + 1) (by omega)
  rw [hth] at hT
  exact CS35 hi hl h1 h2 (k := 0) (by omega) hv (X_74 hv h0) hM hT (fun _ => (hmd.2.1 229 0 (by omega)).trans (sA_eq rfl)) hn
theorem OB35 (hi : 0 ≤ i ∧ i + 6 ≤ (K.1.2.1 : Int)) (hl : K.1.2.1 ≤ 384) (h1 : K.1.2.2 (i + 1).toNat = I z1) (h2 : K.1.2.2 (i + 2).toNat = I z2) (hw : R32 w) (hal : AL G G' 1100 15000) (hrm : RM K N G' B' M0) (h0 : gCa K d 141 [.ref N, .int (I z1), .int (I z2)] (hH K N G B) = some (.inr E, hH K N G' B')) (hE : gHd 74 5 E = some (some (I k))) (hk : 1 ≤ k ∧ k < 10) (hM : gCa K (d + 1) 75 [.ref (N + 198), .int (I z1), .int (I z2)] (hH K N G' B') = some (.inl (some (.int (I w))), hH K N G' B3)) (hmd : MDQ B' B3) (hth : (B3.1 198 0) = k) (hq : MQ M0 (tw B3)) (hinv : INV (n + 1) B3) : LST K (d + 1) N n G B 2319 i := by
  refine ⟨G', B3, fun x o6 o7 o8 hn => ?_, hinv, hrm.fin (fun o k h1 h2 => hmd.1 o k (by omega)) (fun o j h1 => hmd.2.1 o j (by omega)) hq, hal⟩
  have hT := w_5 (K := K) (N := N) (G := G') (B := B3) (d := d + 1) (by omega)
  rw [hth] at hT
  exact CS35 hi hl h1 h2 (k := k) (by omega) hw (Y_74 h0 hE) hM hT (fun h => by omega) hn
theorem OS36 (hi : 0 ≤ i ∧ i + 6 ≤ (K.1.2.1 : Int)) (hl : K.1.2.1 ≤ 384) (hal : AL G G' 1100 15000) (hrm : RM K N G' B' M0) (h0 : gCa K (d + 1) 76 [.ref N] (hH K N G B) = some (.inl (some (.long (J w))), hH K N G' B')) (hM : gCa K (d + 1) 77 [.ref (N + 198)] (hH K N G' B') = some (.inl (some (.long (J w))), hH K N G' B3)) (hmd : MDQ B' B3) (hq : MQ M0 (tw B3)) (hinv : INV (n + 1) B3) : LST K (d + 1) N n G B 2387 i :=
  ⟨G', B3, fun x o6 o7 o8 hn => CS36 hi hl h0 hM hn, hinv, hrm.fin (fun o k h1 h2 => hmd.1 o k (by omega)) (fun o j h1 => hmd.2.1 o j (by omega)) hq, hal⟩
theorem OA37 (hi : 0 ≤ i ∧ i + 6 ≤ (K.1.2.1 : Int)) (hl : K.1.2.1 ≤ 384) {f : UInt32} (hf : ((FP.f2d f) &&& 0x7fffffffffffffff ≤ 0x7ff0000000000000) = True) (hal : AL G G' 1100 15000) (hrm : RM K N G' B' M0) (h0 : gCa K d 142 [.ref N] (hH K N G B) = some (.inl (some (.float f)), hH K N G' B')) (hM : gCa K (d + 1) 79 [.ref (N + 198)] (hH K N G' (sD B' (FP.f2d f))) = some (.inl (some (.float f)), hH K N G' B3)) (hmd : MDQ (sD B' (FP.f2d f)) B3) (hth : (B3.1 198 0) = 0) (hq : MQ M0 (tw B3)) (hinv : INV (n + 1) B3) : LST K (d + 1) N n G B 2401 i := by
  refine ⟨G', B3, fun x o6 o7 o8 hn => ?_, hinv, hrm.fin (fun o k h1 h2 => hmd.1 o k (by omega)) (fun o j h1 => hmd.2.1 o j (by omega)) hq, hal⟩
  have hT := w_5 (K := K) (N := N) (G := G') (B := B3) (d := d + 1) (by omega)
  rw [hth] at hT
  exact CS37 hi hl (k := 0) (by omega) (X_78 h0 hf) hM hT (fun _ => ⟨hmd.2.2, hf⟩) hn
theorem OB37 (hi : 0 ≤ i ∧ i + 6 ≤ (K.1.2.1 : Int)) (hl : K.1.2.1 ≤ 384) {f : UInt32} (hal : AL G G' 1100 15000) (hrm : RM K N G' B' M0) (h0 : gCa K d 142 [.ref N] (hH K N G B) = some (.inr E, hH K N G' B')) (hE : gHd 78 3 E = some (some (I k))) (hk : 1 ≤ k ∧ k < 10) (hM : gCa K (d + 1) 79 [.ref (N + 198)] (hH K N G' B') = some (.inl (some (.float f)), hH K N G' B3)) (hmd : MDQ B' B3) (hth : (B3.1 198 0) = k) (hq : MQ M0 (tw B3)) (hinv : INV (n + 1) B3) : LST K (d + 1) N n G B 2401 i := by
  refine ⟨G', B3, fun x o6 o7 o8 hn => ?_, hinv, hrm.fin (fun o k h1 h2 => hmd.1 o k (by omega)) (fun o j h1 => hmd.2.1 o j (by omega)) hq, hal⟩
  have hT := w_5 (K := K) (N := N) (G := G') (B := B3) (d := d + 1) (by omega)
  rw [hth] at hT
  exact CS37 hi hl (k := k) (by omega) (Y_78 h0 hE) hM hT (fun h => by omega) hn
theorem OA38 (hi : 0 ≤ i ∧ i + 6 ≤ (K.1.2.1 : Int)) (hl : K.1.2.1 ≤ 384) {f : UInt64} (hf : (f &&& 0x7fffffffffffffff ≤ 0x7ff0000000000000) = True) (hal : AL G G' 1100 15000) (hrm : RM K N G' B' M0) (h0 : gCa K d 144 [.ref N] (hH K N G B) = some (.inl (some (.double f)), hH K N G' B')) (hM : gCa K (d + 1) 81 [.ref (N + 198)] (hH K N G' (sD B' f)) = some (.inl (some (.double f)), hH K N G' B3)) (hmd : MDQ (sD B' f) B3) (hth : (B3.1 198 0) = 0) (hq : MQ M0 (tw B3)) (hinv : INV (n + 1) B3) : LST K (d + 1) N n G B 2467 i := by
  refine ⟨G', B3, fun x o6 o7 o8 hn => ?_, hinv, hrm.fin (fun o k h1 h2 => hmd.1 o k (by omega)) (fun o j h1 => hmd.2.1 o j (by omega)) hq, hal⟩
  have hT := w_5 (K := K) (N := N) (G := G') (B := B3) (d := d + 1) (by omega)
  rw [hth] at hT
  exact CS38 hi hl (k := 0) (by omega) (X_80 h0) hM hT (fun _ => ⟨hmd.2.2, hf⟩) hn
theorem OB38 (hi : 0 ≤ i ∧ i + 6 ≤ (K.1.2.1 : Int)) (hl : K.1.2.1 ≤ 384) {f : UInt64} (hal : AL G G' 1100 15000) (hrm : RM K N G' B' M0) (h0 : gCa K d 144 [.ref N] (hH K N G B) = some (.inr E, hH K N G' B')) (hE : gHd 80 3 E = some (some (I k))) (hk : 1 ≤ k ∧ k < 10) (hM : gCa K (d + 1) 81 [.ref (N + 198)] (hH K N G' B') = some (.inl (some (.double f)), hH K N G' B3)) (hmd : MDQ B' B3) (hth : (B3.1 198 0) = k) (hq : MQ M0 (tw B3)) (hinv : INV (n + 1) B3) : LST K (d + 1) N n G B 2467 i := by
  refine ⟨G', B3, fun x o6 o7 o8 hn => ?_, hinv, hrm.fin (fun o k h1 h2 => hmd.1 o k (by omega)) (fun o j h1 => hmd.2.1 o j (by omega)) hq, hal⟩
  have hT := w_5 (K := K) (N := N) (G := G') (B := B3) (d := d + 1) (by omega)
  rw [hth] at hT
  exact CS38 hi hl (k := k) (by omega) (Y_80 h0 hE) hM hT (fun h => by omega) hn
theorem OS39 (hi : 0 ≤ i ∧ i + 6 ≤ (K.1.2.1 : Int)) (hl : K.1.2.1 ≤ 384) (hal : AL G G' 1100 15000) (hrm : RM K N G' B' M0) (h0 : gCa K (d + 1) 82 [.ref N] (hH K N G B) = some (.inl (some (.int (I w))), hH K N G' B')) (hM : gCa K (d + 1) 83 [.ref (N + 198)] (hH K N G' B') = some (.inl (some (.int (I w))), hH K N G' B3)) (hmd : MDQ B' B3) (hq : MQ M0 (tw B3)) (hinv : INV (n + 1) B3) : LST K (d + 1) N n G B 2532 i :=
  ⟨G', B3, fun x o6 o7 o8 hn => CS39 hi hl h0 hM hn, hinv, hrm.fin (fun o k h1 h2 => hmd.1 o k (by omega)) (fun o j h1 => hmd.2.1 o j (by omega)) hq, hal⟩
end
