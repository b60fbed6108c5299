/-! PURE 103: the room is made -/
set_option maxRecDepth 100000
section
def bI1 (K : gK) (o k : Nat) : Int := if o = 0 ∧ k = 8 then 12 else if (o = 1 ∨ o = 2 ∨ o = 3) ∧ k = 1 then (K.2 3 : Int) else if o = 65 ∧ k = 0 then -1 else if o = 198 ∧ k = 1 then 12 else 0
def bI2 (o j : Nat) : Int := if ((68 ≤ o ∧ o < 128) ∨ (131 ≤ o ∧ o < 191)) ∧ j < 12 then -1 else if (o = 128 ∨ o = 191) ∧ j < 4 then -1 else 0
/-- the fixed objects at the start, the model's arrays blank -/
def bI (K : gK) : gB := (bI1 K, bI2, 0)
/-- a room under way: k cells, its own fields, the cell x left open -/
def CN (K : gK) (N : Nat) (B : gB) (H : gH) (k sl : Nat) (fs : List Value) (x : Nat) : Prop := HB H ∧ H.2.1 = N + k ∧ H.2.2 ≤ sl ∧ (∀ a, a < N → H.1 a = none) ∧ H.1 N = some (.inr (0, fs)) ∧ ∀ o, 0 < o → o < k → o ≠ x → H.1 (N + o) = some (bCell K N B o)
variable {K : gK} {d N k sl x : Nat} {B : gB} {H : gH} {fs : List Value}
theorem CN.put (h : CN K N B H k sl fs x) {j : Nat} {v : Value} (hj : j < fs.length) : g_pf H N 0 j v = some (gset H N (.inr (0, fs.set j v))) ∧ CN K N B (gset H N (.inr (0, fs.set j v))) k sl (fs.set j v) x := by
  obtain ⟨h1, h2, h3, h4, h5, h6⟩ := h
  exact ⟨pf_of h5 hj, h1.set h5, h2, h3, fun a ha => (gs_ne (by omega)).trans (h4 a ha), gs_eq, fun o q1 q2 q3 => (gs_ne (by omega)).trans (h6 o q1 q2 q3)⟩
theorem CN.new (h : CN K N B H k sl fs x) {e : gE} {n k' : Nat} (he : k ≠ x → e = bCell K N B k) (hk : 0 < k) (hk' : k' = k + 1) : CN K N B (gnew H e n) k' (sl + n) fs x := by
  subst hk'
  obtain ⟨h1, h2, h3, h4, h5, h6⟩ := h
  refine ⟨h1.new, by rw [gn_n, h2]; rfl, by rw [gn_s]; omega, fun a ha => (gn_lt (by omega)).trans (h4 a ha), (gn_lt (by omega)).trans h5, fun o q1 q2 q3 => ?_⟩
  by_cases z : o = k
  · rw [z, ← h2, gn_eq, he (by omega)]
  · exact (gn_lt (by omega)).trans (h6 o q1 (by omega) q3)
theorem CN.list (hd : 3 ≤ d) (h : CN K N B H k sl fs x) (hB : bCell K N B k = .inr (12, [.int (I 0), .ref (K.2 3), .int (I 0)])) (hk : 0 < k) {k' : Nat} (hk' : k' = k + 1) : ∃ H', gCa K d 84 [.ref (N + k)] (gnew H (.inr (12, [.int (I 0), .null, .int (I 0)])) 3) = some (.inl none, H') ∧ CN K N B H' k' (sl + 3) fs x := by
  subst hk'
  obtain ⟨h1, h2, h3, h4, h5, h6⟩ := h
  obtain ⟨H', g1, g2, g3⟩ := mkList (K := K) (d := d) hd h1
  rw [h2] at g1 g2
  obtain ⟨f1, f2, f3, f4, f5, f6⟩ := g3
  have hlt := f5.lt g2
  refine ⟨H', g1, f5, by omega, by omega, fun a ha => (f6 a (by omega) (fun q => q)).trans (h4 a ha), (f6 N (by omega) (fun q => q)).trans h5, fun o q1 q2 q3 => ?_⟩
  by_cases z : o = k
  · rw [z, hB]; exact g2
  · exact (f6 _ (by omega) (fun q => q)).trans (h6 o q1 (by omega) q3)
theorem CN.rows (h : CN K N B H k sl fs x) {t tq : Nat} (h0 : bCell K N B k = .inl (tq, 60, gQ (fun j => if j < 60 then some (N + (k + 1 + j)) else none))) (h1 : ∀ r, r < 60 → bCell K N B (k + 1 + r) = .inl (t, 12, .inl (fun _ => I 0))) (hk : 0 < k) {k' : Nat} (hk' : k' = k + 61) : CN K N B (g_rows t 12 60 (gnew H (.inl (tq, 60, gQ (fun j => if j < 60 then some (H.2.1 + 1 + j) else none))) 60)) k' (sl + 780) fs x := by
  subst hk'
  have hN := h.2.1
  have hn := h.new (n := 60) (e := .inl (tq, 60, gQ (fun j => if j < 60 then some (H.2.1 + 1 + j) else none))) (fun _ => by
    rw [h0, hN]
    refine congrArg (fun f => (Sum.inl (tq, 60, gQ f) : gE)) (funext fun j => ?_)
    rw [show N + k + 1 + j = N + (k + 1 + j) by omega]) hk rfl
  generalize gnew H (.inl (tq, 60, gQ (fun j => if j < 60 then some (H.2.1 + 1 + j) else none))) 60 = H1 at *
  obtain ⟨q1, q2, q3, q4, q5, q6⟩ := hn
  obtain ⟨r1, r2, r3, r4, r5⟩ := rows_f (t := t) (k := 12) q1 60
  refine ⟨r1, by omega, by omega, fun a ha => (r4 a (by omega)).trans (q4 a ha), (r4 N (by omega)).trans q5, fun o p1 p2 p3 => ?_⟩
  by_cases z : o < k + 1
  · exact (r4 _ (by omega)).trans (q6 o p1 z p3)
  · have := r5 (o - (k + 1)) (by omega)
    rw [q2, show N + (k + 1) + (o - (k + 1)) = N + o by omega] at this
    have h2 := h1 (o - (k + 1)) (by omega)
    rw [show k + 1 + (o - (k + 1)) = o by omega] at h2
    rw [h2]; exact this
theorem CN.sheet (hd : 2 ≤ d) (h : CN K N B H k sl fs x) (h0 : bCell K N B k = .inr (2, [.ref (N + k + 1), .ref (N + k + 62), .int (I 0), .ref N])) (h1 : bCell K N B (k + 1) = .inl (8, 60, gQ (fun j => if j < 60 then some (N + k + 2 + j) else none))) (h2 : ∀ r, r < 60 → bCell K N B (k + 2 + r) = .inl (0, 12, .inl (fun j => I (if j < 12 then -1 else 0)))) (h3 : bCell K N B (k + 62) = .inl (0, 4, .inl (fun j => I (if j < 4 then -1 else 0)))) (hk : 0 < k) {k' : Nat} (hk' : k' = k + 63) :
    ∃ H', gCa K d 86 [.ref (N + k), .ref N] (gnew H (.inr (2, [.null, .null, .int (I 0), .null])) 4) = some (.inl none, H') ∧ CN K N B H' k' (sl + 788) fs x := by
  subst hk'
  obtain ⟨q1, q2, q3, q4, q5, q6⟩ := h
  obtain ⟨H', g1, g2, g3, g4, g5, s1, s2, s3, s4⟩ := w_86 (K := K) (N := N) (d := d) hd q1
  rw [q2] at g1 s1 s2 s3 s4
  refine ⟨H', g1, g2, by omega, by omega, fun a ha => (g5 a (by omega)).trans (q4 a ha), (g5 N (by omega)).trans q5, fun o p1 p2 p3 => ?_⟩
  by_cases z : o < k
  · exact (g5 _ (by omega)).trans (q6 o p1 z p3)
  · by_cases z0 : o = k
    · rw [z0, h0]; exact s1
    · by_cases z1 : o = k + 1
      · rw [z1, h1]; exact s2
      · by_cases z2 : o = k + 62
        · rw [z2, h3]; exact s4
        · have := s3 (o - (k + 2)) (by omega)
          rw [show N + k + 2 + (o - (k + 2)) = N + o by omega] at this
          have h2 := h2 (o - (k + 2)) (by omega)
          rw [show k + 2 + (o - (k + 2)) = o by omega] at h2
          rw [h2]; exact this
/-- the hindrances under way -/
def CQ (K : gK) (N : Nat) (B : gB) (H : gH) (k sl : Nat) (fs : List Value) (f : Nat → Option Nat) : Prop := CN K N B H k sl fs 192 ∧ H.1 (N + 192) = some (.inl (6, 7, gQ f)) ∧ 192 < k
variable {f : Nat → Option Nat}
theorem CQ.st (h : CQ K N B H k sl fs f) {i : Int} {v : Nat} (hi : 0 ≤ i ∧ i < 7) : ∃ H', g_qs H (N + 192) 6 (I i) (some v) = some H' ∧ CQ K N B H' k sl fs (va_up f i.toNat (some v)) := by
  obtain ⟨⟨h1, h2, h3, h4, h5, h6⟩, h7, h8⟩ := h
  exact ⟨_, qs_of h7 hi (by omega), ⟨h1.set h7, h2, h3, fun a ha => (gs_ne (by omega)).trans (h4 a ha), (gs_ne (by omega)).trans h5, fun o q1 q2 q3 => (gs_ne (by omega)).trans (h6 o q1 q2 q3)⟩, gs_eq, h8⟩
theorem CQ.put (h : CQ K N B H k sl fs f) {j : Nat} {v : Value} (hj : j < fs.length) : g_pf H N 0 j v = some (gset H N (.inr (0, fs.set j v))) ∧ CQ K N B (gset H N (.inr (0, fs.set j v))) k sl (fs.set j v) f :=
  ⟨(h.1.put hj).1, (h.1.put hj).2, (gs_ne (by omega)).trans h.2.1, h.2.2⟩
theorem CQ.lam (h : CQ K N B H k sl fs f) {i : Int} {c : Nat} (hi : 0 ≤ i ∧ i < 7) (hc : 100 ≤ c ∧ c < 105) (he : bCell K N B k = .inr (c, [.ref N])) {k' : Nat} (hk' : k' = k + 1) : ∃ H', g_isLam K (gnew H (.inr (c, [.ref N])) 1) (N + k) = true ∧ g_qs (gnew H (.inr (c, [.ref N])) 1) (N + 192) 6 (I i) (some (N + k)) = some H' ∧ CQ K N B H' k' (sl + 1) fs (va_up f i.toNat (some (N + k))) := by
  subst hk'
  obtain ⟨h1, h7, h8⟩ := h
  have hn := h1.new (e := .inr (c, [.ref N])) (n := 1) (fun _ => he.symm) (by omega) rfl
  have hk := h1.2.1
  have hq : CQ K N B (gnew H (.inr (c, [.ref N])) 1) (k + 1) (sl + 1) fs f := ⟨hn, (gn_lt (by omega)).trans h7, by omega⟩
  obtain ⟨H', g1, g2⟩ := hq.st hi (v := N + k)
  refine ⟨H', ?_, g1, g2⟩
  have : g_cls (gnew H (.inr (c, [.ref N])) 1) (N + k) = some c := by rw [← hk]; exact cl_of gn_eq
  unfold g_isLam
  rw [this]
  show (decide (100 ≤ c) && decide (c < 105)) = true
  rw [decide_eq_true hc.1, decide_eq_true hc.2]; rfl
theorem CQ.cst (h : CQ K N B H k sl fs f) {v : Nat} (hv : v = K.2 4 ∨ v = K.2 5) (hN : v < N) : g_isLam K H v = true := by
  have h0 := h.1.2.2.2.1 v hN
  have hc : g_cls H v = none := by
    unfold g_cls
    rw [h0]
  unfold g_isLam
  rw [hc, h0]
  rcases hv with rfl | rfl
  · show (true && (decide (K.2 4 = K.2 4) || _)) = true
    rw [decide_eq_true rfl]; rfl
  · show (true && (_ || decide (K.2 5 = K.2 5))) = true
    rw [decide_eq_true rfl, Bool.or_true]; rfl
theorem nc7 : (I 7).toNatClampNeg = 7 := by decide
theorem w_1 (hd : 4 ≤ d) (hK : ∀ i, i < 6 → K.2 i < N) : ∃ H', gCa K d 1 [.ref N] (gnew (fun _ => none, N, 0) (.inr (0, [.null, .null, .null, .null, .null, .null, .null, .null, .int (I 0), .int (I 0), .int (I 0), .int (I 0), .int (I 0), .int (I 0), .int (I 0), .long (J 0)])) 16) = some (.inl none, H') ∧ HB H' ∧ H'.2.1 = N + 198 ∧ H'.2.2 ≤ 3000 ∧ (∀ a, a < N → H'.1 a = none) ∧ ∀ o, o < 198 → H'.1 (N + o) = some (bCell K N (bI K) o) := by
  obtain ⟨d, rfl, hd'⟩ := d_succ (show 3 + 1 ≤ d by omega)
  have s0 : CN K N (bI K) (gnew (fun _ => none, N, 0) (.inr (0, [.null, .null, .null, .null, .null, .null, .null, .null, .int (I 0), .int (I 0), .int (I 0), .int (I 0), .int (I 0), .int (I 0), .int (I 0), .long (J 0)])) 16) 1 16 [.null, .null, .null, .null, .null, .null, .null, .null, .int (I 0), .int (I 0), .int (I 0), .int (I 0), .int (I 0), .int (I 0), .int (I 0), .long (J 0)] 0 := by
    have hb : HB ((fun _ => none, N, 0) : gH) := fun _ _ => rfl
    exact ⟨hb.new, rfl, Nat.le_refl _, fun a ha => gn_lt (H := ((fun _ => none, N, 0) : gH)) ha, gn_eq (H := ((fun _ => none, N, 0) : gH)), fun o h1 h2 => by omega⟩
  generalize gnew (fun _ => none, N, 0) (.inr (0, [.null, .null, .null, .null, .null, .null, .null, .null, .int (I 0), .int (I 0), .int (I 0), .int (I 0), .int (I 0), .int (I 0), .int (I 0), .long (J 0)])) 16 = H0 at *
  have eB : ∀ o, (o = 1 ∨ o = 2 ∨ o = 3) → bCell K N (bI K) o = .inr (12, [.int (I 0), .ref (K.2 3), .int (I 0)]) := by
    rintro o (rfl | rfl | rfl) <;> rfl
  have n0 := s0.2.1
  obtain ⟨H1, a1, s1⟩ := s0.list (d := d) (by omega) (eB 1 (by omega)) (by omega) (k' := 2) rfl
  obtain ⟨p1, s2⟩ := s1.put (j := 0) (v := .ref (N + 1)) (by decide)
  generalize gset H1 N _ = H2 at *
  have n2 := s2.2.1
  obtain ⟨H3, a3, s3⟩ := s2.list (d := d) (by omega) (eB 2 (by omega)) (by omega) (k' := 3) rfl
  obtain ⟨p3, s4⟩ := s3.put (j := 1) (v := .ref (N + 2)) (by simp only [List.length_set]; decide)
  generalize gset H3 N _ = H4 at *
  have n4 := s4.2.1
  obtain ⟨H5, a5, s5⟩ := s4.list (d := d) (by omega) (eB 3 (by omega)) (by omega) (k' := 4) rfl
  obtain ⟨p5, s6⟩ := s5.put (j := 2) (v := .ref (N + 3)) (by simp only [List.length_set]; decide)
  generalize gset H5 N _ = H6 at *
  have n6 := s6.2.1
  have s7 := s6.rows (t := 1) (tq := 9) rfl (fun r hr => (bC_rf hr).trans (congrArg (fun f => (Sum.inl (1, 12, Sum.inl f) : gE)) (funext fun j => congrArg I (by
    show bI2 (5 + r) j = 0
    unfold bI2
    rw [if_neg (by omega), if_neg (by omega)])))) (by omega) (k' := 65) rfl
  have n7 := s7.2.1
  generalize hH7 : g_rows 1 12 60 (gnew H6 (.inl (9, 60, gQ (fun j => if j < 60 then some (H6.2.1 + 1 + j) else none))) 60) = H7 at *
  rw [n6] at hH7
  obtain ⟨p7, s8⟩ := s7.put (j := 3) (v := .ref (N + 4)) (by simp only [List.length_set]; decide)
  generalize gset H7 N _ = H8 at *
  have n8 := s8.2.1
  have s9 := s8.new (e := .inr (1, [.null, .int (I 0), .int (I 0), .int (I 0), .int (I 0)])) (n := 5) (fun _ => rfl) (by omega) (k' := 66) rfl
  have a9 : ∀ v, gCa K d 85 [.ref v] (gnew H8 (.inr (1, [.null, .int (I 0), .int (I 0), .int (I 0), .int (I 0)])) 5) = some (.inl none, gnew H8 (.inr (1, [.null, .int (I 0), .int (I 0), .int (I 0), .int (I 0)])) 5) := fun v => by
    obtain ⟨d, rfl, hd'⟩ := d_succ (show 0 + 1 ≤ d by omega)
    exact c_85 _ rfl
  generalize hH9 : gnew H8 (.inr (1, [.null, .int (I 0), .int (I 0), .int (I 0), .int (I 0)])) 5 = H9 at *
  obtain ⟨p9, s10⟩ := s9.put (j := 5) (v := .ref (N + 65)) (by simp only [List.length_set]; decide)
  generalize gset H9 N _ = H10 at *
  have n10 := s10.2.1
  have rw1 : ∀ r, r < 60 → bCell K N (bI K) (66 + 2 + r) = .inl (0, 12, .inl (fun j => I (if j < 12 then -1 else 0))) := fun r hr => (bC_rs hr).trans (congrArg (fun f => (Sum.inl (0, 12, Sum.inl f) : gE)) (funext fun j => congrArg I (by
    show bI2 (68 + r) j = _
    unfold bI2
    by_cases z : j < 12
    · rw [if_pos ⟨Or.inl (by omega), z⟩, if_pos z]
    · rw [if_neg (fun q => z q.2), if_neg (by omega), if_neg z])))
  have rw2 : ∀ r, r < 60 → bCell K N (bI K) (129 + 2 + r) = .inl (0, 12, .inl (fun j => I (if j < 12 then -1 else 0))) := fun r hr => (bC_rt hr).trans (congrArg (fun f => (Sum.inl (0, 12, Sum.inl f) : gE)) (funext fun j => congrArg I (by
    show bI2 (131 + r) j = _
    unfold bI2
    by_cases z : j < 12
    · rw [if_pos ⟨Or.inr (by omega), z⟩, if_pos z]
    · rw [if_neg (fun q => z q.2), if_neg (by omega), if_neg z])))
  have rm : ∀ o, o = 128 ∨ o = 191 → (fun j => I (bI2 o j)) = fun j => I (if j < 4 then -1 else 0) := fun o ho => funext fun j => congrArg I (by
    unfold bI2
    rw [if_neg (by omega)]
    by_cases z : j < 4
    · rw [if_pos ⟨ho, z⟩, if_pos z]
    · rw [if_neg (fun q => z q.2), if_neg z])
  obtain ⟨H11, a11, s11⟩ := s10.sheet (d := d) (by omega) rfl (congrArg (fun f => (Sum.inl (8, 60, gQ f) : gE)) (funext fun j => by rw [show N + (68 + j) = N + 66 + 2 + j by omega])) rw1 (congrArg (fun f => (Sum.inl (0, 4, Sum.inl f) : gE)) (rm 128 (Or.inl rfl))) (by omega) (k' := 129) rfl
  obtain ⟨p11, s12⟩ := s11.put (j := 6) (v := .ref (N + 66)) (by simp only [List.length_set]; decide)
  generalize gset H11 N _ = H12 at *
  have n12 := s12.2.1
  obtain ⟨H13, a13, s13⟩ := s12.sheet (d := d) (by omega) rfl (congrArg (fun f => (Sum.inl (8, 60, gQ f) : gE)) (funext fun j => by rw [show N + (131 + j) = N + 129 + 2 + j by omega])) rw2 (congrArg (fun f => (Sum.inl (0, 4, Sum.inl f) : gE)) (rm 191 (Or.inr rfl))) (by omega) (k' := 192) rfl
  obtain ⟨p13, s14⟩ := s13.put (j := 7) (v := .ref (N + 129)) (by simp only [List.length_set]; decide)
  generalize gset H13 N _ = H14 at *
  obtain ⟨p14, s15⟩ := s14.put (j := 8) (v := .int (I 12)) (by simp only [List.length_set]; decide)
  generalize gset H14 N _ = H15 at *
  have n15 := s15.2.1
  have q16 : CQ K N (bI K) (gnew H15 (.inl (6, 7, gQ (fun _ => none))) 7) 193 _ _ (fun _ => none) := ⟨CN.new (x := 192) ⟨s15.1, n15, s15.2.2.1, s15.2.2.2.1, s15.2.2.2.2.1, fun o z1 z2 _ => s15.2.2.2.2.2 o z1 z2 (by omega)⟩ (fun h => absurd rfl h) (by omega) rfl, by rw [show N + 192 = H15.2.1 by omega]; exact gn_eq, by omega⟩
  have n16 := q16.1.2.1
  generalize hH16 : gnew H15 (.inl (6, 7, gQ (fun _ => none))) 7 = H16 at *
  obtain ⟨H17, b17, c17, q17⟩ := q16.lam (i := 0) (c := 100) (by omega) (by omega) rfl (k' := 194) rfl
  have n17 := q17.1.2.1
  obtain ⟨H18, b18, c18, q18⟩ := q17.lam (i := 1) (c := 101) (by omega) (by omega) rfl (k' := 195) rfl
  have n18 := q18.1.2.1
  obtain ⟨H19, b19, c19, q19⟩ := q18.lam (i := 2) (c := 102) (by omega) (by omega) rfl (k' := 196) rfl
  have n19 := q19.1.2.1
  obtain ⟨H20, b20, c20, q20⟩ := q19.lam (i := 3) (c := 103) (by omega) (by omega) rfl (k' := 197) rfl
  have n20 := q20.1.2.1
  obtain ⟨H21, b21, c21, q21⟩ := q20.lam (i := 4) (c := 104) (by omega) (by omega) rfl (k' := 198) rfl
  have b22 := q21.cst (v := K.2 4) (Or.inl rfl) (hK 4 (by omega))
  obtain ⟨H22, c22, q22⟩ := q21.st (i := 5) (v := K.2 4) (by omega)
  have b23 := q22.cst (v := K.2 5) (Or.inr rfl) (hK 5 (by omega))
  obtain ⟨H23, c23, q23⟩ := q22.st (i := 6) (v := K.2 5) (by omega)
  obtain ⟨pf, q24⟩ := q23.put (j := 4) (v := .ref (N + 192)) (by simp only [List.length_set]; decide)
  generalize gset H23 N _ = H24 at *
  obtain ⟨⟨z1, z2, z3, z4, z5, z6⟩, z7, z8⟩ := q24
  refine ⟨H24, c_1 _ ?_, z1, z2, by omega, z4, fun o ho => ?_⟩
  · unfold t_1_0
    simp (disch := omega) only [rI_d, rJ_d, rR_d, rN_d, wF_d, xI_d, xJ_d, xD_d, xQ_d, yI_d, yJ_d, yD_d, yQ_d, dI_s, dJ_s, dR_s, dN_s, dN_n, dH_s, dX_s, dL_s, dD_s, dQ_s, bC_r, bC_t, kI_s, kJ_s, kF_s, kD_s, kR_s, kV_s, I_lit, I_neg, I_add, I_sub, I_mul, I_ltT, I_ltF, I_leT, I_leF, I_eqT, I_eqF, c_int, c_long, c_obj, c_arr, c_bool, c_boolN, c_boolF, vn_bool, c_charN, vn_char, b2_f, b2_t, Int.toNat_natCast, ↓reduceIte, eq_self, and_self, and_true, true_and, not_false_eq_true, not_true_eq_false, L_0_0, L_0_1, L_0_2, L_0_3, L_0_4, L_0_5, L_0_6, L_0_7, L_0_8, L_0_9, L_0_10, L_0_11, L_0_12, L_0_13, L_0_14, L_0_15, C_0, L_1_0, L_1_1, L_1_2, C_1, L_2_0, L_2_1, L_2_2, C_2, L_3_0, L_3_1, L_3_2, C_3, L_65_0, L_65_1, L_65_2, L_65_3, L_65_4, C_65, L_66_0, L_66_1, L_66_2, L_66_3, C_66, L_129_0, L_129_1, L_129_2, L_129_3, C_129, L_198_0, L_198_1, L_198_2, L_198_3, L_198_4, L_198_5, L_198_6, L_198_7, L_198_8, L_198_9, L_198_10, L_198_11, L_198_12, L_198_13, L_198_14, L_198_15, L_198_16, L_198_17, L_198_18, L_198_19, L_198_20, L_198_21, L_198_22, L_198_23, L_198_24, L_198_25, L_198_26, L_198_27, L_198_28, L_198_29, L_198_30, L_198_31, L_198_32, L_198_33, L_198_34, L_198_35, L_198_36, L_198_37, L_198_38, L_198_39, L_198_40, L_198_41, L_198_42, L_198_43, L_198_44, L_198_45, L_198_46, L_198_47, L_198_48, C_198, A_199, A_200, A_201, A_202, A_203, A_204, A_205, A_206, A_207, A_208, A_209, A_210, A_211, A_212, A_213, A_214, A_215, A_216, A_217, A_218, A_219, A_220, A_221, A_222, A_223, A_224, A_225, A_226, A_227, A_228, A_128, A_191, A_rf, A_rs, A_rt, Q_4, Q_67, Q_130, t_1_0_1, t_1_0_2, t_1_0_3, t_1_0_4, t_1_0_5, t_1_0_6, t_1_0_7, t_1_0_8, t_1_0_9, t_1_0_10, t_1_0_11, t_1_0_12, t_1_0_13, t_1_0_14, t_1_0_15, t_1_0_16, t_1_0_17, t_1_0_18, t_1_0_19, t_1_0_20, t_1_0_21, t_1_0_22, iltT, iltF, ileT, ileF, ieqT, ieqF, cif_T, cif_F, not_true_eq_false, not_false_eq_true, or_true, or_false, true_or, false_or, false_and, and_false, ne_eq, n0, a1, p1, n2, a3, p3, n4, a5, p5, hH7, n6, p7, n8, hH9, a9, p9, n10, a11, p11, n12, a13, p13, p14, nc7, Nat.reduceLT, hH16, n15, n16, b17, c17, n17, b18, c18, n18, b19, c19, n19, b20, c20, n20, b21, c21, b22, c22, b23, c23, pf]
  · by_cases e0 : o = 0
    · subst e0
      exact z5
    · by_cases e1 : o = 192
      · subst e1
        rw [z7]
        refine congrArg (fun f => some (Sum.inl (6, 7, gQ f))) (funext fun j => ?_)
        unfold va_up
        try dsimp only
        by_cases j0 : j < 5
        · rw [if_neg (show ¬ j = (6 : Int).toNat by omega), if_neg (show ¬ j = (5 : Int).toNat by omega), if_pos j0]
          obtain rfl | rfl | rfl | rfl | rfl : j = 0 ∨ j = 1 ∨ j = 2 ∨ j = 3 ∨ j = 4 := by omega
          all_goals rfl
        · rw [if_neg j0]
          by_cases j5 : j = 5
          · subst j5; rfl
          · rw [if_neg j5]
            by_cases j6 : j = 6
            · subst j6; rfl
            · rw [if_neg j6, if_neg (show ¬ j = (6 : Int).toNat by omega), if_neg (show ¬ j = (5 : Int).toNat by omega), if_neg (show ¬ j = (4 : Int).toNat by omega), if_neg (show ¬ j = (3 : Int).toNat by omega), if_neg (show ¬ j = (2 : Int).toNat by omega), if_neg (show ¬ j = (1 : Int).toNat by omega), if_neg (show ¬ j = (0 : Int).toNat by omega)]
      · exact z6 o (by omega) (by omega) e1
end
