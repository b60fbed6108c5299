/-! PURE 106: what the calls change keeps the invariant, 1 -/
set_option maxRecDepth 100000
section
variable {n : Int} {B B' : gB}
theorem cl0_at {q : Nat} (h : q < 720) : cl0 q = -1 := if_pos h
theorem FLW.z (hw : MW B) (hm : (B.1 198 17) = 0) (hg : GI B) : FLW B := by
  intro r c q1 q2 q3 q4 _
  have b := mw_width hw
  obtain ⟨e, -⟩ := GI.z' hm hg
  rintro (h | ⟨-, h⟩)
  · refine h ?_
    show B.2.1 215 (12 * r + c).toNat = -1
    rw [e]; exact cl0_at (by omega)
  · refine h ?_
    show B.2.1 215 (12 * r + (B.1 198 1) - 1 - c).toNat = -1
    rw [e]; exact cl0_at (by omega)
theorem E_setCloth (h : INV n B) (hm : (B.1 198 17) = 0) {w a s : Int} (h1 : 2 ≤ w ∧ w ≤ 12) (h2 : 0 ≤ a ∧ a ≤ 1) (h3 : 0 ≤ s ∧ s ≤ 6) : INV n (sI (sI (sI B 198 1 w) 198 2 a) 198 4 s) := by
  obtain ⟨⟨m1, m2, m3⟩, hg, hb, hr, hf, i1, i2, i3⟩ := h
  obtain ⟨e1, e2⟩ := GI.z' hm hg
  have hw := ms_stripes (ms_nap (ms_width m1 h1) h2) h3
  have hg' : GI (sI (sI (sI B 198 1 w) 198 2 a) 198 4 s) := GI.z hm e1 e2
  exact ⟨⟨hw, m2, m3⟩, hg', hb, hr, FLW.z hw hm hg', i1, i2, i3⟩
theorem E_fold (h : INV n B) (hm : (B.1 198 17) = 0) {f : Int} (h1 : 0 ≤ f ∧ f ≤ 1) : INV n (sI B 198 3 f) := by
  obtain ⟨⟨m1, m2, m3⟩, hg, hb, hr, hf, i1, i2, i3⟩ := h
  obtain ⟨e1, e2⟩ := GI.z' hm hg
  have hw := ms_folded m1 h1
  have hg' : GI (sI B 198 3 f) := GI.z hm e1 e2
  exact ⟨⟨hw, m2, m3⟩, hg', hb, hr, FLW.z hw hm hg', i1, i2, i3⟩
theorem GQ.rf {M : gM} {n : Nat} : GQ M M n := MQ.rf.gq
theorem E_addFlaw (h : INV n B) {r c v : Int} (h1 : 0 ≤ r ∧ r ≤ 59) (h2 : 0 ≤ c ∧ c ≤ (B.1 198 1) - 1) (h3 : ¬ under (tw B) r c) (hv : 0 ≤ v ∧ v ≤ 12) : INV n (sA (sI B 198 5 v) 199 (12 * r + c).toNat 1) := by
  obtain ⟨⟨m1, m2, m3⟩, hg, hb, hr, hf, i1, i2, i3⟩ := h
  have bw := mw_width m1
  have hw : MW (sA (sI B 198 5 v) 199 (12 * r + c).toNat 1) := ms_flaw (ms_flaws m1 hv) (by omega)
  have hg' : GI (sA (sI B 198 5 v) 199 (12 * r + c).toNat 1) := hg.gq (B' := sA (sI B 198 5 v) 199 (12 * r + c).toNat 1) ⟨fun i hi => ⟨⟨rfl, rfl, rfl, rfl, rfl, rfl⟩, rfl, rfl, rfl, rfl⟩, rfl⟩ rfl rfl (Int.le_refl _) rfl rfl rfl
  refine ⟨⟨hw, m2, m3⟩, hg', hb, hr, fun r' c' q1 q2 q3 q4 q5 => ?_, i1, i2, i3⟩
  have q4' : c' < (B.1 198 1) := q4
  show ¬ under (tw B) r' c'
  by_cases e : r' = r ∧ c' = c
  · rw [e.1, e.2]; exact h3
  · refine hf r' c' q1 q2 q3 q4' ?_
    have e5 : (sA (sI B 198 5 v) 199 (12 * r + c).toNat 1).2.1 199 (12 * r' + c').toNat = B.2.1 199 (12 * r' + c').toNat := sA_ne (Or.inr (by omega))
    rw [e5] at q5
    exact q5
theorem E_clearFlaws (h : INV n B) : INV n (sI (stA B 199 (fill (B.2.1 199) 0 720)) 198 5 0) := by
  obtain ⟨⟨m1, m2, m3⟩, hg, hb, hr, hf, i1, i2, i3⟩ := h
  have bw := mw_width m1
  have hw : MW (sI (stA B 199 (fill (B.2.1 199) 0 720)) 198 5 0) := ms_flaws (mwst m1 (fun j => (show (0 : Int) ≤ fill (B.2.1 199) 0 720 j ∧ fill (B.2.1 199) 0 720 j ≤ 1 from fill_b (mw_flaw m1) (by omega) j))) (by omega)
  have hg' : GI (sI (stA B 199 (fill (B.2.1 199) 0 720)) 198 5 0) := hg.gq (B' := sI (stA B 199 (fill (B.2.1 199) 0 720)) 198 5 0) ⟨fun i hi => ⟨⟨rfl, rfl, rfl, rfl, rfl, rfl⟩, rfl, rfl, rfl, rfl⟩, rfl⟩ rfl rfl (Int.le_refl _) rfl rfl rfl
  refine ⟨⟨hw, m2, m3⟩, hg', hb, hr, fun r' c' q1 q2 q3 q4 q5 => ?_, i1, i2, i3⟩
  have q4' : c' < (B.1 198 1) := q4
  exact absurd (show fill (B.2.1 199) 0 720 (12 * r' + c').toNat = 0 from if_pos (by omega)) q5
theorem E_addShape (h : INV n B) {ch p : Int} (h1 : ch = 110 ∨ ch = 104 ∨ ch = 113) (h2 : (B.1 198 7) ≠ 8) (h3 : 0 ≤ p ∧ p ≤ 1) : INV n (sI (sA (sA B 200 ((B.1 198 7)).toNat ch) 201 ((B.1 198 7)).toNat p) 198 7 ((B.1 198 7) + 1)) := by
  obtain ⟨⟨m1, m2, m3⟩, hg, hb, hr, hf, i1, i2, i3⟩ := h
  have bs := mw_shapes m1
  have hw : MW (sI (sA (sA B 200 ((B.1 198 7)).toNat ch) 201 ((B.1 198 7)).toNat p) 198 7 ((B.1 198 7) + 1)) := ms_shapes (ms_paired (ms_rule m1 (by omega)) h3) (by omega)
  have hg' : GI (sI (sA (sA B 200 ((B.1 198 7)).toNat ch) 201 ((B.1 198 7)).toNat p) 198 7 ((B.1 198 7) + 1)) := hg.gq (B' := sI (sA (sA B 200 ((B.1 198 7)).toNat ch) 201 ((B.1 198 7)).toNat p) 198 7 ((B.1 198 7) + 1)) ⟨fun i hi => ⟨⟨rfl, rfl, rfl, rfl, rfl, rfl⟩, rfl, rfl, rfl, rfl⟩, rfl⟩ rfl rfl (Int.le_refl _) rfl rfl rfl
  have es : (tw (sI (sA (sA B 200 ((B.1 198 7)).toNat ch) 201 ((B.1 198 7)).toNat p) 198 7 ((B.1 198 7) + 1))).1 7 = (B.1 198 7) + 1 := by
    show (sI (sA (sA B 200 ((B.1 198 7)).toNat ch) 201 ((B.1 198 7)).toNat p) 198 7 ((B.1 198 7) + 1)).1 198 7 = _
    exact sI_eq rfl
  refine ⟨⟨hw, m2, m3⟩, hg', ⟨fun i q1 q2 => ?_, hb.2⟩, fun i q1 => ?_, hf, i1, i2, i3⟩
  · rw [es] at q1
    exact hb.1 i (by show (B.1 198 7) ≤ i; omega) q2
  · rw [es] at q1
    by_cases e : i = ((B.1 198 7)).toNat
    · have : (tw (sI (sA (sA B 200 ((B.1 198 7)).toNat ch) 201 ((B.1 198 7)).toNat p) 198 7 ((B.1 198 7) + 1))).2 200 i = ch := by
        show (sA (sA B 200 ((B.1 198 7)).toNat ch) 201 ((B.1 198 7)).toNat p).2.1 200 i = ch
        rw [sA_ne (Or.inl (by decide)), sA_eq e]
      rw [this]; exact h1
    · have : (tw (sI (sA (sA B 200 ((B.1 198 7)).toNat ch) 201 ((B.1 198 7)).toNat p) 198 7 ((B.1 198 7) + 1))).2 200 i = B.2.1 200 i := by
        show (sA (sA B 200 ((B.1 198 7)).toNat ch) 201 ((B.1 198 7)).toNat p).2.1 200 i = B.2.1 200 i
        rw [sA_ne (Or.inl (by decide)), sA_ne (Or.inr e)]
      rw [this]; exact hr i (by show (i : Int) < (B.1 198 7); omega)
theorem lt_shape {B : gB} (hw : MW B) (hg : GI B) {s : Int} (hl : ¬ laid (tw B) s) (hs : 0 ≤ s) {i : Nat} (hi : i < ((B.1 198 17)).toNat) : (B.2.1 210 i).toNat ≠ s.toNat := by
  intro e
  have := mw_shapeOf hw i
  exact hl ⟨i, by show (i : Int) < (B.1 198 17); omega, by show B.2.1 210 i = s; omega⟩
theorem E_addCell (h : INV n B) {s r c : Int} (h1 : 0 ≤ s ∧ s ≤ (B.1 198 7) - 1) (h2 : (0 ≤ r ∧ r ≤ 4) ∧ (0 ≤ c ∧ c ≤ 4)) (h3 : B.2.1 202 (25 * s + 5 * r + c).toNat = 0) (h4 : ¬ laid (tw B) s) : INV n (sA (sA B 202 (25 * s + 5 * r + c).toNat 1) 203 s.toNat (B.2.1 203 s.toNat + 1)) := by
  obtain ⟨⟨m1, m2, m3⟩, hg, hb, hr, hf, i1, i2, i3⟩ := h
  have bs := mw_shapes m1
  have ek : (25 * s + 5 * r + c).toNat = 25 * s.toNat + (5 * r + c).toNat := by omega
  have aD : ∀ j, (sA (sA B 202 (25 * s + 5 * r + c).toNat 1) 203 s.toNat (B.2.1 203 s.toNat + 1)).2.1 202 j = if j = 25 * s.toNat + (5 * r + c).toNat then 1 else B.2.1 202 j := fun j => by
    rw [sA_ne (Or.inl (by decide)), ← ek]
    by_cases e : j = (25 * s + 5 * r + c).toNat
    · rw [sA_eq e, if_pos e]
    · rw [sA_ne (Or.inr e), if_neg e]
  have hD := dl_set (M := tw B) (M' := tw (sA (sA B 202 (25 * s + 5 * r + c).toNat 1) 203 s.toNat (B.2.1 203 s.toNat + 1))) (s := s.toNat) (k := (5 * r + c).toNat) aD (by omega) (by rw [← ek]; exact h3)
  have hl := hD.2.length_eq
  rw [List.length_append] at hl
  have hl25 := dl_len (M := tw (sA (sA B 202 (25 * s + 5 * r + c).toNat 1) 203 s.toNat (B.2.1 203 s.toNat + 1))) (i := s.toNat)
  have hsz := m2 s.toNat (by omega)
  have e1 : [(5 * r + c).toNat].length = 1 := rfl
  have hw : MW (sA (sA B 202 (25 * s + 5 * r + c).toNat 1) 203 s.toNat (B.2.1 203 s.toNat + 1)) := ms_size (ms_drawn m1 (by omega)) (by omega)
  have hg' : GI (sA (sA B 202 (25 * s + 5 * r + c).toNat 1) 203 s.toNat (B.2.1 203 s.toNat + 1)) := hg.gq (B' := sA (sA B 202 (25 * s + 5 * r + c).toNat 1) 203 s.toNat (B.2.1 203 s.toNat + 1)) ⟨fun i hi => ⟨⟨rfl, rfl, rfl, rfl, rfl, rfl⟩, hD.1 _ (lt_shape m1 hg h4 h1.1 hi), rfl, rfl, rfl⟩, rfl⟩ rfl rfl (Int.le_refl _) rfl rfl rfl
  refine ⟨⟨hw, fun i hi => ?_, m3⟩, hg', ⟨fun i q1 q2 => ?_, hb.2⟩, hr, hf, i1, i2, i3⟩
  · by_cases e : i = s.toNat
    · rw [sA_eq e, e]; omega
    · rw [sA_ne (Or.inr e), hD.1 i e, sA_ne (Or.inl (by decide))]
      exact m2 i hi
  · have q1' : (B.1 198 7) ≤ i := q1
    obtain ⟨z1, z2, z3, z4, z5, z6, z7⟩ := hb.1 i q1 q2
    refine ⟨z1, z2, z3, z4, z5, z6, fun k hk => ?_⟩
    have e5 := aD (25 * i + k)
    rw [if_neg (by omega)] at e5
    exact e5.trans (z7 k hk)
theorem E_setMark (h : INV n B) {s g r c : Int} (h1 : 0 ≤ s ∧ s ≤ (B.1 198 7) - 1) (h2 : -1 ≤ g ∧ g ≤ 3) (h3 : 0 ≤ r ∧ r ≤ 4) (h3' : 0 ≤ c ∧ c ≤ 4) (h4 : ¬ laid (tw B) s) : INV n (sA (sA (sA B 204 s.toNat g) 205 s.toNat r) 206 s.toNat c) := by
  obtain ⟨⟨m1, m2, m3⟩, hg, hb, hr, hf, i1, i2, i3⟩ := h
  have bs := mw_shapes m1
  have a1 : ∀ j, j ≠ s.toNat → (sA (sA (sA B 204 s.toNat g) 205 s.toNat r) 206 s.toNat c).2.1 204 j = B.2.1 204 j := fun j hj => (sA_ne (Or.inl (by decide))).trans ((sA_ne (Or.inl (by decide))).trans (sA_ne (Or.inr hj)))
  have a2 : ∀ j, j ≠ s.toNat → (sA (sA (sA B 204 s.toNat g) 205 s.toNat r) 206 s.toNat c).2.1 205 j = B.2.1 205 j := fun j hj => (sA_ne (Or.inl (by decide))).trans ((sA_ne (Or.inr hj)).trans (sA_ne (Or.inl (by decide))))
  have a3 : ∀ j, j ≠ s.toNat → (sA (sA (sA B 204 s.toNat g) 205 s.toNat r) 206 s.toNat c).2.1 206 j = B.2.1 206 j := fun j hj => (sA_ne (Or.inr hj)).trans ((sA_ne (Or.inl (by decide))).trans (sA_ne (Or.inl (by decide))))
  have hw : MW (sA (sA (sA B 204 s.toNat g) 205 s.toNat r) 206 s.toNat c) := ms_markColumn (ms_markRow (ms_group m1 h2) h3) h3'
  have hg' : GI (sA (sA (sA B 204 s.toNat g) 205 s.toNat r) 206 s.toNat c) := hg.gq (B' := sA (sA (sA B 204 s.toNat g) 205 s.toNat r) 206 s.toNat c) ⟨fun i hi => ⟨⟨rfl, rfl, rfl, rfl, rfl, rfl⟩, rfl, a1 _ (lt_shape m1 hg h4 h1.1 hi), a2 _ (lt_shape m1 hg h4 h1.1 hi), a3 _ (lt_shape m1 hg h4 h1.1 hi)⟩, rfl⟩ rfl rfl (Int.le_refl _) rfl rfl rfl
  refine ⟨⟨hw, m2, m3⟩, hg', ⟨fun i q1 q2 => ?_, hb.2⟩, hr, hf, i1, i2, i3⟩
  have q1' : (B.1 198 7) ≤ i := q1
  obtain ⟨z1, z2, z3, z4, z5, z6, z7⟩ := hb.1 i q1 q2
  exact ⟨(a1 i (by omega)).trans z1, z2, z3, z4, (a2 i (by omega)).trans z5, (a3 i (by omega)).trans z6, z7⟩
theorem E_clear (h : INV n B) (hn : 0 ≤ n) : INV n (emB B) := by
  obtain ⟨⟨m1, m2, m3⟩, hg, hb, hr, hf, i1, i2, i3⟩ := h
  have hw := emB_mw m1
  have e1 : (emB B).2.1 215 = cl0 := by
    rw [emB_cl]
    funext q
    show (if q < 720 then (-1 : Int) else B.2.1 215 q) = (if q < 720 then (-1 : Int) else 0)
    by_cases z : q < 720
    · rw [if_pos z, if_pos z]
    · rw [if_neg z, if_neg z]
      exact hg.ge m1 (by omega)
  have e2 : (emB B).2.1 217 = fun _ => 0 := by
    rw [emB_og]
    funext g
    show (if g < 4 then (0 : Int) else B.2.1 217 g) = 0
    by_cases z : g < 4
    · rw [if_pos z]
    · rw [if_neg z, hg.2.2.1]
      exact reO_ge m1 _ g (by omega)
  have hg' : GI (emB B) := GI.z emB_many e1 e2
  refine ⟨⟨hw, m2, fun g hgg => ?_⟩, hg', hb, hr, FLW.z hw emB_many hg', ?_, i2, i3⟩
  · rw [e2] at hgg; exact absurd rfl hgg
  · rw [emB_next]; exact hn
theorem E_addStyle (h : INV n B) (h1 : (B.1 198 28) ≠ 4) : INV n (sI B 198 28 ((B.1 198 28) + 1)) := by
  obtain ⟨⟨m1, m2, m3⟩, hg, hb, hr, hf, i1, i2, i3⟩ := h
  have bs := mw_styles m1
  have hw : MW (sI B 198 28 ((B.1 198 28) + 1)) := ms_styles m1 (by omega)
  have hg' : GI (sI B 198 28 ((B.1 198 28) + 1)) := hg.gq (B' := sI B 198 28 ((B.1 198 28) + 1)) ⟨fun i hi => ⟨⟨rfl, rfl, rfl, rfl, rfl, rfl⟩, rfl, rfl, rfl, rfl⟩, rfl⟩ rfl rfl (Int.le_refl _) rfl rfl rfl
  have es : (tw (sI B 198 28 ((B.1 198 28) + 1))).1 28 = (B.1 198 28) + 1 := by
    show (sI B 198 28 ((B.1 198 28) + 1)).1 198 28 = _
    exact sI_eq rfl
  refine ⟨⟨hw, m2, m3⟩, hg', ⟨hb.1, fun i q1 q2 => ?_⟩, hr, hf, i1, i2, i3⟩
  rw [es] at q1
  exact hb.2 i (by show (B.1 198 28) ≤ i; omega) q2
theorem E_addPart (h : INV n B) {i s c : Int} (h1 : 0 ≤ i ∧ i ≤ (B.1 198 28) - 1) (h2 : 0 ≤ s ∧ s ≤ (B.1 198 7) - 1) (h3 : 1 ≤ c ∧ c ≤ 4) : INV n (sA B 218 (8 * i + s).toNat c) := by
  obtain ⟨⟨m1, m2, m3⟩, hg, hb, hr, hf, i1, i2, i3⟩ := h
  have bs := mw_shapes m1
  have hw : MW (sA B 218 (8 * i + s).toNat c) := ms_count m1 (by omega)
  have hg' : GI (sA B 218 (8 * i + s).toNat c) := hg.gq (B' := sA B 218 (8 * i + s).toNat c) ⟨fun i hi => ⟨⟨rfl, rfl, rfl, rfl, rfl, rfl⟩, rfl, rfl, rfl, rfl⟩, rfl⟩ rfl rfl (Int.le_refl _) rfl rfl rfl
  refine ⟨⟨hw, m2, m3⟩, hg', ⟨hb.1, fun j q1 q2 => ?_⟩, hr, hf, i1, i2, i3⟩
  have q1' : (B.1 198 28) ≤ j := q1
  obtain ⟨z1, z2⟩ := hb.2 j q1 q2
  exact ⟨z1, fun t ht => (sA_ne (Or.inr (by omega))).trans (z2 t ht)⟩
theorem E_addCloth (h : INV n B) {v : Int} (hv : 0 ≤ v ∧ v ≤ 999999) : INV n (sI B 198 31 v) := by
  obtain ⟨⟨m1, m2, m3⟩, hg, hb, hr, hf, i1, i2, i3⟩ := h
  have hw : MW (sI B 198 31 v) := ms_roll m1 hv
  have hg' : GI (sI B 198 31 v) := hg.gq (B' := sI B 198 31 v) ⟨fun i hi => ⟨⟨rfl, rfl, rfl, rfl, rfl, rfl⟩, rfl, rfl, rfl, rfl⟩, rfl⟩ rfl rfl (Int.le_refl _) rfl rfl rfl
  exact ⟨⟨hw, m2, m3⟩, hg', hb, hr, hf, i1, i2, i3⟩
end
