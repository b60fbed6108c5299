/-! PURE 108: what the calls change keeps the invariant, 3 -/
set_option maxRecDepth 100000
section
variable {n : Int} {B B' : gB}
theorem E_sp (h : INV n B) {p : Int} (hp : 1 ≤ p ∧ p ≤ 50) (hn : n ≤ 100) (hk : ∀ j : Nat, (j : Int) < 2 * (B.1 198 7) → B.2.1 208 j + p * gv (tw B) ((j : Int) / 2) ((j : Int) % 2) ≤ 9999) : INV (n + 1) (spB B p (2 * (B.1 198 7)).toNat) := by
  obtain ⟨⟨m1, m2, m3⟩, hg, hb, hr, hf, i1, i2, i3⟩ := h
  have bs := mw_shapes m1
  have bc := mw_cutAll m1
  have hw := spB_mw m1 (p := p) (by omega) (z := (2 * (B.1 198 7)).toNat) (by omega) (fun j hj => hk j (by omega)) (by omega)
  have ss := spS_b m1 (p := p) (by omega) (2 * (B.1 198 7)).toNat
  have eS : ∀ k, k ≠ 32 → (spB B p (2 * (B.1 198 7)).toNat).1 198 k = B.1 198 k := fun k hk => spB_k hk
  have eA : ∀ o, o ≠ 207 → o ≠ 208 → (spB B p (2 * (B.1 198 7)).toNat).2.1 o = B.2.1 o := fun o h1 h2 => spB_o h1 h2
  have ec := spB_ct (B := B) (p := p) (z := (2 * (B.1 198 7)).toNat)
  have est := fun j => spB_st (B := B) (p := p) (z := (2 * (B.1 198 7)).toNat) (j := j)
  have eec := fun j => spB_ec (B := B) (p := p) (z := (2 * (B.1 198 7)).toNat) (j := j)
  generalize spB B p (2 * (B.1 198 7)).toNat = B' at *
  have hq : GQ (tw B) (tw B') ((B.1 198 17)).toNat := by
    have e : ∀ o, o ≠ 207 → o ≠ 208 → (tw B').2 o = (tw B).2 o := fun o h1 h2 => eA o h1 h2
    refine ⟨fun i hi => ⟨PE.of (fun o h1 h2 => e o (by omega) (by omega)), dl_e (e 202 (by omega) (by omega)), ?_, ?_, ?_⟩, eS 4 (by omega)⟩
    · rw [e 204 (by omega) (by omega)]
    · rw [e 205 (by omega) (by omega)]
    · rw [e 206 (by omega) (by omega)]
  have hcols : cols (tw B') = cols (tw B) := by
    unfold cols
    show (if B'.1 198 3 = 0 then B'.1 198 1 else B'.1 198 1 / 2) = (if B.1 198 3 = 0 then B.1 198 1 else B.1 198 1 / 2)
    rw [eS _ (by omega), eS _ (by omega)]
  have hrm : rmT (tw B') = rmT (tw B) := by
    unfold rmT
    show (fun g => if B'.2.1 217 g = 0 then (-1 : Int) else B'.2.1 216 g) = fun g => if B.2.1 217 g = 0 then (-1 : Int) else B.2.1 216 g
    rw [eA 217 (by omega) (by omega), eA 216 (by omega) (by omega)]
  refine ⟨⟨hw, fun i hi => ?_, fun g hgg => ?_⟩, hg.gq hq hcols (eS _ (by omega)) (Int.le_of_eq (eS 18 (by omega)).symm) (eA _ (by omega) (by omega)) hrm (eA _ (by omega) (by omega)), ⟨fun i q1 q2 => ?_, fun i q1 q2 => ?_⟩, hr.of (eS 7 (by omega)) (eA 200 (by omega) (by omega)), fun R C q1 q2 q3 q4 q5 => ?_, by rw [eS _ (by omega)]; omega, by rw [ec]; omega, fun s => by rw [eA _ (by omega) (by omega)]; have := i3 s; omega⟩
  · rw [eA 203 (by omega) (by omega), dl_e (M := tw B) (M' := tw B') (eA 202 (by omega) (by omega))]; exact m2 i hi
  · rw [eA 217 (by omega) (by omega)] at hgg
    rw [eA 216 (by omega) (by omega)]; exact m3 g hgg
  · have q1' : (B.1 198 7) ≤ i := by
      have : B'.1 198 7 ≤ i := q1
      rw [eS _ (by omega)] at this
      exact this
    obtain ⟨z1, z2, z3, z4, z5, z6, z7⟩ := hb.1 i q1' q2
    refine ⟨?_, ?_, ?_, ?_, ?_, ?_, fun k hk => ?_⟩
    · exact (congrFun (eA 204 (by omega) (by omega)) i).trans z1
    · exact ((est _).trans (if_neg (by omega))).trans z2
    · exact ((est _).trans (if_neg (by omega))).trans z3
    · exact ((eec i).trans (cifF (by omega))).trans z4
    · exact (congrFun (eA 205 (by omega) (by omega)) i).trans z5
    · exact (congrFun (eA 206 (by omega) (by omega)) i).trans z6
    · exact (congrFun (eA 202 (by omega) (by omega)) _).trans (z7 k hk)
  · have q1' : (B.1 198 28) ≤ i := by
      have : B'.1 198 28 ≤ i := q1
      rw [eS _ (by omega)] at this
      exact this
    obtain ⟨z1, z2⟩ := hb.2 i q1' q2
    exact ⟨(congrFun (eA 219 (by omega) (by omega)) i).trans z1, fun s hs => (congrFun (eA 218 (by omega) (by omega)) _).trans (z2 s hs)⟩
  · rw [eS _ (by omega)] at q4
    rw [eA _ (by omega) (by omega)] at q5
    have hu : under (tw B') R C = under (tw B) R C := by
      unfold under
      show (B'.2.1 215 (12 * R + C).toNat ≠ -1 ∨ (B'.1 198 3 ≠ 0 ∧ B'.2.1 215 (12 * R + B'.1 198 1 - 1 - C).toNat ≠ -1)) = (B.2.1 215 (12 * R + C).toNat ≠ -1 ∨ (B.1 198 3 ≠ 0 ∧ B.2.1 215 (12 * R + B.1 198 1 - 1 - C).toNat ≠ -1))
      rw [eS _ (by omega), eS _ (by omega), eA _ (by omega) (by omega)]
    rw [hu]
    exact hf R C q1 q2 q3 q4 q5
theorem stM_b (hw : MW B) {s g : Int} (hs : 0 ≤ s) (hg : 1 ≤ g ∧ g ≤ 99) (hmk : g ≤ mk (tw B) s 0) : ∀ j, 0 ≤ stM (tw B) s g ((B.1 198 7)) j ∧ stM (tw B) s g ((B.1 198 7)) j ≤ 9999 := fun j => by
  have bs := mw_shapes hw
  have t0 := mw_stock hw j
  unfold stM
  by_cases z : (j : Int) < 2 * (B.1 198 7)
  · rw [if_pos z]
    have bc := mw_count hw (8 * s + (j : Int) / 2).toNat
    have bg : 0 ≤ g * B.2.1 218 (8 * s + (j : Int) / 2).toNat := Int.mul_nonneg (by omega) bc.1
    have hmk' : g ≤ mkP (tw B) s 0 ((B.1 198 7)).toNat := hmk
    have hle := (le_mkP (M := tw B) (st := s) (p := 0) (g := g) ((B.1 198 7)).toNat).mp hmk'
    have key : 0 < B.2.1 218 (8 * s + (j : Int) / 2).toNat → B.2.1 218 (8 * s + (j : Int) / 2).toNat * g ≤ B.2.1 208 (2 * (j / 2)) ∧ (B.2.1 201 (j / 2) = 0 ∨ B.2.1 218 (8 * s + (j : Int) / 2).toNat * g ≤ B.2.1 208 (2 * (j / 2) + 1)) := fun hc => by
      have e : (8 * s + ((j / 2 : Nat) : Int)).toNat = (8 * s + (j : Int) / 2).toNat := by omega
      have := hle.2 (j / 2) (by omega) (by rw [e]; exact hc)
      rw [e] at this
      obtain ⟨h1, h2⟩ := this
      dsimp only at h1 h2
      rw [Int.zero_mul, Int.add_zero] at h1 h2
      exact ⟨h1, h2⟩
    rw [Int.mul_comm] at bg
    show 0 ≤ B.2.1 208 j - (if j % 2 = 0 then g * B.2.1 218 (8 * s + (j : Int) / 2).toNat else if B.2.1 201 (j / 2) = 0 then 0 else g * B.2.1 218 (8 * s + (j : Int) / 2).toNat) ∧ B.2.1 208 j - (if j % 2 = 0 then g * B.2.1 218 (8 * s + (j : Int) / 2).toNat else if B.2.1 201 (j / 2) = 0 then 0 else g * B.2.1 218 (8 * s + (j : Int) / 2).toNat) ≤ 9999
    rw [Int.mul_comm g]
    by_cases c0 : B.2.1 218 (8 * s + (j : Int) / 2).toNat = 0
    · rw [c0, Int.zero_mul]
      split
      · omega
      · split <;> omega
    · obtain ⟨k1, k2⟩ := key (by omega)
      by_cases e : j % 2 = 0
      · rw [if_pos e]
        rw [show 2 * (j / 2) = j by omega] at k1
        omega
      · rw [if_neg e]
        by_cases e2 : B.2.1 201 (j / 2) = 0
        · rw [if_pos e2]; omega
        · rw [if_neg e2]
          have := k2.resolve_left e2
          rw [show 2 * (j / 2) + 1 = j by omega] at this
          omega
  · rw [if_neg z]; exact t0
theorem E_make (h : INV n B) {s g : Int} (hs : 0 ≤ s ∧ s ≤ (B.1 198 28) - 1) (hg : 1 ≤ g ∧ g ≤ 99) (hmk : g ≤ mk (tw B) s 0) (hn : n ≤ 100) : INV (n + 1) (sA (stA B 208 (stM (tw B) s g ((B.1 198 7)))) 219 s.toNat (B.2.1 219 s.toNat + g)) := by
  obtain ⟨⟨m1, m2, m3⟩, hg', hb, hr, hf, i1, i2, i3⟩ := h
  have bm := mw_made m1 s.toNat
  have i3s := i3 s.toNat
  have hw : MW (sA (stA B 208 (stM (tw B) s g ((B.1 198 7)))) 219 s.toNat (B.2.1 219 s.toNat + g)) := ms_made (mwst m1 (stM_b m1 hs.1 hg hmk)) (by omega)
  have hgi : GI (sA (stA B 208 (stM (tw B) s g ((B.1 198 7)))) 219 s.toNat (B.2.1 219 s.toNat + g)) := hg'.gq (B' := sA (stA B 208 (stM (tw B) s g ((B.1 198 7)))) 219 s.toNat (B.2.1 219 s.toNat + g)) ⟨fun i hi => ⟨⟨rfl, rfl, rfl, rfl, rfl, rfl⟩, rfl, rfl, rfl, rfl⟩, rfl⟩ rfl rfl (Int.le_refl _) rfl rfl rfl
  refine ⟨⟨hw, m2, m3⟩, hgi, ⟨fun i q1 q2 => ?_, fun i q1 q2 => ?_⟩, hr, hf, by show (B.1 198 18) ≤ n + 1; omega, by show (B.1 198 32) ≤ _; omega, fun j => ?_⟩
  · have q1' : (B.1 198 7) ≤ i := q1
    obtain ⟨z1, z2, z3, z4, z5, z6, z7⟩ := hb.1 i q1 q2
    exact ⟨z1, (if_neg (by omega)).trans z2, (if_neg (by omega)).trans z3, z4, z5, z6, z7⟩
  · have q1' : (B.1 198 28) ≤ i := q1
    obtain ⟨z1, z2⟩ := hb.2 i q1 q2
    exact ⟨(sA_ne (Or.inr (by omega))).trans z1, z2⟩
  · by_cases e : j = s.toNat
    · rw [sA_eq e]; omega
    · rw [sA_ne (Or.inr e)]
      have := i3 j
      show B.2.1 219 j ≤ _
      omega
theorem E_lq (h : INV n B) (hq : LQ B B') (hw : MW B') : INV n B' := by
  obtain ⟨hm, hg, hb, hr, hf, i1, i2, i3⟩ := h
  have m1 := hm.1
  have eS : ∀ k, (k ≠ 0 ∧ k ≠ 33 ∧ k ≠ 36 ∧ k ≠ 37 ∧ k ≠ 38 ∧ k ≠ 39 ∧ k ≠ 41 ∧ k ≠ 48) → B'.1 198 k = B.1 198 k := fun k hk => hq.1 198 k (Or.inr hk)
  have eA : ∀ o, (o < 209 ∨ (214 < o ∧ o < 220 ∧ o ≠ 216)) → B'.2.1 o = B.2.1 o := fun o h => hq.2.1 o (by omega)
  refine ⟨hm.lq hq hw, hg.lq m1 hq, hb.of (eS 7 (by omega)) (eS 28 (by omega)) (fun o ho => eA o (by omega)), hr.of (eS 7 (by omega)) (eA 200 (by omega)), fun R C q1 q2 q3 q4 q5 => ?_, by rw [eS _ (by omega)]; exact i1, by rw [eS _ (by omega)]; exact i2, fun s => by rw [eA _ (by omega)]; exact i3 s⟩
  rw [eS _ (by omega)] at q4
  rw [eA _ (by omega)] at q5
  have hu : under (tw B') R C = under (tw B) R C := by
    unfold under
    show (B'.2.1 215 (12 * R + C).toNat ≠ -1 ∨ (B'.1 198 3 ≠ 0 ∧ B'.2.1 215 (12 * R + B'.1 198 1 - 1 - C).toNat ≠ -1)) = (B.2.1 215 (12 * R + C).toNat ≠ -1 ∨ (B.1 198 3 ≠ 0 ∧ B.2.1 215 (12 * R + B.1 198 1 - 1 - C).toNat ≠ -1))
    rw [eS _ (by omega), eS _ (by omega), eA _ (by omega)]
  rw [hu]
  exact hf R C q1 q2 q3 q4 q5
end
