/-! PURE 107: what the calls change keeps the invariant, 2 -/
set_option maxRecDepth 100000
section
variable {n : Int} {B B' : gB}
theorem BL.of {M M' : gM} (h : BL M) (h1 : (M'.1 7) = (M.1 7)) (h2 : (M'.1 28) = (M.1 28)) (h3 : ∀ o, (200 ≤ o ∧ o ≤ 208) ∨ o = 218 ∨ o = 219 → M'.2 o = M.2 o) : BL M' := by
  unfold BL at h ⊢
  rw [h1, h2, h3 202 (by omega), h3 204 (by omega), h3 205 (by omega), h3 206 (by omega), h3 207 (by omega), h3 208 (by omega), h3 218 (by omega), h3 219 (by omega)]
  exact h
theorem RU.of {M M' : gM} (h : RU M) (h1 : (M'.1 7) = (M.1 7)) (h3 : M'.2 200 = M.2 200) : RU M' := by
  unfold RU at h ⊢
  rw [h1, h3]; exact h
theorem E_put (h : INV n B) {s : Nat} {t r c m : Int} (hs : s < 8) (ht : 0 ≤ t ∧ t ≤ 3) (hm : 0 ≤ m ∧ m ≤ 1) (h40 : (B.1 198 17) < 40) (hn : (B.1 198 18) < 1000) (hrs : rsn (tw B) (B.2.1 215) (rmT (tw B)) s (dl (tw B) s) t r c m = 45) : INV (n + 1) (putB B s (dl (tw B) s) t r c m) := by
  obtain ⟨⟨m1, m2, m3⟩, hg, hb, hr, hf, i1, i2, i3⟩ := h
  obtain ⟨p1, p2, p3, p4, p5, p6, p7⟩ := ins_of_rsn hrs
  have hc12 := (cols_b m1).2
  have hmy := mw_many m1
  have ho : ∀ g, B.2.1 217 g ≤ (B.1 198 17) := fun g => by
    rw [hg.2.2.1]
    have := (reO_b (M := tw B) ((B.1 198 17)).toNat g).2
    omega
  have ho0 : ∀ g, 0 ≤ B.2.1 217 g := fun g => by
    rw [hg.2.2.1]
    exact (reO_b (M := tw B) ((B.1 198 17)).toNat g).1
  have hr59 : 0 ≤ r ∧ r ≤ 59 := ⟨p4.1.1, p4.1.2.1⟩
  have hc11 : 0 ≤ c ∧ c ≤ 11 := ⟨p4.1.2.2.1, by have := p4.1.2.2.2; omega⟩
  have hw := putB_mw m1 ho (l := dl (tw B) s) hs ht hm hr59 hc11 h40 hn
  have eA : ∀ o, o < 209 ∨ 217 < o → (putB B s (dl (tw B) s) t r c m).2.1 o = B.2.1 o := fun o h => putB_a h
  have eS : ∀ k, k ≠ 17 → k ≠ 18 → (putB B s (dl (tw B) s) t r c m).1 198 k = B.1 198 k := fun k h1 h2 => putB_f (Or.inr ⟨h1, h2⟩)
  have eD : ∀ i, dl (tw (putB B s (dl (tw B) s) t r c m)) i = dl (tw B) i := fun i => dl_e (eA 202 (by omega))
  have emy := putB_many (B := B) (s := s) (l := dl (tw B) s) (t := t) (r := r) (c := c) (m := m)
  have enx := putB_next (B := B) (s := s) (l := dl (tw B) s) (t := t) (r := r) (c := c) (m := m)
  have ecl := putB_cl (B := B) (s := s) (l := dl (tw B) s) (t := t) (r := r) (c := c) (m := m)
  have eph := fun g => putB_ph (B := B) (s := s) (l := dl (tw B) s) (t := t) (r := r) (c := c) (m := m) (g := g)
  have eog := fun g => putB_og (B := B) (s := s) (l := dl (tw B) s) (t := t) (r := r) (c := c) (m := m) (g := g)
  obtain ⟨w1, w2, w3, w4, w5, w6⟩ := putB_new (B := B) (s := s) (l := dl (tw B) s) (t := t) (r := r) (c := c) (m := m)
  have erow : ∀ o j, 209 ≤ o → o ≤ 214 → j ≠ ((B.1 198 17)).toNat → (putB B s (dl (tw B) s) t r c m).2.1 o j = B.2.1 o j := fun o j h1 h2 h3 => putB_row h1 h2 h3
  generalize putB B s (dl (tw B) s) t r c m = B' at *
  have hq : GQ (tw B) (tw B') ((B.1 198 17)).toNat := by
    refine ⟨fun i hi => ⟨⟨erow _ _ (by omega) (by omega) (by omega), erow _ _ (by omega) (by omega) (by omega), erow _ _ (by omega) (by omega) (by omega), erow _ _ (by omega) (by omega) (by omega), erow _ _ (by omega) (by omega) (by omega), erow _ _ (by omega) (by omega) (by omega)⟩, eD _, ?_, ?_, ?_⟩, eS 4 (by omega) (by omega)⟩
    · show B'.2.1 204 _ = B.2.1 204 _
      rw [eA _ (by omega)]
    · show B'.2.1 205 _ = B.2.1 205 _
      rw [eA _ (by omega)]
    · show B'.2.1 206 _ = B.2.1 206 _
      rw [eA _ (by omega)]
  obtain ⟨g1, g2, g3, g4⟩ := hg
  obtain ⟨re1, re2, re3⟩ := GQ.re _ hq
  have hN : ((B'.1 198 17)).toNat = ((B.1 198 17)).toNat + 1 := by rw [emy]; omega
  have epL : pL (tw B') ((B.1 198 17)).toNat = dl (tw B) s := by
    show dl (tw B') (B'.2.1 210 ((B.1 198 17)).toNat).toNat = _
    rw [w2, eD]; rfl
  have hmk : marked (tw B') s ↔ marked (tw B) s := by
    unfold marked
    show B'.2.1 204 s ≠ -1 ∧ 1 < B'.1 198 4 ↔ B.2.1 204 s ≠ -1 ∧ 1 < B.1 198 4
    rw [eA _ (by omega), eS _ (by omega) (by omega)]
  have hrm : rem (tw B') (r + mb (tw B') s (dl (tw B) s) t m) = rem (tw B) (r + mb (tw B) s (dl (tw B) s) t m) := by
    unfold rem mb
    show (r + (tR t (B'.2.1 205 s) (mC m (B'.2.1 206 s)) - _)) % B'.1 198 4 = (r + (tR t (B.2.1 205 s) (mC m (B.2.1 206 s)) - _)) % B.1 198 4
    rw [eA _ (by omega), eA _ (by omega), eS _ (by omega) (by omega)]
  have hgr : (tw B').2 204 s = (tw B).2 204 s := by
    show B'.2.1 204 s = B.2.1 204 s
    rw [eA _ (by omega)]
  have hsn : ((s : Int)).toNat = s := Int.toNat_natCast s
  refine ⟨⟨hw, fun i hi => ?_, fun g hgg => ?_⟩, ⟨?_, ?_, ?_, fun i hi => ?_⟩, hb.of (eS 7 (by omega) (by omega)) (eS 28 (by omega) (by omega)) (fun o ho => eA o (by omega)), hr.of (eS 7 (by omega) (by omega)) (eA 200 (by omega)), fun R C q1 q2 q3 q4 q5 => ?_, by rw [enx]; omega, by rw [eS _ (by omega) (by omega)]; omega, fun s => by rw [eA _ (by omega)]; have := i3 s; omega⟩
  · rw [eA _ (by omega), eD]; exact m2 i hi
  · rw [eog] at hgg
    rw [eph]
    by_cases e : marked (tw B) s ∧ g = (B.2.1 204 s).toNat
    · rw [cifT e]; exact (rem_b m1 e.1.2).1
    · rw [cifF e] at hgg ⊢; exact m3 g hgg
  · rw [hN]
    show _ = putC (reC (tw B') ((B.1 198 17)).toNat) (pL (tw B') ((B.1 198 17)).toNat) (B'.2.1 213 ((B.1 198 17)).toNat) (B'.2.1 214 ((B.1 198 17)).toNat) (B'.2.1 211 ((B.1 198 17)).toNat) (B'.2.1 212 ((B.1 198 17)).toNat) (B'.2.1 209 ((B.1 198 17)).toNat) (pL (tw B') ((B.1 198 17)).toNat)
    rw [ecl, epL, w1, w3, w4, w5, w6, re1, g1]
  · rw [hN]
    funext g
    show (if B'.2.1 217 g = 0 then (-1 : Int) else B'.2.1 216 g) = cif (marked (tw B') (B'.2.1 210 ((B.1 198 17)).toNat).toNat ∧ g = (B'.2.1 204 (B'.2.1 210 ((B.1 198 17)).toNat).toNat).toNat) (rem (tw B') (B'.2.1 211 ((B.1 198 17)).toNat + mb (tw B') (B'.2.1 210 ((B.1 198 17)).toNat).toNat (pL (tw B') ((B.1 198 17)).toNat) (B'.2.1 213 ((B.1 198 17)).toNat) (B'.2.1 214 ((B.1 198 17)).toNat))) (reR (tw B') ((B.1 198 17)).toNat g)
    rw [epL, w2, w3, w5, w6, hsn, hrm, re2, ← g2, eog, eph, eA _ (show 204 < 209 ∨ 217 < 204 by omega)]
    by_cases e : marked (tw B) s ∧ g = (B.2.1 204 s).toNat
    · have := ho0 g
      rw [cifT e, cifT e, cifT ⟨hmk.mpr e.1, e.2⟩, if_neg (by omega)]
    · rw [cifF e, cifF e, cifF (fun q => e ⟨hmk.mp q.1, q.2⟩)]; rfl
  · rw [hN]
    funext g
    show B'.2.1 217 g = cif (marked (tw B') (B'.2.1 210 ((B.1 198 17)).toNat).toNat ∧ g = (B'.2.1 204 (B'.2.1 210 ((B.1 198 17)).toNat).toNat).toNat) (reO (tw B') ((B.1 198 17)).toNat g + 1) (reO (tw B') ((B.1 198 17)).toNat g)
    rw [w2, hsn, re3, ← g3, eog, eA _ (show 204 < 209 ∨ 217 < 204 by omega)]
    exact cif_of ⟨fun q => ⟨hmk.mpr q.1, q.2⟩, fun q => ⟨hmk.mp q.1, q.2⟩⟩ (fun _ => rfl) (fun _ => rfl)
  · rw [emy] at hi
    have hcols : cols (tw B') = cols (tw B) := by
      unfold cols
      show (if B'.1 198 3 = 0 then B'.1 198 1 else B'.1 198 1 / 2) = (if B.1 198 3 = 0 then B.1 198 1 else B.1 198 1 / 2)
      rw [eS _ (by omega) (by omega), eS _ (by omega) (by omega)]
    by_cases e : i < ((B.1 198 17)).toNat
    · exact hq.pi hcols (by show (B.1 198 18) ≤ (B'.1 198 18); rw [enx]; omega) e (g4 i (by omega))
    · obtain rfl : i = ((B.1 198 17)).toNat := by omega
      refine ⟨?_, ?_, ?_, ?_, fun j hj => ?_, ?_⟩
      · rw [epL]
        show ins (tw B') (dl (tw B) s) (B'.2.1 213 ((B.1 198 17)).toNat) (B'.2.1 214 ((B.1 198 17)).toNat) (B'.2.1 211 ((B.1 198 17)).toNat) (B'.2.1 212 ((B.1 198 17)).toNat)
        rw [w3, w4, w5, w6]
        unfold ins at p4 ⊢
        rw [hcols]; exact p4
      · rw [epL]
        show ¬ onP (reC (tw B') ((B.1 198 17)).toNat) (dl (tw B) s) (B'.2.1 213 ((B.1 198 17)).toNat) (B'.2.1 214 ((B.1 198 17)).toNat) (B'.2.1 211 ((B.1 198 17)).toNat) (B'.2.1 212 ((B.1 198 17)).toNat)
        rw [w3, w4, w5, w6, re1, ← g1]; exact p6
      · rw [epL]
        show meets (tw B') (reR (tw B') ((B.1 198 17)).toNat) (B'.2.1 210 ((B.1 198 17)).toNat).toNat (dl (tw B) s) (B'.2.1 213 ((B.1 198 17)).toNat) (B'.2.1 214 ((B.1 198 17)).toNat) (B'.2.1 211 ((B.1 198 17)).toNat)
        rw [w2, w3, w5, w6, re2, ← g2, hsn]
        rcases p7 with q | q | q
        · exact Or.inl (fun z => q (hmk.mp z))
        · refine Or.inr (Or.inl ?_)
          rw [hgr]; exact q
        · refine Or.inr (Or.inr ?_)
          rw [hgr, hrm]; exact q
      · show B'.2.1 209 ((B.1 198 17)).toNat < (B'.1 198 18)
        rw [w1, enx]; omega
      · show B'.2.1 209 j < B'.2.1 209 ((B.1 198 17)).toNat
        rw [w1, erow _ _ (by omega) (by omega) (by omega)]
        exact (g4 j (by omega)).2.2.2.1
      · rw [epL]; exact p1
  · have bw := mw_width m1
    rw [eS _ (by omega) (by omega)] at q4
    rw [eA _ (by omega)] at q5
    have hold := hf R C q1 q2 q3 q4 q5
    have key : ∀ R' C' : Int, 0 ≤ R' → R' ≤ 59 → 0 ≤ C' → C' ≤ 11 → bad (tw B) R' C' → B'.2.1 215 (12 * R' + C').toNat ≠ -1 → B.2.1 215 (12 * R' + C').toNat ≠ -1 := fun R' C' z1 z2 z3 z4 hbad hne heq => by
      rw [ecl] at hne
      unfold putC at hne
      by_cases e : ∃ k ∈ dl (tw B) s, (12 * R' + C').toNat = (12 * (r + oR (dl (tw B) s) t m k) + (c + oC (dl (tw B) s) t m k)).toNat
      · obtain ⟨k, hk, ek⟩ := e
        obtain ⟨b1, b2'⟩ := ins_b hc12 (fun k hk => dl_lt hk) p4 hk
        refine p5 ⟨k, hk, ?_⟩
        rw [show r + oR (dl (tw B) s) t m k = R' by omega, show c + oC (dl (tw B) s) t m k = C' by omega]
        exact hbad
      · rw [cifF e] at hne
        exact hne heq
    rintro (z | ⟨zf, z⟩)
    · exact hold (Or.inl (key R C q1 q2 q3 (by omega) (Or.inl q5) z))
    · have zf' : (B.1 198 3) ≠ 0 := by
        have : B'.1 198 3 ≠ 0 := zf
        rw [eS _ (by omega) (by omega)] at this
        exact this
      have z' : B'.2.1 215 (12 * R + ((B.1 198 1) - 1 - C)).toNat ≠ -1 := by
        have z0 : B'.2.1 215 (12 * R + B'.1 198 1 - 1 - C).toNat ≠ -1 := z
        rw [eS _ (by omega) (by omega), show 12 * R + (B.1 198 1) - 1 - C = 12 * R + ((B.1 198 1) - 1 - C) by omega] at z0
        exact z0
      refine hold (Or.inr ⟨zf', ?_⟩)
      show B.2.1 215 (12 * R + (B.1 198 1) - 1 - C).toNat ≠ -1
      rw [show 12 * R + (B.1 198 1) - 1 - C = 12 * R + ((B.1 198 1) - 1 - C) by omega]
      refine key R ((B.1 198 1) - 1 - C) q1 q2 (by omega) (by omega) (Or.inr ⟨zf', ?_⟩) z'
      show B.2.1 199 (12 * R + (B.1 198 1) - 1 - ((B.1 198 1) - 1 - C)).toNat ≠ 0
      rw [show 12 * R + (B.1 198 1) - 1 - ((B.1 198 1) - 1 - C) = 12 * R + C by omega]
      exact q5
theorem E_take (h : INV n B) {p : Nat} (hp : (p : Int) < (B.1 198 17)) : INV n (tkB B p) := by
  obtain ⟨⟨m1, m2, m3⟩, hg, hb, hr, hf, i1, i2, i3⟩ := h
  have hog := GI.og m1 hg
  have hw := tkB_b m1 hp (hog p hp)
  have hg' := GI.tk m1 hg hp
  have eA : ∀ o, o < 209 ∨ o = 216 ∨ 217 < o → (tkB B p).2.1 o = B.2.1 o := fun o h => tkB_a h
  have eS : ∀ k, k ≠ 17 → (tkB B p).1 198 k = B.1 198 k := fun k h1 => tkB_f (Or.inr h1)
  have ecl := tkB_cl (B := B) (p := p)
  have eog := fun g => tkB_og (B := B) (p := p) (g := g)
  have hD : ∀ i, dl (tw (tkB B p)) i = dl (tw B) i := fun i => dl_e (eA 202 (by omega))
  have hun : ∀ r c, under (tw (tkB B p)) r c → under (tw B) r c := fun r c => by
    have key : ∀ q, (tkB B p).2.1 215 q ≠ -1 → B.2.1 215 q ≠ -1 := fun q z e => by
      rw [ecl] at z
      unfold rcB at z
      rw [e] at z
      refine z ?_
      split
      · split <;> rfl
      · rfl
    rintro (z | ⟨zf, z⟩)
    · exact Or.inl (key _ z)
    · refine Or.inr ⟨?_, ?_⟩
      · have : (tkB B p).1 198 3 ≠ 0 := zf
        rw [eS _ (by omega)] at this
        exact this
      · have z0 : (tkB B p).2.1 215 (12 * r + (tkB B p).1 198 1 - 1 - c).toNat ≠ -1 := z
        rw [eS _ (by omega)] at z0
        exact key _ z0
  refine ⟨⟨hw, fun i hi => ?_, fun g hgg => ?_⟩, hg', hb.of (eS 7 (by omega)) (eS 28 (by omega)) (fun o ho => eA o (by omega)), hr.of (eS 7 (by omega)) (eA 200 (by omega)), fun R C q1 q2 q3 q4 q5 => ?_, by rw [eS _ (by omega)]; exact i1, by rw [eS _ (by omega)]; exact i2, fun s => by rw [eA _ (by omega)]; exact i3 s⟩
  · rw [eA _ (by omega), hD]; exact m2 i hi
  · rw [eog] at hgg
    rw [eA _ (by omega)]
    by_cases e : marked (tw B) (B.2.1 210 p).toNat ∧ g = (B.2.1 204 (B.2.1 210 p).toNat).toNat
    · have := hog p hp e.1
      rw [← e.2] at this
      exact m3 g (by omega)
    · rw [cifF e] at hgg; exact m3 g hgg
  · rw [eS _ (by omega)] at q4
    rw [eA _ (by omega)] at q5
    exact fun z => hf R C q1 q2 q3 q4 q5 (hun R C z)
end
