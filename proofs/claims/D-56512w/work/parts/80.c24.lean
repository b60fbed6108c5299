/-! PURE 63: addCell and setMark -/
set_option maxRecDepth 100000
def exC (k : Int) : Nat := if k = 1 then 3 else if k = 2 then 0 else if k = 3 then 2 else 1
def exD (k : Int) : Nat := if k = 1 then 3 else if k = 2 then 0 else 1
abbrev roZ (N : Nat) (ro : Nat → Nat) : Nat → Nat := fun q => if N ≤ q ∧ q < N + 231 then 0 else ro q
theorem filt_add (p q : Nat → Bool) (k : Nat) (h1 : ∀ x, x ≠ k → q x = p x) (h2 : q k = true) (h3 : p k = false) : ∀ l : List Nat, l.Nodup → k ∈ l → (l.filter p ++ [k]).Perm (l.filter q)
  | [], _, h => by cases h
  | x :: l, hn, hk => by
    obtain ⟨hx, hn⟩ := List.nodup_cons.mp hn
    by_cases e : x = k
    · subst e
      rw [List.filter_cons_of_neg (by rw [h3]; decide), List.filter_cons_of_pos h2, show l.filter q = l.filter p from List.filter_congr (fun y hy => h1 y (by rintro rfl; exact hx hy))]
      exact List.perm_append_singleton _ _
    · have hk' : k ∈ l := (List.mem_cons.mp hk).resolve_left (fun h => e h.symm)
      have ih := filt_add p q k h1 h2 h3 l hn hk'
      by_cases e2 : p x = true
      · rw [List.filter_cons_of_pos e2, List.filter_cons_of_pos (by rw [h1 x e]; exact e2)]
        exact ih.cons _
      · rw [List.filter_cons_of_neg e2, List.filter_cons_of_neg (by rw [h1 x e]; exact e2)]
        exact ih
theorem dl_set {M M' : gM} {s k : Nat} (h : ∀ j, M'.2 202 j = if j = 25 * s + k then 1 else M.2 202 j) (hk : k < 25) (h0 : M.2 202 (25 * s + k) = 0) : (∀ i, i ≠ s → dl M' i = dl M i) ∧ (dl M s ++ [k]).Perm (dl M' s) := by
  refine ⟨fun i hi => ?_, filt_add _ _ k (fun x hx => ?_) ?_ ?_ _ List.nodup_range (List.mem_range.mpr hk)⟩
  · refine List.filter_congr fun x hx => ?_
    have := List.mem_range.mp hx
    rw [h, if_neg (by omega)]
  · rw [h, if_neg (by omega)]
  · rw [h, if_pos rfl]; rfl
  · rw [h0]; rfl
section
variable {K : gK} {d N : Nat} {G G' : gH} {B B' : gB} {M : gM} {ro : Nat → Nat} {sh st pc : List Nat} {cs : Nat → List Nat} {ps : Nat → List (Nat × Int)} {H' : gH} {m sl : Nat}
/-- the owner of the fixed objects is 0 -/
theorem CR.z (h : CR K N G B ro M sh st pc cs ps) : CR K N G B (roZ N ro) M sh st pc cs ps := by
  obtain ⟨q1, q2, q3, q4, q5, q6, q7, q8, q9, q10⟩ := h
  have arr : ∀ {e o : Nat} {xs : List Nat}, ARR K (hH K N G B) e xs → (e = K.2 3 ∨ ro e = o) → (e = K.2 3 ∨ roZ N ro e = o) := by
    intro e o xs ha hr
    rcases ha with ⟨e1, -, -⟩ | ⟨e0, cap, f, e1, -⟩
    · exact Or.inl e1
    · refine hr.imp_right fun r => ?_
      show (if N ≤ e ∧ e < N + 231 then 0 else ro e) = o
      rw [if_neg (fun hq => (lens_a hq e1).1 rfl)]; exact r
  have cl : ∀ o xs, CL K N G B ro o xs → CL K N G B (roZ N ro) o xs := fun o xs ⟨a, b, c, r⟩ => ⟨a, b, c, arr c r⟩
  refine ⟨q1, q2, q3, cl _ _ q4, cl _ _ q5, cl _ _ q6, q7, fun i a ha => ⟨?_, (q8 i a ha).2⟩, fun i a ha => ⟨?_, (q9 i a ha).2⟩, q10⟩
  · obtain ⟨⟨p, mk, vr, h1, ⟨mc, e, ca, c1, c2, hQ, c3, c4⟩, h3, ⟨vf, h4, h5⟩, r1, r2, r3, r4⟩, -⟩ := q8 i a ha
    refine ⟨p, mk, vr, h1, ⟨mc, e, ca, c1, c2, arr c2 hQ, c3, c4⟩, h3, ⟨vf, h4, h5⟩, ?_, ?_, ?_, r4⟩
    · show (if N ≤ a ∧ a < N + 231 then 0 else ro a) = _
      rw [if_neg (fun hq => by have := lens_c hq h1; omega)]; exact r1
    · show (if N ≤ p ∧ p < N + 231 then 0 else ro p) = _
      have r4' : N + 231 ≤ p := r4
      rw [if_neg (fun hq => Nat.not_lt.mpr r4' hq.2)]; exact r2
    · show (if N ≤ vr ∧ vr < N + 231 then 0 else ro vr) = _
      rw [if_neg (fun hq => (lens_a hq h4).2 rfl)]; exact r3
  · obtain ⟨⟨p, mc, e, ca, h1, c1, c2, c3, c4, hQ, r1, r2, r4⟩, -⟩ := q9 i a ha
    refine ⟨p, mc, e, ca, h1, c1, c2, c3, c4, arr c2 hQ, ?_, ?_, r4⟩
    · show (if N ≤ a ∧ a < N + 231 then 0 else ro a) = _
      rw [if_neg (fun hq => by have := lens_c hq h1; omega)]; exact r1
    · show (if N ≤ p ∧ p < N + 231 then 0 else ro p) = _
      have r4' : N + 231 ≤ p := r4
      rw [if_neg (fun hq => Nat.not_lt.mpr r4' hq.2)]; exact r2
/-- a change of one owner -/
theorem CR.own {o1 : Nat} (h : CR K N G B ro M sh st pc cs ps) (hz : ∀ q, N ≤ q → q < N + 231 → ro q ≠ o1) (hf : FR (WO (hH K N G B) ro o1) m sl (hH K N G B) H') :
    H' = hH K N (dn N H') B ∧ CB K N (dn N H') ∧ (∀ i a, sh[i]? = some a → 10 + i ≠ o1 → SHP K (PD N) H' (roN (hH K N G B) ro o1) a i M (cs i)) ∧ (∀ i a, st[i]? = some a → 20 + i ≠ o1 → STP K (PD N) H' (roN (hH K N G B) ro o1) a i M (ps i) sh) ∧ (∀ j a, pc[j]? = some a → PCP H' a j M sh) ∧ (∀ o xs, o ≠ o1 → CL K N G B ro o xs → CL K N (dn N H') B (roN (hH K N G B) ro o1) o xs) := by
  have hC := h.1
  obtain ⟨r1, r2⟩ := relens (B' := B) hC hf (fun q hq hlt => by
    obtain ⟨q1, e, q2, q3⟩ := hq
    by_cases hN : N ≤ q
    · exact absurd q1 (hz q hN hlt)
    · exfalso
      have : (hH K N G B).1 q = none := by
        show (if N ≤ q ∧ q < N + 231 then _ else G.1 q) = none
        rw [if_neg (by omega)]
        exact hC.2.1 q (by omega)
      rw [this] at q2; cases q2) (fun _ _ _ => rfl)
  have hf' := hf
  rw [r1] at hf'
  obtain ⟨f1, f2, f3, f4⟩ := h.fo (ro' := roN (hH K N G B) ro o1) (o1 := o1) hf' (fun q hq => Or.inr hq) (fun q hq => if_neg (by have : (hH K N G B).2.1 = G.2.1 := rfl; omega))
  rw [← r1] at f1 f2 f3
  exact ⟨r1, r2, f1, f2, f3, fun o xs ho hL => f4 o xs ho hL rfl rfl⟩
theorem CR.zo (hC : CB K N G) {o1 : Nat} (h0 : o1 ≠ 0) : ∀ q, N ≤ q → q < N + 231 → roZ N ro q ≠ o1 := fun q h1 h2 => by
  show (if N ≤ q ∧ q < N + 231 then 0 else ro q) ≠ o1
  rw [if_pos ⟨h1, h2⟩]; exact fun e => h0 e.symm
theorem drawn_cs {i : Nat} (hS : (cs i).Perm (dl M i)) {r c : Int} (hr : 0 ≤ r ∧ r ≤ 4) (hc : 0 ≤ c ∧ c ≤ 4) : (∃ k ∈ cs i, ((k / 5 : Nat) : Int) = r ∧ ((k % 5 : Nat) : Int) = c) ↔ M.2 202 (25 * (i : Int) + 5 * r + c).toNat ≠ 0 := by
  have e : (25 * (i : Int) + 5 * r + c).toNat = 25 * i + (5 * r + c).toNat := by omega
  rw [e]
  constructor
  · rintro ⟨k, hk, e1, e2⟩
    have h2 := of_decide_eq_true (List.mem_filter.mp (hS.mem_iff.mp hk)).2
    rw [show (5 * r + c).toNat = k by omega]
    exact h2
  · intro h
    exact ⟨(5 * r + c).toNat, hS.mem_iff.mpr (List.mem_filter.mpr ⟨List.mem_range.mpr (by omega), decide_eq_true h⟩), by omega, by omega⟩
end
