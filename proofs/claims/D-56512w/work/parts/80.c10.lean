/-! PURE 49: the room's heap -/
set_option maxRecDepth 100000
abbrev PD (N : Nat) : Nat → Prop := fun a => N + 231 ≤ a
theorem ite_c {p : Prop} [Decidable p] {α : Type} {a b x : α} {Q : Prop} (h : ite p a b = x) (h1 : p → a = x → Q) (h2 : ¬ p → b = x → Q) : Q := by
  by_cases e : p
  · rw [if_pos e] at h; exact h1 e h
  · rw [if_neg e] at h; exact h2 e h
theorem lens_obj {K : gK} {N o : Nat} {B : gB} {c : Nat} {fs : List Value} (h : bCell K N B o = .inr (c, fs)) : c = 0 ∨ c = 12 ∨ c = 1 ∨ c = 2 ∨ c = 3 ∨ 100 ≤ c := by
  unfold bCell at h
  revert h
  iterate 18 refine fun h => ite_c h (fun _ e => by first | (cases e; done) | (cases e; omega)) (fun _ => ?_)
  intro h
  cases h
theorem twK_b (o : Nat) : twK o = 0 ∨ twK o = 1 ∨ twK o = 2 := by
  unfold twK
  repeat' split
  all_goals omega
theorem lens_arr {K : gK} {N o : Nat} {B : gB} {t : Nat} {x : vp_A} (h : bCell K N B o = .inl (t, x)) : t ≠ 5 ∧ t ≠ 7 := by
  unfold bCell at h
  have ht := twK_b o
  revert h
  iterate 18 refine fun h => ite_c h (fun _ e => by first | (cases e; done) | (cases e; omega)) (fun _ => ?_)
  intro h
  cases h
  decide
section
variable {K : gK} {N : Nat} {G : gH} {B : gB}
theorem lens_in {q : Nat} (h : N ≤ q ∧ q < N + 231) : (hH K N G B).1 q = some (bCell K N B (q - N)) := if_pos h
theorem lens_c {q c : Nat} {fs : List Value} (h : N ≤ q ∧ q < N + 231) (e : (hH K N G B).1 q = some (.inr (c, fs))) : c = 0 ∨ c = 12 ∨ c = 1 ∨ c = 2 ∨ c = 3 ∨ 100 ≤ c := by
  rw [lens_in h] at e
  exact lens_obj (Option.some.inj e)
theorem lens_a {q t : Nat} {x : vp_A} (h : N ≤ q ∧ q < N + 231) (e : (hH K N G B).1 q = some (.inl (t, x))) : t ≠ 5 ∧ t ≠ 7 := by
  rw [lens_in h] at e
  exact lens_arr (Option.some.inj e)
end
/-- what is written in place -/
def mu : gE → Prop
  | .inr (c, _) => c = 4 ∨ c = 8 ∨ c = 11 ∨ c = 12
  | .inl (t, _) => t = 5 ∨ t = 7
/-- a write of W is in the lens, or to another owner's -/
def OW (N : Nat) (H : gH) (ro : Nat → Nat) (o : Nat) (W : Nat → Prop) : Prop := ∀ q, W q → (N ≤ q ∧ q < N + 231) ∨ (ro q ≠ o ∧ ∃ e, H.1 q = some e ∧ mu e)
section
variable {K : gK} {N : Nat} {G : gH} {B : gB} {H' : gH} {ro : Nat → Nat} {W : Nat → Prop} {o m s : Nat}
theorem fr_obj (hb : HB (hH K N G B)) (hf : FR W m s (hH K N G B) H') (hw : OW N (hH K N G B) ro o W) {a c : Nat} {fs : List Value} (h : (hH K N G B).1 a = some (.inr (c, fs))) (hc : (c ≠ 0 ∧ c ≠ 1 ∧ c ≠ 2 ∧ c ≠ 3 ∧ c < 100 ∧ (c ≠ 12 ∨ N + 231 ≤ a))) (hr : (c ≠ 4 ∧ c ≠ 8 ∧ c ≠ 11 ∧ c ≠ 12) ∨ ro a = o) : H'.1 a = some (.inr (c, fs)) := by
  refine hf.at hb h (fun q => ?_)
  rcases hw a q with h1 | ⟨h1, e, h2, h3⟩
  · have := lens_c h1 h
    omega
  · cases h.symm.trans h2
    have h3' : c = 4 ∨ c = 8 ∨ c = 11 ∨ c = 12 := h3
    omega
theorem fr_arr (hb : HB (hH K N G B)) (hf : FR W m s (hH K N G B) H') (hw : OW N (hH K N G B) ro o W) {a t : Nat} {x : vp_A} (h : (hH K N G B).1 a = some (.inl (t, x))) (ht : t = 5 ∨ t = 7 ∨ N + 231 ≤ a) (hr : (t ≠ 5 ∧ t ≠ 7) ∨ ro a = o) : H'.1 a = some (.inl (t, x)) := by
  refine hf.at hb h (fun q => ?_)
  rcases hw a q with h1 | ⟨h1, e, h2, h3⟩
  · have := lens_a h1 h
    omega
  · cases h.symm.trans h2
    have h3' : t = 5 ∨ t = 7 := h3
    omega
theorem fr_emp (hb : HB (hH K N G B)) (hf : FR W m s (hH K N G B) H') (hw : OW N (hH K N G B) ro o W) {e : Nat} (hlt : e < N) (hN : N ≤ G.2.1) (h : (hH K N G B).1 e = none) : H'.1 e = none := by
  rw [hf.2.2.2.2.2 e (Nat.lt_of_lt_of_le hlt hN) (fun q => ?_)]
  · exact h
  · rcases hw e q with h1 | ⟨h1, x, h2, h3⟩
    · omega
    · rw [h] at h2; cases h2
theorem ARR.fr (hb : HB (hH K N G B)) (hf : FR W m s (hH K N G B) H') (hw : OW N (hH K N G B) ro o W) (hk : K.2 3 < N) (hN : N ≤ G.2.1) {e : Nat} {xs : List Nat} (h : ARR K (hH K N G B) e xs) (hr : e = K.2 3 ∨ ro e = o) : ARR K H' e xs := by
  rcases h with ⟨e1, e2, e3⟩ | ⟨e0, cap, f, e1, e2⟩
  · exact Or.inl ⟨e1, fr_emp hb hf hw (by rw [e1]; exact hk) hN e2, e3⟩
  · exact Or.inr ⟨e0, cap, f, fr_arr hb hf hw e1 (Or.inl rfl) (Or.inr (hr.resolve_left e0)), e2⟩
theorem VA.fo (hb : HB (hH K N G B)) (hf : FR W m s (hH K N G B) H') (hw : OW N (hH K N G B) ro o W) {v : Nat} {cl : List Nat} {t mm z : Int} (h : VA (PD N) (hH K N G B) v cl t mm z) : VA (PD N) H' v cl t mm z := by
  obtain ⟨ra, ca, fr, fc, h1, ⟨p1, p2⟩, h2, h3, h4⟩ := h
  exact ⟨ra, ca, fr, fc, fr_obj hb hf hw h1 (by omega) (Or.inl (by omega)), ⟨p1, p2⟩, fr_arr hb hf hw h2 (Or.inr (Or.inr p1)) (Or.inl (by omega)), fr_arr hb hf hw h3 (Or.inr (Or.inr p2)) (Or.inl (by omega)), h4⟩
theorem SHP.fo {a i : Nat} {M : gM} {cl : List Nat} (hb : HB (hH K N G B)) (hf : FR W m s (hH K N G B) H') (hw : OW N (hH K N G B) ro (10 + i) W) (hk : K.2 3 < N) (hN : N ≤ G.2.1) (h : SHP K (PD N) (hH K N G B) ro a i M cl) : SHP K (PD N) H' ro a i M cl := by
  obtain ⟨p, mk, vr, h1, ⟨mc, e, ca, c1, c2, hQ, c3, c4⟩, h3, ⟨vf, h4, h5⟩, r1, r2, r3, r4⟩ := h
  refine ⟨p, mk, vr, fr_obj hb hf hw h1 (by omega) (Or.inr r1), ⟨mc, e, ca, fr_obj hb hf hw c1 (by refine ⟨by omega, by omega, by omega, by omega, by omega, Or.inr r4⟩) (Or.inr r2), c2.fr hb hf hw hk hN hQ, hQ, c3, fun j c k q1 q2 => fr_obj hb hf hw (c4 j c k q1 q2) (by omega) (Or.inl (by omega))⟩, fr_obj hb hf hw h3 (by omega) (Or.inl (by omega)), ⟨vf, fr_arr hb hf hw h4 (Or.inr (Or.inl rfl)) (Or.inr r3), fun t mm q1 q2 q3 q4 => ?_⟩, r1, r2, r3, r4⟩
  obtain ⟨va, k1, k2⟩ := h5 t mm q1 q2 q3 q4
  exact ⟨va, k1, k2.fo hb hf hw⟩
end
/-- owners may be told anew where nothing lay -/
theorem SHP.ro {K : gK} {P : Nat → Prop} {H : gH} {ro ro' : Nat → Nat} {a i : Nat} {M : gM} {cl : List Nat} (hb : HB H) (hk : H.1 (K.2 3) = none) (hr : ∀ q, q < H.2.1 → ro' q = ro q) (h : SHP K P H ro a i M cl) : SHP K P H ro' a i M cl := by
  obtain ⟨p, mk, vr, h1, ⟨mc, e, ca, c1, c2, hQ, c3, c4⟩, h3, ⟨vf, h4, h5⟩, r1, r2, r3, r4⟩ := h
  refine ⟨p, mk, vr, h1, ⟨mc, e, ca, c1, c2, ?_, c3, c4⟩, h3, ⟨vf, h4, h5⟩, (hr _ (hb.lt h1)).trans r1, (hr _ (hb.lt c1)).trans r2, (hr _ (hb.lt h4)).trans r3, r4⟩
  rcases hQ with q | q
  · exact Or.inl q
  · rcases c2 with ⟨e1, -, -⟩ | ⟨-, cap, f, e1, -⟩
    · exact Or.inl e1
    · exact Or.inr ((hr _ (hb.lt e1)).trans q)
/-- a style at a: parts are pairs of a shape's number and a count -/
def STP (K : gK) (P : Nat → Prop) (H : gH) (ro : Nat → Nat) (a i : Nat) (M : gM) (ps : List (Nat × Int)) (sh : List Nat) : Prop := ∃ p mc e ca, H.1 a = some (.inr (8, [.ref p, .int (I (M.2 219 i))])) ∧ ALo H p mc e ca.length ∧ ARR K H e ca ∧ ca.length = ps.length ∧ (∀ (j c : Nat) (q : Nat × Int), ca[j]? = some c → ps[j]? = some q → ∃ b, sh[q.1]? = some b ∧ H.1 c = some (.inr (9, [.ref b, .int (I q.2)]))) ∧ (e = K.2 3 ∨ ro e = 20 + i) ∧ ro a = 20 + i ∧ ro p = 20 + i ∧ P p
/-- the piece j of the marker at a -/
def PCP (H : gH) (a j : Nat) (M : gM) (sh : List Nat) : Prop := ∃ b, sh[(M.2 210 j).toNat]? = some b ∧ H.1 a = some (.inr (7, [.int (I (M.2 209 j)), .ref b, .int (I (M.2 213 j)), .int (I (M.2 214 j)), .int (I (M.2 211 j)), .int (I (M.2 212 j))]))
section
variable {K : gK} {N : Nat} {G : gH} {B : gB} {H' : gH} {ro : Nat → Nat} {W : Nat → Prop} {o m s : Nat}
theorem STP.fo {a i : Nat} {M : gM} {ps : List (Nat × Int)} {sh : List Nat} (hb : HB (hH K N G B)) (hf : FR W m s (hH K N G B) H') (hw : OW N (hH K N G B) ro (20 + i) W) (hk : K.2 3 < N) (hN : N ≤ G.2.1) (h : STP K (PD N) (hH K N G B) ro a i M ps sh) : STP K (PD N) H' ro a i M ps sh := by
  obtain ⟨p, mc, e, ca, h1, c1, c2, c3, c4, hQ, r1, r2, r4⟩ := h
  refine ⟨p, mc, e, ca, fr_obj hb hf hw h1 (by omega) (Or.inr r1), fr_obj hb hf hw c1 (by refine ⟨by omega, by omega, by omega, by omega, by omega, Or.inr r4⟩) (Or.inr r2), c2.fr hb hf hw hk hN hQ, c3, fun j c q q1 q2 => ?_, hQ, r1, r2, r4⟩
  obtain ⟨b, k1, k2⟩ := c4 j c q q1 q2
  exact ⟨b, k1, fr_obj hb hf hw k2 (by omega) (Or.inl (by omega))⟩
theorem PCP.fo {a j : Nat} {M : gM} {sh : List Nat} (hb : HB (hH K N G B)) (hf : FR W m s (hH K N G B) H') (hw : OW N (hH K N G B) ro o W) (h : PCP (hH K N G B) a j M sh) : PCP H' a j M sh := by
  obtain ⟨b, h1, h2⟩ := h
  exact ⟨b, h1, fr_obj hb hf hw h2 (by omega) (Or.inl (by omega))⟩
end
theorem STP.ro {K : gK} {P : Nat → Prop} {H : gH} {ro ro' : Nat → Nat} {a i : Nat} {M : gM} {ps : List (Nat × Int)} {sh : List Nat} (hb : HB H) (hr : ∀ q, q < H.2.1 → ro' q = ro q) (h : STP K P H ro a i M ps sh) : STP K P H ro' a i M ps sh := by
  obtain ⟨p, mc, e, ca, h1, c1, c2, c3, c4, hQ, r1, r2, r4⟩ := h
  refine ⟨p, mc, e, ca, h1, c1, c2, c3, c4, ?_, (hr _ (hb.lt h1)).trans r1, (hr _ (hb.lt c1)).trans r2, r4⟩
  rcases hQ with q | q
  · exact Or.inl q
  · rcases c2 with ⟨e1, -, -⟩ | ⟨-, cap, f, e1, -⟩
    · exact Or.inl e1
    · exact Or.inr ((hr _ (hb.lt e1)).trans q)
/-- a heap whose fixed objects are B's -/
def dn (N : Nat) (H : gH) : gH := (fun a => if a < N + 231 then none else H.1 a, H.2)
theorem hH_dn {K : gK} {N : Nat} {B : gB} {H : gH} (h : ∀ o, o < 231 → H.1 (N + o) = some (bCell K N B o)) (h0 : ∀ a, a < N → H.1 a = none) : hH K N (dn N H) B = H := by
  refine Prod.ext (funext fun q => ?_) rfl
  show (if N ≤ q ∧ q < N + 231 then some (bCell K N B (q - N)) else if q < N + 231 then none else H.1 q) = H.1 q
  by_cases e : N ≤ q ∧ q < N + 231
  · rw [if_pos e, ← h (q - N) (by omega), show N + (q - N) = q by omega]
  · rw [if_neg e]
    by_cases e2 : q < N + 231
    · rw [if_pos e2, h0 q (by omega)]
    · rw [if_neg e2]
