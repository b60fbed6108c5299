/-! PURE 55: a changed heap is read as the room again -/
set_option maxRecDepth 100000
section
variable {K : gK} {d N : Nat} {G G' : gH} {B B' : gB} {M : gM} {ro ro' : Nat → Nat} {sh st pc : List Nat} {cs : Nat → List Nat} {ps : Nat → List (Nat × Int)} {H' : gH} {W : Nat → Prop} {m s : Nat}
theorem relens (hC : CB K N G) (hf : FR W m s (hH K N G B) H') (hw : ∀ q, W q → q < N + 231 → ∃ o, q = N + o ∧ H'.1 q = some (bCell K N B' o)) (hne : ∀ o, o < 231 → ¬ W (N + o) → bCell K N B' o = bCell K N B o) : H' = hH K N (dn N H') B' ∧ CB K N (dn N H') := by
  have hN : N + 231 ≤ G.2.1 := hC.2.2.1
  have h1 : G.2.1 ≤ H'.2.1 := hf.1
  refine ⟨(hH_dn (fun o ho => ?_) (fun a ha => ?_)).symm, fun a ha => ?_, fun a ha => if_pos ha, Nat.le_trans hN h1, hC.2.2.2⟩
  · by_cases e : W (N + o)
    · obtain ⟨o', q1, q2⟩ := hw _ e (by omega)
      rw [q2, show o' = o by omega]
    · rw [hf.2.2.2.2.2 (N + o) (show N + o < G.2.1 by omega) e, hne o ho e]
      exact hH_at ho
  · by_cases e : W a
    · obtain ⟨o', q1, q2⟩ := hw _ e (by omega)
      omega
    · rw [hf.2.2.2.2.2 a (show a < G.2.1 by omega) e]
      show (if N ≤ a ∧ a < N + 231 then _ else G.1 a) = none
      rw [if_neg (by omega)]
      exact hC.2.1 a (by omega)
  · show (if a < N + 231 then none else H'.1 a) = none
    have ha' : H'.2.1 ≤ a := ha
    rw [if_neg (by omega)]
    exact hf.hb a ha'
/-- a list's fields -/
def lB (B : gB) (o : Nat) (mc : Int) (e n : Nat) : gB := sI (sI (sI B o 0 mc) o 1 (e : Int)) o 2 (n : Int)
theorem lB_eq {o : Nat} {mc : Int} {e n : Nat} : (lB B o mc e n).1 o 1 = (e : Int) ∧ (lB B o mc e n).1 o 2 = (n : Int) := ⟨(sI_ne (by omega)).trans (sI_eq rfl), sI_eq rfl⟩
theorem lB_ne {o : Nat} {mc : Int} {e n : Nat} {o' k : Nat} (h : o' ≠ o) : (lB B o mc e n).1 o' k = B.1 o' k := (sI_ne (Or.inl h)).trans ((sI_ne (Or.inl h)).trans (sI_ne (Or.inl h)))
abbrev LW (H : gH) (p e : Nat) : Nat → Prop := fun q => q = p ∨ (q = e ∧ H.1 e ≠ none)
theorem lB_cell {o : Nat} (ho : o = 1 ∨ o = 2 ∨ o = 3) {mc : Int} {e n : Nat} : bCell K N (lB B o mc e n) o = .inr (12, [.int (I mc), .ref e, .int (I (n : Int))]) := by
  have h0 : (lB B o mc e n).1 o 0 = mc := (sI_ne (by omega)).trans ((sI_ne (by omega)).trans (sI_eq rfl))
  have h1 := (lB_eq (B := B) (o := o) (mc := mc) (e := e) (n := n)).1
  have h2 := (lB_eq (B := B) (o := o) (mc := mc) (e := e) (n := n)).2
  generalize lB B o mc e n = B1 at *
  rcases ho with rfl | rfl | rfl
  · show (Sum.inr (12, [.int (I (B1.1 1 0)), .ref (B1.1 1 1).toNat, .int (I (B1.1 1 2))]) : gE) = _
    rw [h0, h1, h2, Int.toNat_natCast]
  · show (Sum.inr (12, [.int (I (B1.1 2 0)), .ref (B1.1 2 1).toNat, .int (I (B1.1 2 2))]) : gE) = _
    rw [h0, h1, h2, Int.toNat_natCast]
  · show (Sum.inr (12, [.int (I (B1.1 3 0)), .ref (B1.1 3 1).toNat, .int (I (B1.1 3 2))]) : gE) = _
    rw [h0, h1, h2, Int.toNat_natCast]
/-- the array of a list is a list's array -/
theorem CL.arr {o : Nat} {xs : List Nat} (hC : CB K N G) (h : CL K N G B ro o xs) (h0 : (hH K N G B).1 (B.1 o 1).toNat ≠ none) : N + 231 ≤ (B.1 o 1).toNat ∧ ro (B.1 o 1).toNat = o ∧ (∃ e, (hH K N G B).1 (B.1 o 1).toNat = some e ∧ mu e) ∧ (B.1 o 1).toNat < G.2.1 := by
  obtain ⟨-, -, q, r⟩ := h
  rcases q with ⟨e1, e2, -⟩ | ⟨e0, cap, f, e1, -⟩
  · exact absurd e2 h0
  · refine ⟨?_, r.resolve_left e0, ⟨_, e1, Or.inl rfl⟩, hC.hb.lt e1⟩
    refine Classical.byContradiction fun hlt => ?_
    by_cases hN : N ≤ (B.1 o 1).toNat
    · exact (lens_a ⟨hN, by omega⟩ e1).1 rfl
    · have : (hH K N G B).1 (B.1 o 1).toNat = none := by
        show (if N ≤ (B.1 o 1).toNat ∧ (B.1 o 1).toNat < N + 231 then _ else G.1 (B.1 o 1).toNat) = none
        rw [if_neg (by omega)]
        exact hC.2.1 _ (by omega)
      rw [e1] at this; cases this
theorem relist {o : Nat} (ho : o = 1 ∨ o = 2 ∨ o = 3) {xs : List Nat} {mc' : Int} {e' n' : Nat} (hC : CB K N G) (hL : CL K N G B ro o xs) (hf : FR (LW (hH K N G B) (N + o) (B.1 o 1).toNat) m s (hH K N G B) H') (hA : ALo H' (N + o) mc' e' n') : H' = hH K N (dn N H') (lB B o mc' e' n') ∧ CB K N (dn N H') := by
  refine relens hC hf (fun q hq hlt => ?_) (fun o' ho' hn => ?_)
  · rcases hq with rfl | ⟨rfl, h0⟩
    · exact ⟨o, rfl, by rw [lB_cell ho]; exact hA⟩
    · have := (hL.arr hC h0).1
      omega
  · have hoo : o' ≠ o := fun e => hn (Or.inl (by rw [e]))
    exact bC_congr (fun k => lB_ne hoo) (fun _ => rfl) (fun _ => rfl)
theorem CL.ow (hC : CB K N G) {o : Nat} {xs : List Nat} (h : CL K N G B ro o xs) (hr : ∀ q, q < G.2.1 → ro' q = ro q) : CL K N G B ro' o xs := by
  have h' := h
  obtain ⟨a, b, c, r⟩ := h
  rcases c with ⟨e1, e2, e3⟩ | ⟨e0, cap, f, e1, e2⟩
  · exact ⟨a, b, Or.inl ⟨e1, e2, e3⟩, Or.inl e1⟩
  · have := CL.arr hC h' (by rw [e1]; exact fun z => by cases z)
    exact ⟨a, b, Or.inr ⟨e0, cap, f, e1, e2⟩, Or.inr ((hr _ this.2.2.2).trans this.2.1)⟩
/-- what one owner's change leaves -/
theorem CR.fo {o1 : Nat} (h : CR K N G B ro M sh st pc cs ps) (hf : FR W m s (hH K N G B) (hH K N G' B')) (hw : ∀ q, W q → (N ≤ q ∧ q < N + 231) ∨ (ro q = o1 ∧ ∃ e, (hH K N G B).1 q = some e ∧ mu e)) (hr : ∀ q, q < G.2.1 → ro' q = ro q) :
    (∀ i a, sh[i]? = some a → 10 + i ≠ o1 → SHP K (PD N) (hH K N G' B') ro' a i M (cs i)) ∧ (∀ i a, st[i]? = some a → 20 + i ≠ o1 → STP K (PD N) (hH K N G' B') ro' a i M (ps i) sh) ∧ (∀ j a, pc[j]? = some a → PCP (hH K N G' B') a j M sh) ∧ (∀ o xs, o ≠ o1 → CL K N G B ro o xs → B'.1 o 1 = B.1 o 1 → B'.1 o 2 = B.1 o 2 → CL K N G' B' ro' o xs) := by
  have hC := h.1
  have hb := hC.hb (B := B)
  have hk := hC.2.2.2.1 3 (by omega)
  have hN : N ≤ G.2.1 := by have := hC.2.2.1; omega
  have ow : ∀ o, o ≠ o1 → OW N (hH K N G B) ro' o W := fun o ho q hq => (hw q hq).imp_right fun ⟨r, e, e1, e2⟩ => ⟨by rw [hr q (hb.lt e1), r]; exact fun z => ho z.symm, e, e1, e2⟩
  refine ⟨fun i a ha hi => ?_, fun i a ha hi => ?_, fun j a ha => ?_, fun o xs ho hL e1 e2 => ?_⟩
  · exact ((h.sp ha).1.ro hb hC.e hr).fo hb hf (ow _ hi) hk hN
  · exact ((h.sy ha).1.ro hb hr).fo hb hf (ow _ hi) hk hN
  · exact (h.pp ha).fo hb hf (ow (o1 + 1) (by omega))
  · obtain ⟨c1, c2, c3, c4⟩ := hL.ow hC hr
    exact ⟨by rw [e1]; exact c1, by rw [e2]; exact c2, by rw [e1]; exact c3.fr hb hf (ow o ho) hk hN c4, by rw [e1]; exact c4⟩
/-- a list's new state -/
theorem CL.new {o : Nat} {xs : List Nat} {mc' : Int} {e' : Nat} (hA : ARR K H' e' xs) (hE : H' = hH K N G' (lB B o mc' e' xs.length)) (hr : e' = K.2 3 ∨ ro' e' = o) : CL K N G' (lB B o mc' e' xs.length) ro' o xs := by
  have h1 := (lB_eq (B := B) (o := o) (mc := mc') (e := e') (n := xs.length)).1
  have h2 := (lB_eq (B := B) (o := o) (mc := mc') (e := e') (n := xs.length)).2
  refine ⟨by rw [h1]; omega, h2, ?_, ?_⟩
  · rw [h1, Int.toNat_natCast, ← hE]; exact hA
  · rw [h1, Int.toNat_natCast]; exact hr
end
