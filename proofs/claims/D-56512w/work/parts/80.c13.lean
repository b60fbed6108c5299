/-! PURE 52: the room when only its fixed objects change -/
set_option maxRecDepth 100000
abbrev LN (N : Nat) : Nat → Prop := fun q => N ≤ q ∧ q < N + 231
/-- alike in what the room's dynamic objects show -/
def MS (M M' : gM) : Prop := (∀ o, (200 ≤ o ∧ o ≤ 214) ∨ o = 218 ∨ o = 219 → M'.2 o = M.2 o) ∧ (M'.1 7) = (M.1 7) ∧ (M'.1 28) = (M.1 28) ∧ (M'.1 17) = (M.1 17)
section
variable {K : gK} {N : Nat} {G G' : gH} {B B' : gB} {ro : Nat → Nat} {M M' : gM} {sh st pc : List Nat} {cs : Nat → List Nat} {ps : Nat → List (Nat × Int)} {m s : Nat}
theorem OW.ln {H : gH} {o : Nat} : OW N H ro o (LN N) := fun q h => Or.inl h
theorem FR.ln (hC : CB K N G) : FR (LN N) 0 0 (hH K N G B) (hH K N G B') := by
  refine ⟨Nat.le_refl _, Nat.le_refl _, Nat.le_refl _, Nat.le_refl _, hC.hb, fun a _ q => ?_⟩
  show (if N ≤ a ∧ a < N + 231 then _ else G.1 a) = (if N ≤ a ∧ a < N + 231 then _ else G.1 a)
  rw [if_neg q, if_neg q]
theorem CB.jk (hC : CB K N G) {n : Nat} : CB K N (gjunk G n) := ⟨fun a ha => hC.1 a (Nat.le_of_succ_le ha), hC.2.1, Nat.le_succ_of_le hC.2.2.1, hC.2.2.2⟩
theorem FR.jk {W : Nat → Prop} {H : gH} (hb : HB H) {n : Nat} : FR W 1 n H (gjunk H n) := ⟨Nat.le_succ _, Nat.le_refl _, Nat.le_add_right _ _, Nat.le_refl _, fun a ha => hb a (Nat.le_of_succ_le ha), fun _ _ _ => rfl⟩
theorem SHP.ms {P : Nat → Prop} {H : gH} {a i : Nat} {cl : List Nat} (hM : MS M M') (h : SHP K P H ro a i M cl) : SHP K P H ro a i M' cl := by
  obtain ⟨p, mk, vr, h1, h2, h3, h4, h5⟩ := h
  refine ⟨p, mk, vr, ?_, h2, ?_, ?_, h5⟩
  · rw [show shF K M' i p mk vr = shF K M i p mk vr by unfold shF; rw [hM.1 200 (by omega), hM.1 201 (by omega), hM.1 204 (by omega), hM.1 208 (by omega), hM.1 207 (by omega)]]
    exact h1
  · rw [hM.1 205 (by omega), hM.1 206 (by omega)]; exact h3
  · rw [hM.1 205 (by omega), hM.1 206 (by omega)]; exact h4
theorem dl_ms (hM : MS M M') {i : Nat} : dl M' i = dl M i := by
  unfold dl dlp
  rw [hM.1 202 (by omega)]
theorem STP.ms {P : Nat → Prop} {H : gH} {a i : Nat} {p : List (Nat × Int)} (hM : MS M M') (h : STP K P H ro a i M p sh) : STP K P H ro a i M' p sh := by
  obtain ⟨q, mc, e, ca, h1, h2⟩ := h
  exact ⟨q, mc, e, ca, by rw [hM.1 219 (by omega)]; exact h1, h2⟩
theorem PSW.ms {p : List (Nat × Int)} {i n : Nat} (hM : MS M M') (h : PSW p M i n) : PSW p M' i n := by
  unfold PSW at h ⊢
  rw [hM.1 218 (by omega)]
  exact h
theorem PCP.ms {H : gH} {a j : Nat} (hM : MS M M') (h : PCP H a j M sh) : PCP H a j M' sh := by
  unfold PCP at h ⊢
  rw [hM.1 209 (by omega), hM.1 210 (by omega), hM.1 211 (by omega), hM.1 212 (by omega), hM.1 213 (by omega), hM.1 214 (by omega)]
  exact h
/-- only fixed objects changed -/
theorem CR.ln (h : CR K N G B ro M sh st pc cs ps) (hf : FR (LN N) m s (hH K N G B) (hH K N G' B')) (hC : CB K N G') (h1 : B'.1 1 1 = B.1 1 1 ∧ B'.1 1 2 = B.1 1 2) (h2 : B'.1 2 1 = B.1 2 1 ∧ B'.1 2 2 = B.1 2 2) (h3 : B'.1 3 1 = B.1 3 1 ∧ B'.1 3 2 = B.1 3 2) (hM : MS M M') (hS : CS B' M') (hT : SHT B' 66 (M'.2 215) (rmT M')) : CR K N G' B' ro M' sh st pc cs ps := by
  obtain ⟨q1, q2, q3, q4, q5, q6, q7, q8, q9, q10⟩ := h
  have hb := q1.hb (B := B)
  have hk := q1.2.2.2.1 3 (by omega)
  have hN : N ≤ G.2.1 := by have := q1.2.2.1; omega
  have cl : ∀ o xs, (B'.1 o 1 = B.1 o 1 ∧ B'.1 o 2 = B.1 o 2) → CL K N G B ro o xs → CL K N G' B' ro o xs := fun o xs ⟨e1, e2⟩ ⟨c1, c2, c3, c4⟩ => by
    refine ⟨by rw [e1]; exact c1, by rw [e2]; exact c2, ?_, by rw [e1]; exact c4⟩
    rw [e1]
    rcases c4 with e | e
    · exact c3.fr (ro := ro) (o := 0) hb hf OW.ln hk hN (Or.inl e)
    · exact c3.fr hb hf OW.ln hk hN (Or.inr e)
  refine ⟨hC, hS, hT, cl 1 sh h1 q4, cl 2 st h2 q5, cl 3 pc h3 q6, ?_, fun i a ha => ?_, fun i a ha => ?_, fun j a ha => ?_⟩
  · rw [hM.2.1, hM.2.2.1, hM.2.2.2]; exact q7
  · obtain ⟨k1, k2⟩ := q8 i a ha
    exact ⟨(k1.fo hb hf OW.ln hk hN).ms hM, by rw [dl_ms hM]; exact k2⟩
  · obtain ⟨k1, k2⟩ := q9 i a ha
    exact ⟨(k1.fo hb hf OW.ln hk hN).ms hM, k2.ms hM⟩
  · exact ((q10 j a ha).fo (ro := ro) (o := 0) hb hf OW.ln).ms hM
theorem MS.rf : MS M M := ⟨fun _ _ => rfl, rfl, rfl, rfl⟩
/-- after an exception -/
theorem CR.jk (h : CR K N G B ro M sh st pc cs ps) : CR K N (gjunk G 6) B ro M sh st pc cs ps := by
  have hf : FR (LN N) 1 6 (hH K N G B) (hH K N (gjunk G 6) B) := FR.jk h.1.hb
  exact h.ln hf h.1.jk ⟨rfl, rfl⟩ ⟨rfl, rfl⟩ ⟨rfl, rfl⟩ MS.rf h.2.1 h.2.2.1
end
