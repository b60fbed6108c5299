/-! PURE 113: the room's plain changes -/
set_option maxRecDepth 100000
section
variable {K : gK} {d N : Nat} {G : gH} {B B' : gB} {ro : Nat → Nat} {sh st pc : List Nat} {cs : Nat → List Nat} {ps : Nat → List (Nat × Int)}
theorem R_setCloth (h : CR K N G B ro (tw B) sh st pc cs ps) {w a s : Int} : CR K N G (sI (sI (sI B 0 8 w) 0 9 a) 0 11 s) ro (tw (sI (sI (sI B 198 1 w) 198 2 a) 198 4 s)) sh st pc cs ps := by
  obtain ⟨s1, s2, s3, s4, s5, s6, s7, s8, s9⟩ := h.2.1
  exact h.ln (m := 0) (s := 0) (FR.ln h.1) h.1 ⟨rfl, rfl⟩ ⟨rfl, rfl⟩ ⟨rfl, rfl⟩ ⟨fun o _ => rfl, rfl, rfl, rfl⟩ ⟨rfl, rfl, s3, rfl, s5, s6, s7, s8, s9⟩ h.2.2.1
theorem R_fold (h : CR K N G B ro (tw B) sh st pc cs ps) {f : Int} : CR K N G (sI B 0 10 f) ro (tw (sI B 198 3 f)) sh st pc cs ps := by
  obtain ⟨s1, s2, s3, s4, s5, s6, s7, s8, s9⟩ := h.2.1
  exact h.ln (m := 0) (s := 0) (FR.ln h.1) h.1 ⟨rfl, rfl⟩ ⟨rfl, rfl⟩ ⟨rfl, rfl⟩ ⟨fun o _ => rfl, rfl, rfl, rfl⟩ ⟨s1, s2, rfl, s4, s5, s6, s7, s8, s9⟩ h.2.2.1
theorem R_addFlaw (hw : MW B) (h : CR K N G B ro (tw B) sh st pc cs ps) {r c : Int} (hr : 0 ≤ r ∧ r ≤ 59) (hc : 0 ≤ c ∧ c ≤ 11) : CR K N G (if B.2.1 199 (12 * r + c).toNat = 0 then sI (sA B (5 + r.toNat) c.toNat 1) 0 12 ((B.1 198 5) + 1) else B) ro (tw (sA (sI B 198 5 ((B.1 198 5) + (if B.2.1 199 (12 * r + c).toNat = 0 then 1 else 0))) 199 (12 * r + c).toNat 1)) sh st pc cs ps := by
  by_cases e : B.2.1 199 (12 * r + c).toNat = 0
  · rw [if_pos e, if_pos e]
    obtain ⟨s1, s2, s3, s4, s5, s6, s7, s8, s9⟩ := h.2.1
    have eA : ∀ o, o ≠ 5 + r.toNat → (sI (sA B (5 + r.toNat) c.toNat 1) 0 12 ((B.1 198 5) + 1)).2.1 o = B.2.1 o := fun o ho => funext fun j => sA_ne (Or.inl ho)
    refine h.ln (m := 0) (s := 0) (FR.ln h.1) h.1 ⟨rfl, rfl⟩ ⟨rfl, rfl⟩ ⟨rfl, rfl⟩ ⟨fun o ho => funext fun j => sA_ne (Or.inl (by omega)), rfl, rfl, rfl⟩ ⟨s1, s2, s3, s4, rfl, s6, s7, s8, fun r' c' hr' hc' => ?_⟩ ⟨fun r' c' hr' hc' => ?_, fun g hg => ?_, h.2.2.1.2.2⟩
    · show (sA B (5 + r.toNat) c.toNat 1).2.1 (5 + r') c' = (sA (sI B 198 5 ((B.1 198 5) + 1)) 199 (12 * r + c).toNat 1).2.1 199 (12 * r' + c')
      by_cases z : r' = r.toNat ∧ c' = c.toNat
      · rw [z.1, z.2, sA_eq rfl, sA_eq (by omega)]
      · rw [sA_ne (by omega), sA_ne (Or.inr (by omega))]
        exact s9 r' c' hr' hc'
    · rw [eA _ (by omega)]
      exact h.2.2.1.1 r' c' hr' hc'
    · rw [eA _ (by omega)]
      exact h.2.2.1.2.1 g hg
  · rw [if_neg e, if_neg e]
    have bf := mw_flaw hw (12 * r + c).toNat
    refine h.mq ⟨fun k hk => ?_, fun o h1 h2 => funext fun j => ?_⟩
    · show (sI B 198 5 ((B.1 198 5) + 0)).1 198 k = B.1 198 k
      by_cases z : k = 5
      · rw [z, sI_eq rfl, Int.add_zero]
      · exact sI_ne (Or.inr z)
    · show (sA (sI B 198 5 ((B.1 198 5) + 0)) 199 (12 * r + c).toNat 1).2.1 o j = B.2.1 o j
      by_cases z : o = 199 ∧ j = (12 * r + c).toNat
      · rw [z.1, z.2, sA_eq rfl]; omega
      · exact sA_ne (by omega)
theorem R_clearFlaws (h : CR K N G B ro (tw B) sh st pc cs ps) : CR K N G (sI (fiB B 5 0 720) 0 12 0) ro (tw (sI (stA B 199 (fill (B.2.1 199) 0 720)) 198 5 0)) sh st pc cs ps := by
  obtain ⟨s1, s2, s3, s4, s5, s6, s7, s8, s9⟩ := h.2.1
  refine h.ln (m := 0) (s := 0) (FR.ln h.1) h.1 ⟨rfl, rfl⟩ ⟨rfl, rfl⟩ ⟨rfl, rfl⟩ ⟨fun o ho => if_neg (by omega), rfl, rfl, rfl⟩ ⟨s1, s2, s3, s4, rfl, s6, s7, s8, fun r' c' hr' hc' => ?_⟩ ⟨fun r' c' hr' hc' => ?_, fun g hg => ?_, h.2.2.1.2.2⟩
  · show (fiB B 5 0 720).2.1 (5 + r') c' = fill (B.2.1 199) 0 720 (12 * r' + c')
    rw [fiB_at hr' hc']
    exact (if_pos (by omega)).symm
  · exact (fiB_ne (by omega)).trans (h.2.2.1.1 r' c' hr' hc')
  · exact (fiB_ne (by omega)).trans (h.2.2.1.2.1 g hg)
end
