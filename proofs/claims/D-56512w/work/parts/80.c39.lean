/-! PURE 78: the marker without a piece, continued -/
set_option maxRecDepth 100000
section
variable {M M' : gM}
theorem OFF_o (hq : nsQ M' = nsQ M) {p : Nat} (hO : OFF M M' p) (hp : (p : Int) < (M.1 17)) (g : Nat) : (∀ j, j ≤ p → reO M' j g = reO M j g) ∧ ∀ i : Nat, ((p + i : Nat) : Int) ≤ (M.1 17) - 1 → reO M' (p + i) g = cif (inG M p g) (reO M (p + i + 1) g - 1) (reO M (p + i + 1) g) := by
  have a : ∀ j, j ≤ p → reO M' j g = reO M j g := by
    intro j
    induction j with
    | zero => intro _; rfl
    | succ j ih =>
      intro h
      have e := OFF_g (g := g) hq (hO.1 j (by omega))
      rw [reO_s, reO_s, ih (by omega)]
      exact cif_of e (fun _ => rfl) (fun _ => rfl)
  refine ⟨a, fun i => ?_⟩
  induction i with
  | zero =>
    intro h
    rw [Nat.add_zero, a p (Nat.le_refl _), reO_s]
    by_cases e : inG M p g
    · rw [cifT e, cifT e]; omega
    · rw [cifF e, cifF e]
  | succ i ih =>
    intro h
    have ih := ih (by omega)
    have e := OFF_g (g := g) hq (hO.2 (p + i) (by omega) (by omega))
    rw [show p + (i + 1) = p + i + 1 by omega, reO_s, reO_s (n := p + i + 1), ih]
    by_cases e1 : inG M (p + i + 1) g
    · rw [cifT (e.mpr e1), cifT e1]
      by_cases e2 : inG M p g
      · rw [cifT e2, cifT e2]; omega
      · rw [cifF e2, cifF e2]
    · rw [cifF (fun h => e1 (e.mp h)), cifF e1]
/-- where the piece j of M' is in M -/
theorem OFF.at {p : Nat} (hO : OFF M M' p) {j : Nat} (hj : (j : Int) < (M.1 17) - 1) : PE M M' (if j < p then j else j + 1) j := by
  by_cases e : j < p
  · rw [if_pos e]; exact hO.1 j e
  · rw [if_neg e]; exact hO.2 j (by omega) hj
end
section
variable {B : gB}
theorem OFF_tk (hw : MW B) {p : Nat} (hp : (p : Int) < (B.1 198 17)) : OFF (tw B) (tw (tkB B p)) p ∧ nsQ (tw (tkB B p)) = nsQ (tw B) := by
  have hm := mw_many hw
  have r : ∀ o j, 209 ≤ o → o ≤ 214 → (tw (tkB B p)).2 o j = shB (B.2.1 o) p ((B.1 198 17) - 1).toNat j := fun o j h1 h2 => by
    show (tkB B p).2.1 o j = _
    rw [tkB_row h1 h2]
  refine ⟨⟨fun j hj => ?_, fun j hj hj2 => ?_⟩, nsQ_of (fun k _ h _ _ _ _ _ _ _ _ => tkB_f (Or.inr h)) (fun o h => tkB_a (by omega))⟩
  · have q : ∀ f : Nat → Int, shB f p ((B.1 198 17) - 1).toNat j = f j := fun f => if_neg (by omega)
    refine ⟨?_, ?_, ?_, ?_, ?_, ?_⟩
    all_goals (rw [r _ _ (by omega) (by omega), q])
  · have hj3 : (j : Int) < (B.1 198 17) - 1 := hj2
    have q : ∀ f : Nat → Int, shB f p ((B.1 198 17) - 1).toNat j = f (j + 1) := fun f => if_pos (by omega)
    refine ⟨?_, ?_, ?_, ?_, ?_, ?_⟩
    all_goals (rw [r _ _ (by omega) (by omega), q])
theorem rmI_nn (hw : MW B) {i g : Nat} (h : inG (tw B) i g) : 0 ≤ rmI (tw B) i := (rem_b hw h.1.2).1
theorem GI.tk (hw : MW B) (hg : GI B) {p : Nat} (hp : (p : Int) < (B.1 198 17)) : GI (tkB B p) := by
  obtain ⟨hO, hq⟩ := OFF_tk hw hp
  have hm := mw_many hw
  have hP := hg.2.2.2
  have hmy : (tw (tkB B p)).1 17 = (B.1 198 17) - 1 := tkB_many (p := p)
  have en : ((tkB B p).1 198 17).toNat = ((B.1 198 17)).toNat - 1 := by rw [tkB_many]; omega
  have hnr : ∀ i g : Nat, (i : Int) < (B.1 198 17) → inG (tw B) i g → reR (tw B) ((B.1 198 17)).toNat g = rmI (tw B) i := fun i g h1 h2 => grp_rm ((B.1 198 17)).toNat (fun i hi => hP i (by omega)) (fun i _ h => rmI_nn hw h) i (by omega) h2
  have at' : ∀ j : Nat, (j : Int) < (B.1 198 17) - 1 → PE (tw B) (tw (tkB B p)) (if j < p then j else j + 1) j := fun j hj => hO.at hj
  have lt' : ∀ j : Nat, (j : Int) < (B.1 198 17) - 1 → ((if j < p then j else j + 1 : Nat) : Int) < (B.1 198 17) := fun j hj => by split <;> omega
  have og : ∀ g, (tkB B p).2.1 217 g = reO (tw (tkB B p)) (((B.1 198 17)).toNat - 1) g := fun g => by
    have h1 := (OFF_o hq hO hp g).2 (((B.1 198 17)).toNat - 1 - p) (by show ((p + (((B.1 198 17)).toNat - 1 - p) : Nat) : Int) ≤ (B.1 198 17) - 1; omega)
    rw [show p + (((B.1 198 17)).toNat - 1 - p) = ((B.1 198 17)).toNat - 1 by omega, show ((B.1 198 17)).toNat - 1 + 1 = ((B.1 198 17)).toNat by omega] at h1
    rw [h1, tkB_og, hg.2.2.1]
    rfl
  refine ⟨?_, ?_, ?_, fun j hj => ?_⟩
  · rw [tkB_cl, hg.1, en]
    have h1 := (OFF_c (cols_b hw).2 hq hO hp hP (mw_number hw p).1).2 (((B.1 198 17)).toNat - 1) (by omega) (by show ((((B.1 198 17)).toNat - 1 : Nat) : Int) ≤ (B.1 198 17) - 1; omega)
    rw [show ((B.1 198 17)).toNat - 1 + 1 = ((B.1 198 17)).toNat by omega] at h1
    exact h1.symm
  · funext g
    rw [rmT_e, en, og]
    by_cases e : reO (tw (tkB B p)) (((B.1 198 17)).toNat - 1) g = 0
    · rw [if_pos e, reR_no _ ((reO_z _).mp e)]
    · rw [if_neg e]
      have hex : ∃ i, i < ((B.1 198 17)).toNat - 1 ∧ inG (tw (tkB B p)) i g := Classical.byContradiction fun h => e ((reO_z _).mpr fun i hi h2 => h ⟨i, hi, h2⟩)
      rw [reR_al (x := reR (tw B) ((B.1 198 17)).toNat g) _ (fun i hi h => by
        have hi' : (i : Int) < (B.1 198 17) - 1 := by omega
        rw [OFF_r hq (at' i hi'), hnr _ g (lt' i hi') ((OFF_g hq (at' i hi')).mp h)]) hex, ← hg.2.1]
      obtain ⟨i, hi, h⟩ := hex
      have hi' : (i : Int) < (B.1 198 17) - 1 := by omega
      have h2 := (OFF_g hq (at' i hi')).mp h
      have h3 : B.2.1 217 g ≠ 0 := by
        rw [hg.2.2.1]
        exact fun z => (reO_z _).mp z _ (by have := lt' i hi'; omega) h2
      rw [rmT_e, if_neg h3, tkB_a (by omega)]
  · funext g
    rw [en]; exact og g
  · have hj' : (j : Int) < (B.1 198 17) - 1 := by rw [← hmy]; exact hj
    have hPE := at' j hj'
    have hPi := hP _ (lt' j hj')
    have hinj : ∀ g, inG (tw (tkB B p)) j g → rmI (tw (tkB B p)) j = reR (tw B) ((B.1 198 17)).toNat g := fun g h => by
      rw [OFF_r hq hPE, hnr _ g (lt' j hj') ((OFF_g hq hPE).mp h)]
    have hD : ∀ s, dl (tw (tkB B p)) s = dl (tw B) s := fun s => qf (fun M => dl M s) (fun _ => rfl) hq
    have hI : ∀ l t m r c, ins (tw (tkB B p)) l t m r c = ins (tw B) l t m r c := fun l t m r c => qf (fun M => ins M l t m r c) (fun _ => rfl) hq
    have hpl : pL (tw (tkB B p)) j = pL (tw B) (if j < p then j else j + 1) := by
      unfold pL
      rw [hPE.2.1, hD]
    refine ⟨?_, ?_, ?_, ?_, fun k hk => ?_, ?_⟩
    · rw [hI, hpl, hPE.2.2.1, hPE.2.2.2.1, hPE.2.2.2.2.1, hPE.2.2.2.2.2]
      exact hPi.1
    · rw [hpl, hPE.2.2.1, hPE.2.2.2.1, hPE.2.2.2.2.1, hPE.2.2.2.2.2]
      by_cases e : j < p
      · rw [(OFF_c (cols_b hw).2 hq hO hp hP (mw_number hw p).1).1 j (by omega)]
        rw [if_pos e] at hPi ⊢
        exact hPi.2.1
      · rw [(OFF_c (cols_b hw).2 hq hO hp hP (mw_number hw p).1).2 j (by omega) (by show (j : Int) ≤ (B.1 198 17) - 1; omega)]
        rw [if_neg e] at hPi ⊢
        rintro ⟨k, hk, h⟩
        refine hPi.2.1 ⟨k, hk, fun z => h ?_⟩
        unfold rcB
        rw [z]
        split
        · split <;> rfl
        · rfl
    · by_cases e : marked (tw (tkB B p)) ((tw (tkB B p)).2 210 j).toNat
      · have hG : inG (tw (tkB B p)) j ((tw (tkB B p)).2 204 ((tw (tkB B p)).2 210 j).toNat).toNat := ⟨e, rfl⟩
        by_cases e2 : ∃ i, i < j ∧ inG (tw (tkB B p)) i ((tw (tkB B p)).2 204 ((tw (tkB B p)).2 210 j).toNat).toNat
        · refine Or.inr (Or.inr ?_)
          rw [reR_al (x := reR (tw B) ((B.1 198 17)).toNat ((tw (tkB B p)).2 204 ((tw (tkB B p)).2 210 j).toNat).toNat) _ (fun i hi h => by
            have hi' : (i : Int) < (B.1 198 17) - 1 := by omega
            rw [OFF_r hq (at' i hi'), hnr _ _ (lt' i hi') ((OFF_g hq (at' i hi')).mp h)]) e2]
          exact (hinj _ hG).symm
        · exact Or.inr (Or.inl (reR_no _ (fun i hi h => e2 ⟨i, hi, h⟩)))
      · exact Or.inl e
    · have h1 : (tw (tkB B p)).1 18 = (B.1 198 18) := tkB_f (o := 198) (k := 18) (Or.inr (by decide))
      rw [hPE.1, h1]
      exact hPi.2.2.2.1
    · have hk' := at' k (by omega)
      rw [hPE.1, hk'.1]
      refine hPi.2.2.2.2.1 (if k < p then k else k + 1) ?_
      by_cases z1 : k < p
      · rw [if_pos z1]
        by_cases z2 : j < p
        · rw [if_pos z2]; exact hk
        · rw [if_neg z2]; omega
      · rw [if_neg z1, if_neg (by omega)]; omega
    · rw [hpl]; exact hPi.2.2.2.2.2
end
