/-! PURE 22: pieces on trial: what a round leaves as it was -/
set_option maxRecDepth 100000
section
variable {B : gB} {s p : Nat} {l : List Nat} {t r c m : Int}
theorem putG_1 : (putG B s l t r m).1 = B.1 := by
  unfold putG
  by_cases h : marked (tw B) s
  · rw [cifT h]; rfl
  · rw [cifF h]
theorem putG_3 : (putG B s l t r m).2.2 = B.2.2 := by
  unfold putG
  by_cases h : marked (tw B) s
  · rw [cifT h]; rfl
  · rw [cifF h]
theorem putG_a {o : Nat} (h1 : o ≠ 216) (h2 : o ≠ 217) : (putG B s l t r m).2.1 o = B.2.1 o := by
  unfold putG
  by_cases h : marked (tw B) s
  · rw [cifT h]
    funext j
    rw [sA_ne (by omega), sA_ne (by omega)]
  · rw [cifF h]
theorem putG_ph {g : Nat} : (putG B s l t r m).2.1 216 g = cif (marked (tw B) s ∧ g = (B.2.1 204 s).toNat) (rem (tw B) (r + mb (tw B) s l t m)) (B.2.1 216 g) := by
  unfold putG
  by_cases h : marked (tw B) s
  · rw [cifT h]
    by_cases e : g = (B.2.1 204 s).toNat
    · rw [cifT ⟨h, e⟩, sA_ne (by omega), sA_eq e]
    · rw [cifF (fun q => e q.2), sA_ne (by omega), sA_ne (by omega)]
  · rw [cifF h, cifF (fun q => h q.1)]
theorem putG_og {g : Nat} : (putG B s l t r m).2.1 217 g = cif (marked (tw B) s ∧ g = (B.2.1 204 s).toNat) (B.2.1 217 g + 1) (B.2.1 217 g) := by
  unfold putG
  by_cases h : marked (tw B) s
  · rw [cifT h]
    by_cases e : g = (B.2.1 204 s).toNat
    · rw [cifT ⟨h, e⟩, sA_eq e, e]
    · rw [cifF (fun q => e q.2), sA_ne (by omega), sA_ne (by omega)]
  · rw [cifF h, cifF (fun q => h q.1)]
theorem putB_f {o k : Nat} (h : o ≠ 198 ∨ (k ≠ 17 ∧ k ≠ 18)) : (putB B s l t r c m).1 o k = B.1 o k := by
  unfold putB putR
  rw [sI_ne (by omega), sI_ne (by omega)]
  simp only [sA_1]
  rw [putG_1]; rfl
theorem putB_many : (putB B s l t r c m).1 198 17 = (B.1 198 17) + 1 := by
  unfold putB putR
  rw [sI_ne (by omega), sI_eq rfl, putG_1]; rfl
theorem putB_next : (putB B s l t r c m).1 198 18 = (B.1 198 18) + 1 := by
  unfold putB putR
  rw [sI_eq rfl, putG_1]; rfl
theorem putB_3 : (putB B s l t r c m).2.2 = B.2.2 := by
  unfold putB putR
  rw [sI_22, sI_22]
  simp only [sA_3]
  rw [putG_3]; rfl
theorem putB_cl : (putB B s l t r c m).2.1 215 = putC (B.2.1 215) l t m r c ((B.1 198 18)) l := by
  funext j
  unfold putB putR
  rw [sI_21, sI_21]
  rw [sA_ne (by omega), sA_ne (by omega), sA_ne (by omega), sA_ne (by omega), sA_ne (by omega), sA_ne (by omega), putG_a (by omega) (by omega), st_eq]
theorem putB_ph {g : Nat} : (putB B s l t r c m).2.1 216 g = cif (marked (tw B) s ∧ g = (B.2.1 204 s).toNat) (rem (tw B) (r + mb (tw B) s l t m)) (B.2.1 216 g) := by
  unfold putB putR
  rw [sI_21, sI_21]
  rw [sA_ne (by omega), sA_ne (by omega), sA_ne (by omega), sA_ne (by omega), sA_ne (by omega), sA_ne (by omega), putG_ph]; rfl
theorem putB_og {g : Nat} : (putB B s l t r c m).2.1 217 g = cif (marked (tw B) s ∧ g = (B.2.1 204 s).toNat) (B.2.1 217 g + 1) (B.2.1 217 g) := by
  unfold putB putR
  rw [sI_21, sI_21]
  rw [sA_ne (by omega), sA_ne (by omega), sA_ne (by omega), sA_ne (by omega), sA_ne (by omega), sA_ne (by omega), putG_og]; rfl
theorem putB_a {o : Nat} (h : o < 209 ∨ 217 < o) : (putB B s l t r c m).2.1 o = B.2.1 o := by
  funext j
  unfold putB putR
  rw [sI_21, sI_21]
  rw [sA_ne (by omega), sA_ne (by omega), sA_ne (by omega), sA_ne (by omega), sA_ne (by omega), sA_ne (by omega), putG_a (by omega) (by omega), st_ne (by omega)]
theorem putB_row {o j : Nat} (h1 : 209 ≤ o) (h2 : o ≤ 214) (hj : j ≠ ((B.1 198 17)).toNat) : (putB B s l t r c m).2.1 o j = B.2.1 o j := by
  unfold putB putR
  have e : ∀ z : Nat → Int, (putG (stA B 215 z) s l t r m).1 198 17 = (B.1 198 17) := fun z => by rw [putG_1]; rfl
  rw [sI_21, sI_21]
  simp only [e, sA_1]
  rw [sA_ne (Or.inr hj), sA_ne (Or.inr hj), sA_ne (Or.inr hj), sA_ne (Or.inr hj), sA_ne (Or.inr hj), sA_ne (Or.inr hj), putG_a (by omega) (by omega), st_ne (by omega)]
theorem putB_new : (putB B s l t r c m).2.1 209 ((B.1 198 17)).toNat = (B.1 198 18) ∧ (putB B s l t r c m).2.1 210 ((B.1 198 17)).toNat = s ∧ (putB B s l t r c m).2.1 211 ((B.1 198 17)).toNat = r ∧ (putB B s l t r c m).2.1 212 ((B.1 198 17)).toNat = c ∧ (putB B s l t r c m).2.1 213 ((B.1 198 17)).toNat = t ∧ (putB B s l t r c m).2.1 214 ((B.1 198 17)).toNat = m := by
  unfold putB putR
  have e : ∀ z : Nat → Int, (putG (stA B 215 z) s l t r m).1 = B.1 := fun z => by rw [putG_1]; rfl
  simp only [sI_21, sA_1, e]
  refine ⟨?_, ?_, ?_, ?_, ?_, ?_⟩
  · rw [sA_ne (by omega), sA_ne (by omega), sA_ne (by omega), sA_ne (by omega), sA_ne (by omega), sA_eq rfl]
  · rw [sA_ne (by omega), sA_ne (by omega), sA_ne (by omega), sA_ne (by omega), sA_eq rfl]
  · rw [sA_ne (by omega), sA_ne (by omega), sA_ne (by omega), sA_eq rfl]
  · rw [sA_ne (by omega), sA_ne (by omega), sA_eq rfl]
  · rw [sA_ne (by omega), sA_eq rfl]
  · rw [sA_eq rfl]
theorem tkG_1 : (tkG B s).1 = B.1 := by
  unfold tkG
  by_cases h : marked (tw B) s
  · rw [cifT h]; rfl
  · rw [cifF h]
theorem tkG_3 : (tkG B s).2.2 = B.2.2 := by
  unfold tkG
  by_cases h : marked (tw B) s
  · rw [cifT h]; rfl
  · rw [cifF h]
theorem tkG_a {o : Nat} (h2 : o ≠ 217) : (tkG B s).2.1 o = B.2.1 o := by
  unfold tkG
  by_cases h : marked (tw B) s
  · rw [cifT h]
    funext j
    rw [sA_ne (by omega)]
  · rw [cifF h]
theorem tkG_og {g : Nat} : (tkG B s).2.1 217 g = cif (marked (tw B) s ∧ g = (B.2.1 204 s).toNat) (B.2.1 217 g - 1) (B.2.1 217 g) := by
  unfold tkG
  by_cases h : marked (tw B) s
  · rw [cifT h]
    by_cases e : g = (B.2.1 204 s).toNat
    · rw [cifT ⟨h, e⟩, sA_eq e, e]
    · rw [cifF (fun q => e q.2), sA_ne (by omega)]
  · rw [cifF h, cifF (fun q => h q.1)]
theorem tkB_f {o k : Nat} (h : o ≠ 198 ∨ k ≠ 17) : (tkB B p).1 o k = B.1 o k := by
  unfold tkB shA
  simp only [st_1]
  rw [sI_ne (by omega), tkG_1]; rfl
theorem tkB_many : (tkB B p).1 198 17 = (B.1 198 17) - 1 := by
  unfold tkB shA
  simp only [st_1]
  rw [sI_eq rfl]
theorem tkB_3 : (tkB B p).2.2 = B.2.2 := by
  unfold tkB shA
  simp only [st_3]
  rw [sI_22, tkG_3]; rfl
theorem tkB_cl : (tkB B p).2.1 215 = rcB (B.2.1 215) (B.2.1 209 p) 720 := by
  unfold tkB shA
  rw [st_ne (by omega), st_ne (by omega), st_ne (by omega), st_ne (by omega), st_ne (by omega), st_ne (by omega), sI_21, tkG_a (by omega), st_eq]
theorem tkB_og {g : Nat} : (tkB B p).2.1 217 g = cif (marked (tw B) (B.2.1 210 p).toNat ∧ g = (B.2.1 204 (B.2.1 210 p).toNat).toNat) (B.2.1 217 g - 1) (B.2.1 217 g) := by
  unfold tkB shA
  rw [st_ne (by omega), st_ne (by omega), st_ne (by omega), st_ne (by omega), st_ne (by omega), st_ne (by omega), sI_21, tkG_og]; rfl
theorem tkB_a {o : Nat} (h : o < 209 ∨ o = 216 ∨ 217 < o) : (tkB B p).2.1 o = B.2.1 o := by
  unfold tkB shA
  rw [st_ne (by omega), st_ne (by omega), st_ne (by omega), st_ne (by omega), st_ne (by omega), st_ne (by omega), sI_21, tkG_a (by omega), st_ne (by omega)]
theorem tkB_row {o : Nat} (h1 : 209 ≤ o) (h2 : o ≤ 214) : (tkB B p).2.1 o = shB (B.2.1 o) p ((B.1 198 17) - 1).toNat := by
  unfold tkB shA
  have e : ∀ o, o ≠ 215 → o ≠ 217 → (sI (tkG (stA B 215 (rcB (B.2.1 215) (B.2.1 209 p) 720)) (B.2.1 210 p).toNat) 198 17 ((B.1 198 17) - 1)).2.1 o = B.2.1 o := fun o h1 h2 => by
    rw [sI_21, tkG_a h2, st_ne h1]
  rcases (show o = 209 ∨ o = 210 ∨ o = 211 ∨ o = 212 ∨ o = 213 ∨ o = 214 by omega) with rfl | rfl | rfl | rfl | rfl | rfl
  · rw [st_ne (by omega), st_ne (by omega), st_ne (by omega), st_ne (by omega), st_ne (by omega), st_eq, e _ (by omega) (by omega)]
  · rw [st_ne (by omega), st_ne (by omega), st_ne (by omega), st_ne (by omega), st_eq, e _ (by omega) (by omega)]
  · rw [st_ne (by omega), st_ne (by omega), st_ne (by omega), st_eq, e _ (by omega) (by omega)]
  · rw [st_ne (by omega), st_ne (by omega), st_eq, e _ (by omega) (by omega)]
  · rw [st_ne (by omega), st_eq, e _ (by omega) (by omega)]
  · rw [st_eq, e _ (by omega) (by omega)]
end
/-- the trial's invariant -/
def TI (B : gB) : Prop := MI B ∧ (∀ q, q < 720 → B.2.1 215 q < (B.1 198 18)) ∧ ∀ g, B.2.1 217 g ≤ (B.1 198 17)
/-- alike but for what a trial leaves behind -/
def TQ (B B' : gB) : Prop := (∀ o k, (o ≠ 198 ∨ (k ≠ 33 ∧ k ≠ 36 ∧ k ≠ 37 ∧ k ≠ 38 ∧ k ≠ 39 ∧ k ≠ 48)) → B'.1 o k = B.1 o k) ∧ (∀ o, o ≠ 220 → o ≠ 221 → (o < 209 ∨ 214 < o) → o ≠ 216 → B'.2.1 o = B.2.1 o) ∧ (∀ o j : Nat, 209 ≤ o → o ≤ 214 → (j : Int) < (B.1 198 17) → B'.2.1 o j = B.2.1 o j) ∧ (∀ g, B.2.1 217 g ≠ 0 → B'.2.1 216 g = B.2.1 216 g) ∧ B'.2.2 = B.2.2
theorem TQ.rf {B : gB} : TQ B B := ⟨fun _ _ _ => rfl, fun _ _ _ _ _ => rfl, fun _ _ _ _ _ => rfl, fun _ _ => rfl, rfl⟩
theorem TQ.many {B B' : gB} (h : TQ B B') : (B'.1 198 17) = (B.1 198 17) := h.1 198 17 (by omega)
theorem TQ.og {B B' : gB} (h : TQ B B') : B'.2.1 217 = B.2.1 217 := h.2.1 217 (by omega) (by omega) (by omega) (by omega)
theorem TQ.tr {B B' B'' : gB} (h : TQ B B') (h' : TQ B' B'') : TQ B B'' := by
  refine ⟨fun o k q => (h'.1 o k q).trans (h.1 o k q), fun o a b c e => (h'.2.1 o a b c e).trans (h.2.1 o a b c e), fun o j a b c => (h'.2.2.1 o j a b ?_).trans (h.2.2.1 o j a b c), fun g hg => (h'.2.2.2.1 g ?_).trans (h.2.2.2.1 g hg), h'.2.2.2.2.trans h.2.2.2.2⟩
  · rw [h.many]; exact c
  · rw [h.og]; exact hg
theorem TQ.sc {B B' : gB} (h : SC B B') : TQ B B' := ⟨fun o k q => h.1 o k (by omega), fun o a b _ _ => h.2.1 o a b, fun o j a b _ => h.a (by omega), fun g _ => h.a (by omega), h.2.2⟩
theorem TQ.ls {B : gB} {v : Int} : TQ B (sI B 198 48 v) := ⟨fun o k q => sI_ne (by omega), fun _ _ _ _ _ => rfl, fun _ _ _ _ _ => rfl, fun _ _ => rfl, rfl⟩
theorem cells_lt {M : gM} {l : List Nat} {t m r c : Int} (h : ins M l t m r c) (hl : ∀ k ∈ l, k < 25) (hc : cols M ≤ 12) {k : Nat} (hk : k ∈ l) : 0 ≤ 12 * (r + oR l t m k) + (c + oC l t m k) ∧ 12 * (r + oR l t m k) + (c + oC l t m k) < 720 := by
  have h1 := h.1
  have h2 := h.2 k hk
  have h3 := oR_b (t := t) (m := m) hl hk
  have h4 := oC_b (t := t) (m := m) hl hk
  omega
/-- a piece laid and, after a trial, taken off again -/
theorem round {B1 B3 : gB} {s : Nat} {l : List Nat} {t r c m : Int} (hT : TI B1) (hl : ∀ k ∈ l, k < 25) (hin : ins (tw B1) l t m r c) (hnp : ¬ onP (B1.2.1 215) l t m r c) (hmt : meets (tw B1) (rmT (tw B1)) s l t m r) (h3 : TQ (putB B1 s l t r c m) B3) : TQ B1 (sI (tkB B3 ((B1.1 198 17)).toNat) 198 18 ((B1.1 198 18))) := by
  have hw := hT.1.1
  have hm := mw_many hw
  have hn := mw_next hw
  have hmany : (B3.1 198 17) = (B1.1 198 17) + 1 := h3.many.trans putB_many
  have hpz : (((B1.1 198 17)).toNat : Int) < (putB B1 s l t r c m).1 198 17 := by rw [putB_many]; omega
  have hnum : B3.2.1 209 ((B1.1 198 17)).toNat = (B1.1 198 18) := (h3.2.2.1 209 _ (by omega) (by omega) hpz).trans putB_new.1
  have hsh : B3.2.1 210 ((B1.1 198 17)).toNat = s := (h3.2.2.1 210 _ (by omega) (by omega) hpz).trans putB_new.2.1
  have hog : B3.2.1 217 = (putB B1 s l t r c m).2.1 217 := h3.og
  have hgr : B3.2.1 204 = B1.2.1 204 := (h3.2.1 204 (by omega) (by omega) (by omega) (by omega)).trans (putB_a (by omega))
  have hst : (B3.1 198 4) = (B1.1 198 4) := (h3.1 198 4 (by omega)).trans (putB_f (by omega))
  have hmk : marked (tw B3) s ↔ marked (tw B1) s := by
    unfold marked
    dsimp only [tw]
    rw [hgr, hst]
  refine ⟨fun o k q => ?_, fun o q1 q2 q3 q4 => ?_, fun o j q1 q2 q3 => ?_, fun g hg => ?_, ?_⟩
  · by_cases e1 : o = 198 ∧ k = 18
    · rw [e1.1, e1.2, sI_eq rfl]
    · rw [sI_ne (by omega)]
      by_cases e2 : o = 198 ∧ k = 17
      · rw [e2.1, e2.2, tkB_many, hmany]
        omega
      · rw [tkB_f (by omega), h3.1 o k q, putB_f (by omega)]
  · rw [sI_21]
    by_cases e1 : o = 215
    · subst e1
      rw [tkB_cl, hnum, h3.2.1 215 (by omega) (by omega) (by omega) (by omega), putB_cl]
      funext q
      unfold rcB putC
      by_cases e : ∃ k ∈ l, q = (12 * (r + oR l t m k) + (c + oC l t m k)).toNat
      · rw [cifT e, if_pos rfl]
        obtain ⟨k, hk, e⟩ := e
        have hlt := cells_lt hin hl (cols_b hw).2 hk
        rw [if_pos (by omega)]
        refine Classical.byContradiction fun h => hnp ⟨k, hk, ?_⟩
        rw [← e]
        exact fun h' => h h'.symm
      · rw [cifF e]
        by_cases e2 : q < 720
        · have := hT.2.1 q e2
          rw [if_pos e2, if_neg (by omega)]
        · rw [if_neg e2]
    · by_cases e2 : o = 217
      · subst e2
        funext g
        rw [tkB_og, hsh, hgr, hog, Int.toNat_natCast]
        by_cases e : marked (tw B1) s ∧ g = (B1.2.1 204 s).toNat
        · rw [cifT ⟨hmk.mpr e.1, e.2⟩, putB_og, cifT e]
          omega
        · rw [cifF (fun h => e ⟨hmk.mp h.1, h.2⟩), putB_og, cifF e]
      · rw [tkB_a (by omega), h3.2.1 o q1 q2 q3 q4, putB_a (by omega)]
  · rw [sI_21, tkB_row q1 q2]
    have e : shB (B3.2.1 o) ((B1.1 198 17)).toNat ((B3.1 198 17) - 1).toNat j = B3.2.1 o j := if_neg (by omega)
    rw [e, h3.2.2.1 o j q1 q2 (by rw [putB_many]; omega), putB_row q1 q2 (by omega)]
  · rw [sI_21, tkB_a (by omega)]
    have hg' : (putB B1 s l t r c m).2.1 217 g ≠ 0 := by
      have hb := mw_ofGroup hw g
      rw [putB_og]
      by_cases e : marked (tw B1) s ∧ g = (B1.2.1 204 s).toNat
      · rw [cifT e]; omega
      · rw [cifF e]; exact hg
    rw [h3.2.2.2.1 g hg', putB_ph]
    by_cases e : marked (tw B1) s ∧ g = (B1.2.1 204 s).toNat
    · rw [cifT e]
      obtain ⟨e1, e2⟩ := e
      have hpo := hT.1.2.2 g hg
      rcases hmt with h | h | h
      · exact absurd e1 h
      · rw [show ((tw B1).2 204 s).toNat = g from e2.symm] at h
        unfold rmT at h
        rw [if_neg hg] at h
        dsimp only [tw] at h
        omega
      · rw [show ((tw B1).2 204 s).toNat = g from e2.symm] at h
        unfold rmT at h
        rw [if_neg hg] at h
        exact h.symm
    · rw [cifF e]
  · rw [sI_22, tkB_3, h3.2.2.2.2, putB_3]
