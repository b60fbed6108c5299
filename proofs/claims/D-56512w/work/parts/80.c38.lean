/-! PURE 77: the marker without a piece -/
set_option maxRecDepth 100000
section
variable {M M' : gM}
/-- the piece i counts in the group g -/
def inG (M : gM) (i g : Nat) : Prop := marked M (M.2 210 i).toNat ∧ g = (M.2 204 (M.2 210 i).toNat).toNat
def rmI (M : gM) (i : Nat) : Int := rem M (M.2 211 i + mb M (M.2 210 i).toNat (pL M i) (M.2 213 i) (M.2 214 i))
theorem reR_s {n g : Nat} : reR M (n + 1) g = cif (inG M n g) (rmI M n) (reR M n g) := rfl
theorem reO_s {n g : Nat} : reO M (n + 1) g = cif (inG M n g) (reO M n g + 1) (reO M n g) := rfl
theorem reR_no {g : Nat} : ∀ n, (∀ i, i < n → ¬ inG M i g) → reR M n g = -1
  | 0, _ => rfl
  | n + 1, h => by rw [reR_s, cifF (h n (by omega))]; exact reR_no n (fun i hi => h i (by omega))
theorem reR_al {g : Nat} {x : Int} : ∀ n, (∀ i, i < n → inG M i g → rmI M i = x) → (∃ i, i < n ∧ inG M i g) → reR M n g = x
  | 0, _, h => by obtain ⟨i, h, -⟩ := h; omega
  | n + 1, h, he => by
    rw [reR_s]
    by_cases e : inG M n g
    · rw [cifT e]; exact h n (by omega) e
    · rw [cifF e]
      obtain ⟨i, h1, h2⟩ := he
      exact reR_al n (fun i hi => h i (by omega)) ⟨i, by
        have : i ≠ n := by rintro rfl; exact e h2
        omega, h2⟩
theorem reO_z {g : Nat} : ∀ n, reO M n g = 0 ↔ ∀ i, i < n → ¬ inG M i g
  | 0 => ⟨fun _ i h => absurd h (by omega), fun _ => rfl⟩
  | n + 1 => by
    have ih := reO_z (g := g) n
    have hb := reO_b (M := M) n g
    rw [reO_s]
    by_cases e : inG M n g
    · rw [cifT e]
      exact ⟨fun h => by omega, fun h => absurd e (h n (by omega))⟩
    · rw [cifF e, ih]
      refine ⟨fun h i hi => ?_, fun h i hi => h i (by omega)⟩
      by_cases e2 : i = n
      · rw [e2]; exact e
      · exact h i (by omega)
/-- all of a group have the remainder -/
theorem grp_rm {g : Nat} : ∀ n, (∀ i, i < n → PI M i) → (∀ i, i < n → inG M i g → 0 ≤ rmI M i) → ∀ i, i < n → inG M i g → reR M n g = rmI M i
  | 0, _, _, i, h, _ => absurd h (by omega)
  | n + 1, hP, h0, i, hi, hg => by
    rw [reR_s]
    by_cases e : inG M n g
    · rw [cifT e]
      by_cases e2 : i = n
      · rw [e2]
      · have ih := grp_rm n (fun i hi => hP i (by omega)) (fun i hi => h0 i (by omega)) i (by omega) hg
        have hm := (hP n (by omega)).2.2.1
        have h1 := h0 i (by omega) hg
        rcases hm with hm | hm | hm
        · exact absurd e.1 hm
        · rw [← e.2, ih] at hm; omega
        · rw [← e.2, ih] at hm
          exact hm.symm
    · rw [cifF e]
      have : i ≠ n := by rintro rfl; exact e hg
      exact grp_rm n (fun i hi => hP i (by omega)) (fun i hi => h0 i (by omega)) i (by omega) hg
/-- a cell's number is -1 or a piece's -/
theorem reC_ne {v : Int} (hv : v ≠ -1) : ∀ n, (∀ i, i < n → M.2 209 i ≠ v) → ∀ q, q < 720 → reC M n q ≠ v
  | 0, _, q, hq => by
    show fill (fun _ => 0) (-1) 720 q ≠ v
    rw [show fill (fun _ => 0) (-1) 720 q = -1 from if_pos hq]
    exact fun h => hv h.symm
  | n + 1, h, q, hq => by
    have ih := reC_ne hv n (fun i hi => h i (by omega)) q hq
    show cif _ _ _ ≠ v
    by_cases e : ∃ k ∈ pL M n, q = (12 * (M.2 211 n + oR (pL M n) (M.2 213 n) (M.2 214 n) k) + (M.2 212 n + oC (pL M n) (M.2 213 n) (M.2 214 n) k)).toNat
    · rw [cifT e]; exact h n (by omega)
    · rw [cifF e]; exact ih
/-- M' has the pieces of M but p -/
def OFF (M M' : gM) (p : Nat) : Prop := (∀ j, j < p → PE M M' j j) ∧ ∀ j, p ≤ j → (j : Int) < (M.1 17) - 1 → PE M M' (j + 1) j
theorem reC_one (hq : nsQ M' = nsQ M) {i j : Nat} (h : PE M M' i j) {f : Nat → Int} : putC f (pL M' j) (M'.2 213 j) (M'.2 214 j) (M'.2 211 j) (M'.2 212 j) (M'.2 209 j) (pL M' j) = putC f (pL M i) (M.2 213 i) (M.2 214 i) (M.2 211 i) (M.2 212 i) (M.2 209 i) (pL M i) := by
  obtain ⟨e1, e2, e3, e4, e5, e6⟩ := h
  have hD : ∀ s, dl M' s = dl M s := fun s => qf (fun M => dl M s) (fun _ => rfl) hq
  unfold pL
  rw [e1, e2, e3, e4, e5, e6, hD]
theorem OFF_g (hq : nsQ M' = nsQ M) {i j g : Nat} (h : PE M M' i j) : inG M' j g ↔ inG M i g := by
  obtain ⟨e1, e2, e3, e4, e5, e6⟩ := h
  have hM : ∀ s, marked M' s = marked M s := fun s => qf (fun M => marked M s) (fun _ => rfl) hq
  have hG : M'.2 204 = M.2 204 := qf (fun M => M.2 204) (fun _ => rfl) hq
  unfold inG
  rw [e2, hM, hG]
theorem OFF_r (hq : nsQ M' = nsQ M) {i j : Nat} (h : PE M M' i j) : rmI M' j = rmI M i := by
  obtain ⟨e1, e2, e3, e4, e5, e6⟩ := h
  have hD : ∀ s, dl M' s = dl M s := fun s => qf (fun M => dl M s) (fun _ => rfl) hq
  have hr : ∀ x, rem M' x = rem M x := fun x => qf (fun M => rem M x) (fun _ => rfl) hq
  have hb : ∀ s l t m, mb M' s l t m = mb M s l t m := fun s l t m => qf (fun M => mb M s l t m) (fun _ => rfl) hq
  unfold rmI pL
  rw [e2, e3, e5, e6, hr, hb, hD]
/-- the cloth when p is taken off -/
theorem OFF_c (hc : cols M ≤ 12) (hq : nsQ M' = nsQ M) {p : Nat} (hO : OFF M M' p) (hp : (p : Int) < (M.1 17)) (hP : ∀ i : Nat, (i : Int) < (M.1 17) → PI M i) (h0 : 0 ≤ M.2 209 p) : (∀ j, j ≤ p → reC M' j = reC M j) ∧ ∀ j, p ≤ j → (j : Int) ≤ (M.1 17) - 1 → reC M' j = rcB (reC M (j + 1)) (M.2 209 p) 720 := by
  have a : ∀ j, j ≤ p → reC M' j = reC M j := by
    intro j
    induction j with
    | zero => intro _; rfl
    | succ j ih =>
      intro h
      show putC (reC M' j) _ _ _ _ _ _ _ = putC (reC M j) _ _ _ _ _ _ _
      rw [ih (by omega)]
      exact reC_one hq (hO.1 j (by omega))
  have hlt : ∀ i j : Nat, (i : Int) < (M.1 17) → j < i → M.2 209 j < M.2 209 i := fun i j h1 h2 => (hP i h1).2.2.2.2.1 j h2
  have b : ∀ i : Nat, ((p + i : Nat) : Int) ≤ (M.1 17) - 1 → reC M' (p + i) = rcB (reC M (p + i + 1)) (M.2 209 p) 720 := by
    intro i
    induction i with
    | zero =>
      intro h
      rw [Nat.add_zero, a p (Nat.le_refl _)]
      funext q
      have hpp := hP p hp
      have ec : reC M (p + 1) q = cif (∃ k ∈ pL M p, q = (12 * (M.2 211 p + oR (pL M p) (M.2 213 p) (M.2 214 p) k) + (M.2 212 p + oC (pL M p) (M.2 213 p) (M.2 214 p) k)).toNat) (M.2 209 p) (reC M p q) := rfl
      show reC M p q = if q < 720 then (if reC M (p + 1) q = M.2 209 p then -1 else reC M (p + 1) q) else reC M (p + 1) q
      by_cases hq7 : q < 720
      · rw [if_pos hq7, ec]
        by_cases e : ∃ k ∈ pL M p, q = (12 * (M.2 211 p + oR (pL M p) (M.2 213 p) (M.2 214 p) k) + (M.2 212 p + oC (pL M p) (M.2 213 p) (M.2 214 p) k)).toNat
        · rw [cifT e, if_pos rfl]
          obtain ⟨k, hk, rfl⟩ := e
          exact Classical.byContradiction fun h => hpp.2.1 ⟨k, hk, h⟩
        · rw [cifF e, if_neg (reC_ne (by omega) p (fun i hi => by have := hlt p i hp hi; omega) q hq7)]
      · rw [if_neg hq7, reC_ge hc p (fun i hi => (hP i (by omega)).1) q (by omega), reC_ge hc (p + 1) (fun i hi => (hP i (by omega)).1) q (by omega)]
    | succ i ih =>
      intro h
      have ih := ih (by omega)
      have hn := hlt (p + i + 1) p (by omega) (by omega)
      have e1 : reC M' (p + (i + 1)) = putC (reC M' (p + i)) (pL M' (p + i)) (M'.2 213 (p + i)) (M'.2 214 (p + i)) (M'.2 211 (p + i)) (M'.2 212 (p + i)) (M'.2 209 (p + i)) (pL M' (p + i)) := rfl
      rw [e1, reC_one hq (hO.2 (p + i) (by omega) (by omega)), ih]
      funext q
      show cif _ _ (rcB (reC M (p + i + 1)) (M.2 209 p) 720 q) = rcB (reC M (p + i + 1 + 1)) (M.2 209 p) 720 q
      have ec : reC M (p + i + 1 + 1) q = cif (∃ k ∈ pL M (p + i + 1), q = (12 * (M.2 211 (p + i + 1) + oR (pL M (p + i + 1)) (M.2 213 (p + i + 1)) (M.2 214 (p + i + 1)) k) + (M.2 212 (p + i + 1) + oC (pL M (p + i + 1)) (M.2 213 (p + i + 1)) (M.2 214 (p + i + 1)) k)).toNat) (M.2 209 (p + i + 1)) (reC M (p + i + 1) q) := rfl
      by_cases e : ∃ k ∈ pL M (p + i + 1), q = (12 * (M.2 211 (p + i + 1) + oR (pL M (p + i + 1)) (M.2 213 (p + i + 1)) (M.2 214 (p + i + 1)) k) + (M.2 212 (p + i + 1) + oC (pL M (p + i + 1)) (M.2 213 (p + i + 1)) (M.2 214 (p + i + 1)) k)).toNat
      · rw [cifT e] at ec ⊢
        unfold rcB
        rw [ec, if_neg (show ¬ M.2 209 (p + i + 1) = M.2 209 p by omega)]
        split <;> rfl
      · rw [cifF e] at ec ⊢
        unfold rcB
        rw [ec]
  refine ⟨a, fun j hj hj2 => ?_⟩
  have := b (j - p) (by omega)
  rw [show p + (j - p) = j by omega] at this
  exact this
end
