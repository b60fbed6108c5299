/-! PURE 105: what the picture of the marker depends on; the law's invariant -/
set_option maxRecDepth 100000
section
variable {M M' : gM} {n m i : Nat} {B B' : gB}
def SG (M M' : gM) (s : Nat) : Prop := dl M' s = dl M s ∧ M'.2 204 s = M.2 204 s ∧ M'.2 205 s = M.2 205 s ∧ M'.2 206 s = M.2 206 s
/-- alike in what the first n pieces show -/
def GQ (M M' : gM) (n : Nat) : Prop := (∀ i, i < n → PE M M' i i ∧ SG M M' (M.2 210 i).toNat) ∧ (M'.1 4) = (M.1 4)
theorem GQ.le (h : GQ M M' n) (hm : m ≤ n) : GQ M M' m := ⟨fun i hi => h.1 i (by omega), h.2⟩
theorem GQ.pl (h : GQ M M' n) (hi : i < n) : pL M' i = pL M i := by
  obtain ⟨⟨e1, e2, e3, e4, e5, e6⟩, d1, d2, d3, d4⟩ := h.1 i hi
  show dl M' (M'.2 210 i).toNat = dl M (M.2 210 i).toNat
  rw [e2, d1]
theorem GQ.re : ∀ n, GQ M M' n → reC M' n = reC M n ∧ reR M' n = reR M n ∧ reO M' n = reO M n
  | 0, _ => ⟨rfl, rfl, rfl⟩
  | n + 1, h => by
    obtain ⟨h1, h2, h3⟩ := GQ.re n (h.le (Nat.le_succ n))
    have ep := h.pl (Nat.lt_succ_self n)
    obtain ⟨⟨e1, e2, e3, e4, e5, e6⟩, d1, d2, d3, d4⟩ := h.1 n (Nat.lt_succ_self n)
    have hst := h.2
    refine ⟨?_, ?_, ?_⟩
    · show putC (reC M' n) (pL M' n) (M'.2 213 n) (M'.2 214 n) (M'.2 211 n) (M'.2 212 n) (M'.2 209 n) (pL M' n) = putC (reC M n) (pL M n) (M.2 213 n) (M.2 214 n) (M.2 211 n) (M.2 212 n) (M.2 209 n) (pL M n)
      rw [h1, ep, e1, e3, e4, e5, e6]
    · funext g
      simp only [reR, marked, rem, mb, pL, h2, e2, e3, e5, e6, d1, d2, d3, d4, hst]
    · funext g
      simp only [reO, marked, h3, e2, d2, hst]
theorem GQ.pi (h : GQ M M' n) (hc : cols M' = cols M) (hn : (M.1 18) ≤ (M'.1 18)) (hi : i < n) (hP : PI M i) : PI M' i := by
  have ep := h.pl hi
  have re := GQ.re i (h.le (Nat.le_of_lt hi))
  obtain ⟨⟨e1, e2, e3, e4, e5, e6⟩, d1, d2, d3, d4⟩ := h.1 i hi
  have hst := h.2
  obtain ⟨p1, p2, p3, p4, p5, p6⟩ := hP
  refine ⟨?_, ?_, ?_, by rw [e1]; omega, fun j hj => ?_, by rw [ep]; exact p6⟩
  · rw [ep, e3, e4, e5, e6]
    unfold ins at p1 ⊢
    rw [hc]; exact p1
  · rw [ep, e3, e4, e5, e6, re.1]; exact p2
  · rw [ep, e2, e3, e5, e6, re.2.1]
    unfold meets marked rem mb at p3 ⊢
    rw [d2, d3, d4, hst]; exact p3
  · rw [e1, (h.1 j (by omega)).1.1]; exact p5 j hj
theorem GI.gq (hg : GI B) (hq : GQ (tw B) (tw B') ((B.1 198 17)).toNat) (hc : cols (tw B') = cols (tw B)) (hm : (B'.1 198 17) = (B.1 198 17)) (hn : (B.1 198 18) ≤ (B'.1 198 18)) (hcl : B'.2.1 215 = B.2.1 215) (hrm : rmT (tw B') = rmT (tw B)) (hog : B'.2.1 217 = B.2.1 217) : GI B' := by
  obtain ⟨g1, g2, g3, g4⟩ := hg
  have re := GQ.re _ hq
  refine ⟨?_, ?_, ?_, fun i hi => ?_⟩
  · rw [hm, hcl, re.1]; exact g1
  · rw [hm, hrm, re.2.1]; exact g2
  · rw [hm, hog, re.2.2]; exact g3
  · rw [hm] at hi
    exact hq.pi hc hn (by omega) (g4 i hi)
theorem GI.z (hm : (B.1 198 17) = 0) (hcl : B.2.1 215 = cl0) (hog : B.2.1 217 = fun _ => 0) : GI B := by
  refine ⟨?_, ?_, ?_, fun i hi => by omega⟩
  · rw [hm]; exact hcl
  · rw [hm]
    funext g
    show (if B.2.1 217 g = 0 then (-1 : Int) else _) = -1
    rw [hog]
    exact if_pos rfl
  · rw [hm]; exact hog
theorem GI.z' (hm : (B.1 198 17) = 0) (hg : GI B) : B.2.1 215 = cl0 ∧ B.2.1 217 = fun _ => 0 := by
  obtain ⟨g1, g2, g3, g4⟩ := hg
  rw [hm] at g1 g3
  exact ⟨g1, g3⟩
/-- no flaw lies under a piece -/
def FLW (B : gB) : Prop := ∀ r c : Int, 0 ≤ r → r ≤ 59 → 0 ≤ c → c < (B.1 198 1) → B.2.1 199 (12 * r + c).toNat ≠ 0 → ¬ under (tw B) r c
theorem MQ.sy (h : MQ M M') : MQ M' M := ⟨fun k hk => (h.1 k hk).symm, fun o h1 h2 => (h.2 o h1 h2).symm⟩
theorem MQ.tr {M'' : gM} (h : MQ M M') (h' : MQ M' M'') : MQ M M'' := ⟨fun k hk => (h'.1 k hk).trans (h.1 k hk), fun o h1 h2 => (h'.2 o h1 h2).trans (h.2 o h1 h2)⟩
def nm (M : gM) : gM := (fun k => if (1 ≤ k ∧ k ≤ 5) ∨ k = 7 ∨ k = 17 ∨ k = 18 ∨ k = 28 ∨ k = 31 ∨ k = 32 then M.1 k else 0, fun o => if 199 ≤ o ∧ o ≤ 219 then M.2 o else fun _ => 0)
theorem MQ.q (h : MQ M M') : nm M' = nm M := by
  refine Prod.ext (funext fun k => ?_) (funext fun o => ?_)
  · show (if _ then M'.1 k else 0) = (if _ then M.1 k else 0)
    by_cases e : (1 ≤ k ∧ k ≤ 5) ∨ k = 7 ∨ k = 17 ∨ k = 18 ∨ k = 28 ∨ k = 31 ∨ k = 32
    · rw [if_pos e, if_pos e, h.1 k e]
    · rw [if_neg e, if_neg e]
  · show (if _ then M'.2 o else _) = (if _ then M.2 o else _)
    by_cases e : 199 ≤ o ∧ o ≤ 219
    · rw [if_pos e, if_pos e, h.2 o e.1 e.2]
    · rw [if_neg e, if_neg e]
theorem mf {α : Type} (f : gM → α) (hf : ∀ M, f M = f (nm M)) {M M' : gM} (h : MQ M M') : f M' = f M := by rw [hf M', h.q, ← hf]
theorem MQ.gq (h : MQ M M') : GQ M M' n := by
  have e := fun o h1 h2 => h.2 o h1 h2
  refine ⟨fun i _ => ⟨PE.of (fun o h1 h2 => e o (by omega) (by omega)), dl_e (e 202 (by omega) (by omega)), ?_, ?_, ?_⟩, h.1 4 (by omega)⟩
  · rw [e 204 (by omega) (by omega)]
  · rw [e 205 (by omega) (by omega)]
  · rw [e 206 (by omega) (by omega)]
/-- the law's invariant -/
def INV (n : Int) (B : gB) : Prop := MI B ∧ GI B ∧ BL (tw B) ∧ RU (tw B) ∧ FLW B ∧ (B.1 198 18) ≤ n ∧ (B.1 198 32) ≤ 2000000 * n ∧ ∀ s, B.2.1 219 s ≤ 99 * n
theorem INV.mq {n : Int} (h : INV n B) (hq : MQ (tw B) (tw B')) (hw : MW B') : INV n B' := by
  obtain ⟨⟨h1, h2, h3⟩, hg, hb, hr, hf, i1, i2, i3⟩ := h
  have eS : ∀ k, ((1 ≤ k ∧ k ≤ 5) ∨ k = 7 ∨ k = 17 ∨ k = 18 ∨ k = 28 ∨ k = 31 ∨ k = 32) → B'.1 198 k = B.1 198 k := fun k hk => hq.1 k hk
  have eA : ∀ o, 199 ≤ o → o ≤ 219 → B'.2.1 o = B.2.1 o := fun o h1 h2 => hq.2 o h1 h2
  refine ⟨⟨hw, fun s hs => ?_, fun g hg' => ?_⟩, ?_, ?_, ?_, ?_, ?_, ?_, fun s => ?_⟩
  · rw [eA 203 (by omega) (by omega), mf (fun M => dl M s) (fun _ => rfl) hq]; exact h2 s hs
  · rw [eA 217 (by omega) (by omega)] at hg'
    rw [eA 216 (by omega) (by omega)]; exact h3 g hg'
  · exact hg.gq hq.gq (mf cols (fun _ => rfl) hq) (eS 17 (by omega)) (Int.le_of_eq (eS 18 (by omega)).symm) (eA 215 (by omega) (by omega)) (mf rmT (fun _ => rfl) hq) (eA 217 (by omega) (by omega))
  · rw [mf BL (fun _ => rfl) hq]; exact hb
  · rw [mf RU (fun _ => rfl) hq]; exact hr
  · intro r c q1 q2 q3 q4 q5
    rw [eS 1 (by omega)] at q4
    rw [eA 199 (by omega) (by omega)] at q5
    rw [mf (fun M => under M r c) (fun _ => rfl) hq]
    exact hf r c q1 q2 q3 q4 q5
  · rw [eS 18 (by omega)]; exact i1
  · rw [eS 32 (by omega)]; exact i2
  · rw [eA 219 (by omega) (by omega)]; exact i3 s
theorem INV.up {n n' : Int} (h : INV n B) (hn : n ≤ n') : INV n' B := by
  obtain ⟨h1, h2, h3, h4, h5, i1, i2, i3⟩ := h
  exact ⟨h1, h2, h3, h4, h5, by omega, by omega, fun s => by have := i3 s; omega⟩
theorem INV.th {n v : Int} (h : INV n B) (hv : 0 ≤ v ∧ v ≤ 9) : INV n (sI B 198 0 v) := h.mq ⟨fun k hk => sI_ne (Or.inr (by omega)), fun _ _ _ => rfl⟩ (ms_thrown h.1.1 hv)
end
