/-! PURE 23: trials as a function of the cells that are taken and the remainders -/
set_option maxRecDepth 100000
/-- what a trial changes left out -/
def nsQ (M : gM) : gM := (fun k => if k = 0 then 0 else if k = 17 then 0 else if k = 18 then 0 else if k = 33 then 0 else if k = 36 then 0 else if k = 37 then 0 else if k = 38 then 0 else if k = 39 then 0 else if k = 41 then 0 else if k = 48 then 0 else M.1 k, fun o => if 209 ≤ o ∧ o ≤ 217 then (fun _ => 0) else if 220 ≤ o ∧ o ≤ 228 then (fun _ => 0) else M.2 o)
theorem nsQ_of {M M' : gM} (h1 : ∀ k, k ≠ 0 → k ≠ 17 → k ≠ 18 → k ≠ 33 → k ≠ 36 → k ≠ 37 → k ≠ 38 → k ≠ 39 → k ≠ 41 → k ≠ 48 → M'.1 k = M.1 k) (h2 : ∀ o, (o < 209 ∨ (217 < o ∧ o < 220) ∨ 228 < o) → M'.2 o = M.2 o) : nsQ M' = nsQ M := by
  refine Prod.ext (funext fun k => ?_) (funext fun o => ?_)
  · dsimp only [nsQ]
    repeat' split
    all_goals first | rfl | exact h1 _ ‹_› ‹_› ‹_› ‹_› ‹_› ‹_› ‹_› ‹_› ‹_› ‹_›
  · dsimp only [nsQ]
    repeat' split
    all_goals first | rfl | exact h2 _ (by omega)
theorem qf {α : Type} (f : gM → α) (hf : ∀ M, f M = f (nsQ M)) {M M' : gM} (h : nsQ M' = nsQ M) : f M' = f M := by rw [hf, h, ← hf]
theorem TQ.q {B B' : gB} (h : TQ B B') : nsQ (tw B') = nsQ (tw B) := nsQ_of (fun k _ _ _ _ _ _ _ _ _ _ => h.1 198 k (by omega)) (fun o a => h.2.1 o (by omega) (by omega) (by omega) (by omega))
theorem SC.q {B B' : gB} (h : SC B B') : nsQ (tw B') = nsQ (tw B) := (TQ.sc h).q
theorem putB_q {B : gB} {s : Nat} {l : List Nat} {t r c m : Int} : nsQ (tw (putB B s l t r c m)) = nsQ (tw B) := nsQ_of (fun k _ _ _ _ _ _ _ _ _ _ => putB_f (by omega)) (fun o a => putB_a (by omega))
def nz (cl : Nat → Int) : Nat → Int := fun q => if cl q = -1 then -1 else 0
theorem nz_ne {cl : Nat → Int} {q : Nat} : nz cl q ≠ -1 ↔ cl q ≠ -1 := by
  unfold nz
  split
  · exact ⟨fun h => absurd rfl h, fun h => absurd ‹_› h⟩
  · exact ⟨fun _ => ‹_›, fun _ => by decide⟩
theorem onP_nz {cl : Nat → Int} {l : List Nat} {t m r c : Int} : onP (nz cl) l t m r c ↔ onP cl l t m r c := by
  unfold onP
  constructor
  · rintro ⟨k, h1, h2⟩; exact ⟨k, h1, nz_ne.mp h2⟩
  · rintro ⟨k, h1, h2⟩; exact ⟨k, h1, nz_ne.mpr h2⟩
theorem rsn_nz {M : gM} {cl rm : Nat → Int} {s : Nat} {l : List Nat} {t r c m : Int} : rsn M (nz cl) rm s l t r c m = rsn M cl rm s l t r c m := by
  unfold rsn
  rw [show onP (nz cl) l t m r c = onP cl l t m r c from propext onP_nz]
theorem nst_nz {M : gM} {cl rm : Nat → Int} {s : Nat} {l : List Nat} {m : Int} : nst M (nz cl) rm s l m = nst M cl rm s l m := by
  unfold nst
  exact fst1_congr _ _ fun j _ _ => by rw [rsn_nz]
theorem lngP_nz {cl : Nat → Int} : ∀ n, lngP (nz cl) n = lngP cl n
  | 0 => rfl
  | n + 1 => by
    unfold lngP
    by_cases h : cl n = -1
    · rw [if_pos h, if_pos (by unfold nz; rw [if_pos h]), lngP_nz n]
    · rw [if_neg h, if_neg (nz_ne.mpr h)]
theorem lng_nz {cl : Nat → Int} : lng (nz cl) = lng cl := lngP_nz 720
theorem putC_nz {cl : Nat → Int} {l : List Nat} {t m r c v : Int} {P : List Nat} (hv : v ≠ -1) : nz (putC cl l t m r c v P) = putC (nz cl) l t m r c 0 P := by
  funext q
  unfold nz putC
  by_cases h : ∃ k ∈ P, q = (12 * (r + oR l t m k) + (c + oC l t m k)).toNat
  · rw [cifT h, cifT h, if_neg hv]
  · rw [cifF h, cifF h]
abbrev gT2 : Type := (Nat → Int) × (Nat → Int)
noncomputable def putM (M : gM) (τ : gT2) (s : Nat) (l : List Nat) (t r c m : Int) : gT2 := (putC τ.1 l t m r c 0 l, fun g => cif (marked M s ∧ g = (M.2 204 s).toNat) (rem M (r + mb M s l t m)) (τ.2 g))
/-- a sort's shape and whether it's mirrored -/
abbrev cS (x : Int) : Nat := (x % 8).toNat
def cM (x : Int) : Int := if 8 ≤ x then 1 else 0
noncomputable def stpL (M : gM) (D : Nat → List Nat) (τ : gT2) (x : Int) : Option gT2 := (nst M τ.1 τ.2 (cS x) (D (cS x)) (cM x)).map fun k => putM M τ (cS x) (D (cS x)) ((k : Int) % 4) ((k : Int) / 48) ((k : Int) / 4 % 12) (cM x)
noncomputable def runL (M : gM) (D : Nat → List Nat) : gT2 → List Int → Option gT2
  | τ, [] => some τ
  | τ, x :: xs => (stpL M D τ x).bind fun τ' => runL M D τ' xs
abbrev tlen (τ : gT2) : Int := lng τ.1
/-- the state of a trial -/
def tS (B : gB) : gT2 := (nz (B.2.1 215), rmT (tw B))
theorem stp_q {M M' : gM} (h : nsQ M' = nsQ M) {τ : gT2} {x : Int} : stpL M' (dl M') τ x = stpL M (dl M) τ x := qf (fun M => stpL M (dl M) τ x) (fun _ => rfl) h
theorem run_q {M M' : gM} (h : nsQ M' = nsQ M) : ∀ (xs : List Int) (τ : gT2), runL M' (dl M') τ xs = runL M (dl M) τ xs
  | [], _ => rfl
  | x :: xs, τ => by
    unfold runL
    rw [stp_q h]
    refine congrArg _ (funext fun τ' => run_q h xs τ')
theorem TQ.cl {B B' : gB} (h : TQ B B') : B'.2.1 215 = B.2.1 215 := h.2.1 215 (by omega) (by omega) (by omega) (by omega)
theorem rmT_e (B : gB) (g : Nat) : rmT (tw B) g = if B.2.1 217 g = 0 then -1 else B.2.1 216 g := rfl
theorem TQ.rm {B B' : gB} (h : TQ B B') : rmT (tw B') = rmT (tw B) := by
  funext g
  rw [rmT_e, rmT_e, h.og]
  by_cases e : B.2.1 217 g = 0
  · rw [if_pos e, if_pos e]
  · rw [if_neg e, if_neg e, h.2.2.2.1 g e]
theorem TQ.ts {B B' : gB} (h : TQ B B') : tS B' = tS B := by
  unfold tS
  rw [h.cl, h.rm]
theorem putB_tS {B : gB} (hw : MW B) {s : Nat} {l : List Nat} {t r c m : Int} : tS (putB B s l t r c m) = putM (tw B) (tS B) s l t r c m := by
  have hn := mw_next hw
  unfold tS putM
  rw [putB_cl, putC_nz (by omega)]
  refine Prod.ext rfl (funext fun g => ?_)
  show rmT (tw (putB B s l t r c m)) g = cif (marked (tw B) s ∧ g = (B.2.1 204 s).toNat) (rem (tw B) (r + mb (tw B) s l t m)) (rmT (tw B) g)
  rw [rmT_e, rmT_e, putB_og, putB_ph]
  have hog := mw_ofGroup hw g
  by_cases e : marked (tw B) s ∧ g = (B.2.1 204 s).toNat
  · rw [cifT e, cifT e, cifT e, if_neg (by omega)]
  · rw [cifF e, cifF e, cifF e]
theorem rem_b {B : gB} (hw : MW B) (h : 1 < (B.1 198 4)) {x : Int} : 0 ≤ rem (tw B) x ∧ rem (tw B) x < 6 := by
  have hs6 := mw_stripes hw
  have k1 := Int.emod_nonneg x (b := (B.1 198 4)) (by omega)
  have k2 := Int.emod_lt_of_pos x (b := (B.1 198 4)) (by omega)
  unfold rem
  dsimp only [tw]
  omega
theorem putB_mw {B : gB} (hw : MW B) (ho : ∀ g, B.2.1 217 g ≤ (B.1 198 17)) {s : Nat} {l : List Nat} {t r c m : Int} (hs : s < 8) (ht : 0 ≤ t ∧ t ≤ 3) (hm : 0 ≤ m ∧ m ≤ 1) (hr : 0 ≤ r ∧ r ≤ 59) (hc : 0 ≤ c ∧ c ≤ 11) (h40 : (B.1 198 17) < 40) (hn : (B.1 198 18) < 1000) : MW (putB B s l t r c m) := by
  have h1 := mw_many hw
  have h2 := mw_next hw
  refine ⟨fun k => ?_, fun o j q1 q2 => ?_⟩
  · by_cases e1 : k = 17
    · subst e1
      rw [putB_many]
      show 0 ≤ (B.1 198 17) + 1 ∧ (B.1 198 17) + 1 ≤ 40
      omega
    · by_cases e2 : k = 18
      · subst e2
        rw [putB_next]
        show 0 ≤ (B.1 198 18) + 1 ∧ (B.1 198 18) + 1 ≤ 1000
        omega
      · rw [putB_f (by omega)]; exact hw.1 k
  · by_cases e : o < 209 ∨ 217 < o
    · rw [putB_a e]; exact hw.2 o j q1 q2
    · by_cases e3 : o ≤ 214
      · by_cases e4 : j = ((B.1 198 17)).toNat
        · subst e4
          obtain ⟨n1, n2, n3, n4, n5, n6⟩ := putB_new (B := B) (s := s) (l := l) (t := t) (r := r) (c := c) (m := m)
          rcases (show o = 209 ∨ o = 210 ∨ o = 211 ∨ o = 212 ∨ o = 213 ∨ o = 214 by omega) with rfl | rfl | rfl | rfl | rfl | rfl
          · rw [n1]; show 0 ≤ (B.1 198 18) ∧ (B.1 198 18) ≤ 1000; omega
          · rw [n2]; show 0 ≤ (s : Int) ∧ (s : Int) ≤ 7; omega
          · rw [n3]; exact hr
          · rw [n4]; exact hc
          · rw [n5]; exact ht
          · rw [n6]; exact hm
        · rw [putB_row (by omega) e3 e4]; exact hw.2 o j q1 q2
      · rcases (show o = 215 ∨ o = 216 ∨ o = 217 by omega) with rfl | rfl | rfl
        · rw [putB_cl]
          exact putC_b hw (by omega) j
        · rw [putB_ph]
          by_cases e5 : marked (tw B) s ∧ j = (B.2.1 204 s).toNat
          · rw [cifT e5]
            have := rem_b hw e5.1.2 (x := r + mb (tw B) s l t m)
            show -1 ≤ _ ∧ _ ≤ 5
            omega
          · rw [cifF e5]; exact hw.2 _ j q1 q2
        · rw [putB_og]
          have h5 := ho j
          have h6 := mw_ofGroup hw j
          by_cases e5 : marked (tw B) s ∧ j = (B.2.1 204 s).toNat
          · rw [cifT e5]
            show 0 ≤ _ ∧ _ ≤ 40
            omega
          · rw [cifF e5]; exact hw.2 _ j q1 q2
theorem putB_TI {B : gB} (hT : TI B) {s : Nat} {l : List Nat} {t r c m : Int} (hs : s < 8) (ht : 0 ≤ t ∧ t ≤ 3) (hm : 0 ≤ m ∧ m ≤ 1) (hr : 0 ≤ r ∧ r ≤ 59) (hc : 0 ≤ c ∧ c ≤ 11) (h40 : (B.1 198 17) < 40) (hn : (B.1 198 18) < 1000) : TI (putB B s l t r c m) := by
  have hw := hT.1.1
  refine ⟨⟨putB_mw hw hT.2.2 hs ht hm hr hc h40 hn, fun s' hs' => ?_, fun g hg => ?_⟩, fun q h720 => ?_, fun g => ?_⟩
  · rw [putB_a (by omega), qf (fun M => dl M s') (fun _ => rfl) putB_q]
    exact hT.1.2.1 s' hs'
  · rw [putB_og] at hg
    rw [putB_ph]
    by_cases e5 : marked (tw B) s ∧ g = (B.2.1 204 s).toNat
    · rw [cifT e5]; exact (rem_b hw e5.1.2).1
    · rw [cifF e5] at hg ⊢
      exact hT.1.2.2 g hg
  · rw [putB_cl, putB_next]
    have := hT.2.1 q h720
    unfold putC
    by_cases e : ∃ k ∈ l, q = (12 * (r + oR l t m k) + (c + oC l t m k)).toNat
    · rw [cifT e]; omega
    · rw [cifF e]; omega
  · rw [putB_og, putB_many]
    have := hT.2.2 g
    by_cases e5 : marked (tw B) s ∧ g = (B.2.1 204 s).toNat
    · rw [cifT e5]; omega
    · rw [cifF e5]; omega
theorem TI.tq {B B' : gB} (hT : TI B) (h : TQ B B') (hw : MW B') : TI B' := by
  refine ⟨⟨hw, fun s hs => ?_, fun g hg => ?_⟩, fun q h720 => ?_, fun g => ?_⟩
  · rw [h.2.1 203 (by omega) (by omega) (by omega) (by omega), qf (fun M => dl M s) (fun _ => rfl) h.q]
    exact hT.1.2.1 s hs
  · rw [h.og] at hg
    rw [h.2.2.2.1 g hg]
    exact hT.1.2.2 g hg
  · rw [h.cl, h.1 198 18 (by omega)]
    exact hT.2.1 q h720
  · rw [h.og, h.many]
    exact hT.2.2 g
