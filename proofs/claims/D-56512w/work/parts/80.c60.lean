/-! PURE 99: orders of pieces, plain -/
set_option maxRecDepth 100000
section
theorem lngP_mono {cl cl' : Nat → Int} (h : ∀ q, cl q ≠ -1 → cl' q ≠ -1) : ∀ n, lngP cl n ≤ lngP cl' n
  | 0 => Int.le_refl _
  | n + 1 => by
    have ih := lngP_mono h n
    unfold lngP
    by_cases e : cl n = -1
    · rw [if_pos e]
      by_cases e' : cl' n = -1
      · rw [if_pos e']; exact ih
      · rw [if_neg e']
        have := lngP_le cl n
        omega
    · rw [if_neg e, if_neg (h n e)]; exact Int.le_refl _
variable {M : gM} {D : Nat → List Nat} {L : List Int} {n : Nat}
theorem runL_app : ∀ (xs ys : List Int) (τ : gT2), runL M D τ (xs ++ ys) = (runL M D τ xs).bind (fun τ' => runL M D τ' ys)
  | [], ys, τ => rfl
  | x :: xs, ys, τ => by
    show (stpL M D τ x).bind (fun τ' => runL M D τ' (xs ++ ys)) = ((stpL M D τ x).bind (fun τ' => runL M D τ' xs)).bind _
    cases stpL M D τ x with
    | none => rfl
    | some τ1 => exact runL_app xs ys τ1
theorem stpL_le {τ τ' : gT2} {x : Int} (h : stpL M D τ x = some τ') : tlen τ ≤ tlen τ' := by
  unfold stpL at h
  cases hk : nst M τ.1 τ.2 (cS x) (D (cS x)) (cM x) with
  | none => rw [hk] at h; cases h
  | some k =>
    rw [hk] at h
    have e : putM M τ (cS x) (D (cS x)) ((k : Int) % 4) ((k : Int) / 48) ((k : Int) / 4 % 12) (cM x) = τ' := Option.some.inj h
    rw [← e]
    refine lngP_mono (fun q hq => ?_) 720
    show putC _ _ _ _ _ _ _ _ q ≠ -1
    unfold putC
    intro z
    by_cases e : ∃ k' ∈ D (cS x), q = (12 * ((k : Int) / 48 + oR (D (cS x)) ((k : Int) % 4) (cM x) k') + ((k : Int) / 4 % 12 + oC (D (cS x)) ((k : Int) % 4) (cM x) k')).toNat
    · rw [cifT e] at z; omega
    · rw [cifF e] at z; exact hq z
theorem runL_le : ∀ (ys : List Int) (τ τ' : gT2), runL M D τ ys = some τ' → tlen τ ≤ tlen τ'
  | [], τ, τ', h => by
    have : τ = τ' := Option.some.inj h
    rw [this]; exact Int.le_refl _
  | y :: ys, τ, τ', h => by
    have h' : (stpL M D τ y).bind (fun τ' => runL M D τ' ys) = some τ' := h
    cases e : stpL M D τ y with
    | none => rw [e] at h'; cases h'
    | some τ1 =>
      rw [e] at h'
      exact Int.le_trans (stpL_le e) (runL_le ys τ1 τ' h')
theorem rl_b (o : Option gT2) : 0 ≤ rl o ∧ rl o ≤ 61 := by
  cases o with
  | none => exact ⟨by show (0 : Int) ≤ 61; omega, by show (61 : Int) ≤ 61; omega⟩
  | some τ =>
    have := lng_b τ.1
    exact ⟨this.1, by show lng τ.1 ≤ 61; omega⟩
theorem rl_mono {τ : gT2} {xs ys : List Int} : rl (runL M D τ xs) ≤ rl (runL M D τ (xs ++ ys)) := by
  rw [runL_app]
  cases e : runL M D τ xs with
  | none => exact Int.le_refl _
  | some τ1 =>
    show tlen τ1 ≤ rl (runL M D τ1 ys)
    cases e' : runL M D τ1 ys with
    | none =>
      have := lng_b τ1.1
      show lng τ1.1 ≤ 61
      omega
    | some τ2 => exact runL_le ys τ1 τ2 e'
/-- the length of the order u -/
noncomputable def rnU (M : gM) (L : List Int) (u : List Nat) : Int := rl (runL M (dl M) ts0 (u.map (fun i => L.getD i 0)))
/-- a is the best of a0 and the orders of S -/
def BC (M : gM) (L : List Int) (S : List Nat → Prop) (a0 a : Int) : Prop := a ≤ a0 ∧ (∀ u, S u → a ≤ rnU M L u) ∧ (a = a0 ∨ ∃ u, S u ∧ a = rnU M L u)
/-- the orders that begin so -/
def SP (n : Nat) (P u : List Nat) : Prop := u.Perm (List.range n) ∧ P <+: u
def SZ (n : Nat) (P : List Nat) (z : Nat) (u : List Nat) : Prop := ∃ s, s < z ∧ s ∉ P ∧ SP n (P ++ [s]) u
def PX (n : Nat) (P : List Nat) : Prop := ∃ w, (P ++ w).Perm (List.range n)
theorem BC.rf {S : List Nat → Prop} {a : Int} (h : ∀ u, S u → a ≤ rnU M L u) : BC M L S a a := ⟨Int.le_refl _, h, Or.inl rfl⟩
theorem BC.tr {S S' : List Nat → Prop} {a b c : Int} (h : BC M L S a b) (h' : BC M L S' b c) : BC M L (fun u => S u ∨ S' u) a c := by
  refine ⟨Int.le_trans h'.1 h.1, fun u hu => hu.elim (fun hu => Int.le_trans h'.1 (h.2.1 u hu)) (h'.2.1 u), ?_⟩
  rcases h'.2.2 with e | ⟨u, hu, e⟩
  · rcases h.2.2 with e' | ⟨u, hu, e'⟩
    · exact Or.inl (e.trans e')
    · exact Or.inr ⟨u, Or.inl hu, e.trans e'⟩
  · exact Or.inr ⟨u, Or.inr hu, e⟩
theorem BC.of {S S' : List Nat → Prop} {a b : Int} (h : BC M L S a b) (e : ∀ u, S u ↔ S' u) : BC M L S' a b := ⟨h.1, fun u hu => h.2.1 u ((e u).mpr hu), h.2.2.imp_right (fun ⟨u, hu, q⟩ => ⟨u, (e u).mp hu, q⟩)⟩
theorem SP.mono {P u : List Nat} (h : SP n P u) : rnU M L P ≤ rnU M L u := by
  obtain ⟨-, w, rfl⟩ := h
  unfold rnU
  rw [List.map_append]
  exact rl_mono
theorem SZ_s {P : List Nat} {z : Nat} {u : List Nat} : SZ n P (z + 1) u ↔ SZ n P z u ∨ (z ∉ P ∧ SP n (P ++ [z]) u) := by
  constructor
  · rintro ⟨s, h1, h2, h3⟩
    by_cases e : s = z
    · subst e; exact Or.inr ⟨h2, h3⟩
    · exact Or.inl ⟨s, by omega, h2, h3⟩
  · rintro (⟨s, h1, h2, h3⟩ | ⟨h2, h3⟩)
    · exact ⟨s, by omega, h2, h3⟩
    · exact ⟨z, by omega, h2, h3⟩
theorem SZ_n {P : List Nat} (hP : P.length < n) {u : List Nat} : SZ n P n u ↔ SP n P u := by
  constructor
  · rintro ⟨s, -, -, h1, h2⟩
    exact ⟨h1, (List.prefix_append P [s]).trans h2⟩
  · rintro ⟨h1, w, rfl⟩
    have hl := h1.length_eq
    rw [List.length_append, List.length_range] at hl
    cases w with
    | nil =>
      rw [List.length_nil] at hl; omega
    | cons s w =>
      have hnd : (P ++ s :: w).Nodup := h1.nodup_iff.mpr List.nodup_range
      have hs : s ∈ List.range n := h1.mem_iff.mp (List.mem_append_right _ List.mem_cons_self)
      refine ⟨s, List.mem_range.mp hs, fun hm => ?_, h1, ⟨w, by rw [List.append_assoc]; rfl⟩⟩
      exact (List.nodup_append.mp hnd).2.2 s hm s List.mem_cons_self rfl
theorem PX.nil : PX n [] := ⟨List.range n, List.Perm.refl _⟩
theorem PX.add {P : List Nat} {z : Nat} (h : PX n P) (hz : z < n) (hn : z ∉ P) : PX n (P ++ [z]) := by
  obtain ⟨w, hw⟩ := h
  have hm : z ∈ P ++ w := hw.mem_iff.mpr (List.mem_range.mpr hz)
  have hzw : z ∈ w := (List.mem_append.mp hm).resolve_left hn
  refine ⟨w.erase z, ?_⟩
  rw [List.append_assoc]
  exact ((List.perm_cons_erase hzw).symm.append_left P).trans hw
theorem PX.lt {P : List Nat} (h : PX n P) {x : Nat} (hx : x ∈ P) : x < n := by
  obtain ⟨w, hw⟩ := h
  exact List.mem_range.mp (hw.mem_iff.mp (List.mem_append_left _ hx))
theorem PX.all {P : List Nat} (h : PX n P) (hP : P.length = n) : P.Perm (List.range n) := by
  obtain ⟨w, hw⟩ := h
  have hl := hw.length_eq
  rw [List.length_append, List.length_range] at hl
  obtain rfl : w = [] := List.length_eq_zero_iff.mp (by omega)
  rw [List.append_nil] at hw
  exact hw
theorem BC.last {P : List Nat} (h : PX n P) (hP : P.length = n) {a : Int} : BC M L (SP n P) a (min a (rnU M L P)) := by
  have hp := h.all hP
  refine ⟨by omega, fun u hu => ?_, ?_⟩
  · have : P = u := hu.2.eq_of_length (by rw [hP, hu.1.length_eq, List.length_range])
    rw [← this]; omega
  · by_cases e : a ≤ rnU M L P
    · exact Or.inl (by omega)
    · exact Or.inr ⟨P, ⟨hp, List.prefix_refl _⟩, by omega⟩
/-- the best of all orders is the least length -/
theorem BC.nb {a : Int} (h : BC M L (SP L.length []) 61 a) : NB M L a := by
  have hmap : ∀ u : List Nat, u.Perm (List.range L.length) → (u.map (fun i => L.getD i 0)).Perm L := fun u hu => by
    have h1 := hu.map (fun i => L.getD i 0)
    have h2 : (List.range L.length).map (fun i => L.getD i 0) = L := List.ext_getElem (by rw [List.length_map, List.length_range]) (fun i h1 h2 => by
      rw [List.getElem_map, List.getElem_range]
      exact (List.getElem_eq_getD 0).symm)
    rw [h2] at h1
    exact h1
  refine ⟨⟨?_, h.1⟩, fun p τ h1 h2 => ?_, ?_⟩
  · rcases h.2.2 with e | ⟨u, hu, e⟩
    · omega
    · have := rl_b (runL M (dl M) ts0 (u.map (fun i => L.getD i 0)))
      rw [e]; exact this.1
  · have h3 : (List.range L.length).map (fun i => L.getD i 0) = L := List.ext_getElem (by rw [List.length_map, List.length_range]) (fun i h1 h2 => by
      rw [List.getElem_map, List.getElem_range]
      exact (List.getElem_eq_getD 0).symm)
    rw [← h3] at h1
    obtain ⟨u, hu1, hu2⟩ := perm_map _ _ _ h1
    have := h.2.1 u ⟨hu1, List.nil_prefix⟩
    unfold rnU at this
    rw [← hu2, h2] at this
    exact this
  · rcases h.2.2 with e | ⟨u, hu, e⟩
    · exact Or.inl e
    · unfold rnU at e
      cases hr : runL M (dl M) ts0 (u.map (fun i => L.getD i 0)) with
      | none =>
        rw [hr] at e
        exact Or.inl e
      | some τ =>
        rw [hr] at e
        exact Or.inr ⟨_, τ, hmap u hu.1, hr, e⟩
end
