/-! SOUNDNESS: what the ghost machine does, the machine does -/
set_option maxRecDepth 100000
/-- launch, heap at the law's entry, classes' numbers and slots, arrays' classes, the lambdas' classes -/
abbrev gZ : Type := Launch × Heap × va_G × (Nat → ClassId) × (Nat → ClassId)
abbrev gZB (Z : gZ) : Heap := Z.2.1
abbrev gZD (Z : gZ) : va_G := Z.2.2.1
abbrev gZA (Z : gZ) : Nat → ClassId := Z.2.2.2.1
abbrev gZL (Z : gZ) : Nat → ClassId := Z.2.2.2.2
abbrev gcl : List vw_C := [(RX1, TX1, 16), (RX2, TX2, 5), (RX3, TX3, 4), (RX4, TX4, 49), (RX5, TX5, 9), (RX6, TX6, 2), (RX7, TX7, 3), (RX8, TX8, 6), (RX9, TX9, 2), (RX10, TX10, 2), (RX11, TX11, 2), (RX12, TX12, 5), (RJ2, TJ2, 3)]
abbrev gtys (Z : gZ) : List (ClassId × FieldType) := [(gZA Z 0, .int), (gZA Z 1, .boolean), (gZA Z 2, .char), (gZA Z 3, .long), (gZA Z 4, .double), (gZA Z 5, .object "java/lang/Object"), (gZA Z 6, .object "CuttingRoom$Hindrance"), (gZA Z 7, .object "CuttingRoom$Variant"), (gZA Z 8, .array .int), (gZA Z 9, .array .boolean)]
abbrev gNewA (Z : gZ) : Nat → Prop := fun q => (gZB Z).size ≤ q
def gAt (Z : gZ) (a : Nat) (e : gE) (H : Heap) : Prop := match e with
  | .inl (t, x) => t < 10 ∧ H[a]? = some (vp_cell (gZA Z t) x)
  | .inr (c, fs) => if c < 13 then va_at (gZD Z) gcl (a, .inr (c, fs)) H else H[a]? = some ({ cls := gZL Z (c - 100), slots := fs.toArray, vm := .none } : Cell)
/-- the heap holds the ghost's entries, all new; what is old is as it was -/
def HW (Z : gZ) (G : gH) (H : Heap) : Prop := H.size = G.2.1 ∧ (gZB Z).size ≤ H.size ∧ (∀ q, q < (gZB Z).size → H[q]? = (gZB Z)[q]?) ∧ ∀ a e, G.1 a = some e → (gZB Z).size ≤ a ∧ gAt Z a e H
theorem gAt.kept {Z : gZ} {a : Nat} {e : gE} {H H1 : Heap} (h : gAt Z a e H) (hq : H1[a]? = H[a]?) : gAt Z a e H1 := by
  obtain ⟨t, x⟩ | ⟨c, fs⟩ := e
  · exact ⟨h.1, hq.trans h.2⟩
  · unfold gAt at h ⊢
    dsimp only at h ⊢
    split
    · rename_i hc
      rw [if_pos hc] at h
      exact va_at.kept (q := (a, .inr (c, fs))) h hq
    · rename_i hc
      rw [if_neg hc] at h
      exact hq.trans h
theorem gAt.lt {Z : gZ} {a : Nat} {e : gE} {H : Heap} (h : gAt Z a e H) : a < H.size := by
  obtain ⟨t, x⟩ | ⟨c, fs⟩ := e
  · exact (Array.getElem?_eq_some_iff.mp h.2).1
  · unfold gAt at h
    dsimp only at h
    split at h
    · exact va_at.lt (q := (a, .inr (c, fs))) h
    · exact (Array.getElem?_eq_some_iff.mp h).1
theorem gAt.obj {Z : gZ} {a c : Nat} {fs : List Value} {H : Heap} (h : gAt Z a (.inr (c, fs)) H) (hc : c < 13) : va_at (gZD Z) gcl (a, .inr (c, fs)) H := by
  unfold gAt at h
  dsimp only at h
  rw [if_pos hc] at h
  exact h
theorem HW.set {Z : gZ} {G : gH} {H H1 : Heap} {a : Nat} {e0 e : gE} (h : HW Z G H) (ha : G.1 a = some e0) (z : H1.size = H.size) (oq : ∀ q : Nat, q ≠ a → H1[q]? = H[q]?) (he : gAt Z a e H1) : HW Z (gset G a e) H1 := by
  obtain ⟨h1, h2, h3, h4⟩ := h
  have hb := (h4 a e0 ha).1
  refine ⟨by rw [z]; exact h1, by rw [z]; exact h2, fun q hq => ?_, fun b e' hb' => ?_⟩
  · rw [oq q (by omega)]
    exact h3 q hq
  · by_cases hab : b = a
    · subst hab
      simp only [gset, if_pos] at hb'
      cases hb'
      exact ⟨hb, he⟩
    · simp only [gset, if_neg hab] at hb'
      exact ⟨(h4 b e' hb').1, (h4 b e' hb').2.kept (oq b hab)⟩
theorem HW.new {Z : gZ} {G : gH} {H H1 : Heap} {e : gE} (n : Nat) (h : HW Z G H) (z : H1.size = H.size + 1) (oq : ∀ q : Nat, q < H.size → H1[q]? = H[q]?) (he : gAt Z H.size e H1) : HW Z (gnew G e n) H1 := by
  obtain ⟨h1, h2, h3, h4⟩ := h
  refine ⟨by rw [z, h1]; rfl, by omega, fun q hq => ?_, fun b e' hb' => ?_⟩
  · rw [oq q (by omega)]
    exact h3 q hq
  · by_cases hab : b = G.2.1
    · rw [← h1] at hab
      subst hab
      simp only [gnew, ← h1, if_pos] at hb'
      cases hb'
      exact ⟨h2, he⟩
    · simp only [gnew, if_neg hab] at hb'
      have q := (h4 b e' hb').2
      exact ⟨(h4 b e' hb').1, q.kept (oq b q.lt)⟩
theorem HW.junk {Z : gZ} {G : gH} {H H1 : Heap} (n : Nat) (h : HW Z G H) (z : H1.size = H.size + 1) (oq : ∀ q : Nat, q < H.size → H1[q]? = H[q]?) : HW Z (gjunk G n) H1 := by
  obtain ⟨h1, h2, h3, h4⟩ := h
  refine ⟨by rw [z, h1]; rfl, by omega, fun q hq => ?_, fun b e' hb' => ?_⟩
  · rw [oq q (by omega)]
    exact h3 q hq
  · have q := (h4 b e' hb').2
    exact ⟨(h4 b e' hb').1, q.kept (oq b q.lt)⟩
/-- locals: what the ghost's list says is held; a long or a double lies in the places S alone -/
def glv (S : Nat → Bool) (n : Nat) (arr : Array Slot) (ls : gL) : Prop := arr.size = n ∧ lv_wf arr ∧ (∀ (k : Nat) (v : Value), ls[k]? = some (some v) → v.category = 2 → S k = true) ∧ ∀ (k : Nat) (v : Value), ls[k]? = some (some v) → arr[k]? = some (.val v)
def gas (ls : gL) : List (Nat × Value) := ls.zipIdx.filterMap fun q => q.1.map fun v => (q.2, v)
theorem gas_mem {ls : gL} {k : Nat} {v : Value} : (k, v) ∈ gas ls ↔ ls[k]? = some (some v) := by
  simp only [gas, List.mem_filterMap, Option.map_eq_some_iff, Prod.exists, Prod.mk.injEq]
  constructor
  · rintro ⟨o, i, h, w, rfl, rfl, rfl⟩
    simpa using List.mk_mem_zipIdx_iff_getElem?.mp h
  · intro h
    exact ⟨some v, k, List.mk_mem_zipIdx_iff_getElem?.mpr h, v, rfl, rfl, rfl⟩
theorem glv.has {S : Nat → Bool} {n : Nat} {arr : Array Slot} {ls : gL} (h : glv S n arr ls) : lv_has arr n (gas ls) := ⟨h.1, h.2.1, fun q hq => h.2.2.2 q.1 q.2 (gas_mem.mp hq)⟩
theorem glv.set {S : Nat → Bool} {n i : Nat} {arr : Array Slot} {ls : gL} {v : Value} (h : ∀ (k : Nat) (v : Value), ls[k]? = some (some v) → v.category = 2 → S k = true) (hS : ∀ j, j + 1 = i → S j = false) (hv : v.category = 1)
    (h2 : lv_has arr n ((i, v) :: (gas ls).filter (fun q => !(q.1 == i) && !(q.1 + 1 == i && q.2.category == 2)))) : glv S n arr (ls.set i (some v)) := by
  refine ⟨h2.1, h2.2.1, fun k w hk hw => ?_, fun k w hk => ?_⟩
  · by_cases hki : i = k
    · subst hki
      rw [List.getElem?_set] at hk
      split at hk
      · split at hk
        · cases hk; omega
        · cases hk
      · rename_i q; exact absurd rfl q
    · rw [List.getElem?_set_ne hki] at hk
      exact h k w hk hw
  · by_cases hki : i = k
    · subst hki
      rw [List.getElem?_set] at hk
      split at hk
      · split at hk
        · cases hk
          exact h2.2.2 (i, v) List.mem_cons_self
        · cases hk
      · rename_i q; exact absurd rfl q
    · rw [List.getElem?_set_ne hki] at hk
      refine h2.2.2 (k, w) (List.mem_cons_of_mem _ (List.mem_filter.mpr ⟨gas_mem.mpr hk, ?_⟩))
      simp only [Bool.and_eq_true, Bool.not_eq_true', beq_eq_false_iff_ne, ne_eq, Bool.and_eq_false_iff]
      refine ⟨fun q => hki q.symm, ?_⟩
      by_cases hk1 : k + 1 = i
      · right
        intro q
        have := h k w hk (by simpa using q)
        rw [hS k hk1] at this
        cases this
      · left; exact hk1
theorem glv.set2 {S : Nat → Bool} {n i : Nat} {arr : Array Slot} {ls : gL} {v : Value} (h : ∀ (k : Nat) (v : Value), ls[k]? = some (some v) → v.category = 2 → S k = true) (hS : ∀ j, j + 1 = i → S j = false) (hSi : S i = true)
    (h2 : lv_has arr n ((i, v) :: (gas ls).filter (fun q => !(q.1 == i) && (!(q.1 == i + 1) && !(q.1 + 1 == i && q.2.category == 2))))) : glv S n arr ((ls.set i (some v)).set (i + 1) none) := by
  refine ⟨h2.1, h2.2.1, fun k w hk hw => ?_, fun k w hk => ?_⟩
  · by_cases hk1 : i + 1 = k
    · subst hk1
      rw [List.getElem?_set] at hk
      split at hk
      · split at hk <;> cases hk
      · rename_i q; exact absurd rfl q
    · rw [List.getElem?_set_ne hk1] at hk
      by_cases hki : i = k
      · subst hki; exact hSi
      · rw [List.getElem?_set_ne hki] at hk
        exact h k w hk hw
  · by_cases hk1 : i + 1 = k
    · subst hk1
      rw [List.getElem?_set] at hk
      split at hk
      · split at hk <;> cases hk
      · rename_i q; exact absurd rfl q
    · rw [List.getElem?_set_ne hk1] at hk
      by_cases hki : i = k
      · subst hki
        rw [List.getElem?_set] at hk
        split at hk
        · split at hk
          · cases hk
            exact h2.2.2 (i, v) List.mem_cons_self
          · cases hk
        · rename_i q; exact absurd rfl q
      · rw [List.getElem?_set_ne hki] at hk
        refine h2.2.2 (k, w) (List.mem_cons_of_mem _ (List.mem_filter.mpr ⟨gas_mem.mpr hk, ?_⟩))
        simp only [Bool.and_eq_true, Bool.not_eq_true', beq_eq_false_iff_ne, ne_eq, Bool.and_eq_false_iff]
        refine ⟨fun q => hki q.symm, fun q => hk1 q.symm, ?_⟩
        by_cases hk1 : k + 1 = i
        · right
          intro q
          have := h k w hk (by simpa using q)
          rw [hS k hk1] at this
          cases this
        · left; exact hk1
