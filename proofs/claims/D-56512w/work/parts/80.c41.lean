/-! PURE 80: a style's parts, in any order -/
set_option maxRecDepth 100000
section
variable {M : gM} {i n : Nat} {ps : List (Nat × Int)}
def cps (M : gM) (i n : Nat) : List (Nat × Int) := ((List.range n).filter (fun s => decide (M.2 218 (8 * i + s) ≠ 0))).map (fun s => (s, M.2 218 (8 * i + s)))
theorem cps_s : cps M i (n + 1) = cps M i n ++ (if M.2 218 (8 * i + n) ≠ 0 then [(n, M.2 218 (8 * i + n))] else []) := by
  unfold cps
  rw [List.range_succ, List.filter_append, List.map_append]
  congr 1
  by_cases e : M.2 218 (8 * i + n) ≠ 0
  · rw [if_pos e, show [n].filter (fun s => decide (M.2 218 (8 * i + s) ≠ 0)) = [n] from List.filter_cons_of_pos (p := fun s => decide (M.2 218 (8 * i + s) ≠ 0)) (decide_eq_true e)]; rfl
  · rw [if_neg e, show [n].filter (fun s => decide (M.2 218 (8 * i + s) ≠ 0)) = [] from List.filter_cons_of_neg (p := fun s => decide (M.2 218 (8 * i + s) ≠ 0)) (by rw [decide_eq_false e]; decide)]; rfl
theorem fold_cps {β : Type} (f : β → Nat × Int → β) (h0 : ∀ z s, f z (s, 0) = z) (g : Nat → β) (hg : ∀ n, g (n + 1) = f (g n) (n, M.2 218 (8 * i + n))) : ∀ n, (cps M i n).foldl f (g 0) = g n
  | 0 => rfl
  | n + 1 => by
    rw [cps_s, List.foldl_append, fold_cps f h0 g hg n, hg n]
    by_cases e : M.2 218 (8 * i + n) ≠ 0
    · rw [if_pos e]; rfl
    · rw [if_neg e, Classical.not_not.mp e, h0]; rfl
theorem mem_cps {q : Nat × Int} : q ∈ cps M i n ↔ q.1 < n ∧ M.2 218 (8 * i + q.1) = q.2 ∧ q.2 ≠ 0 := by
  unfold cps
  rw [List.mem_map]
  constructor
  · rintro ⟨s, h1, rfl⟩
    obtain ⟨h2, h3⟩ := List.mem_filter.mp h1
    exact ⟨List.mem_range.mp h2, rfl, of_decide_eq_true h3⟩
  · rintro ⟨h1, h2, h3⟩
    exact ⟨q.1, List.mem_filter.mpr ⟨List.mem_range.mpr h1, decide_eq_true (by rw [h2]; exact h3)⟩, Prod.ext rfl h2⟩
theorem nd_fst {l : List (Nat × Int)} (h : (l.map Prod.fst).Nodup) : l.Nodup := (List.pairwise_map.mp h).imp (fun h e => h (by rw [e]))
theorem cps_nd : ∀ n, ((cps M i n).map Prod.fst).Nodup := fun n => by
  unfold cps
  rw [List.map_map]
  have : (Prod.fst ∘ fun s => (s, M.2 218 (8 * i + s))) = (id : Nat → Nat) := rfl
  rw [this, List.map_id]
  exact List.Pairwise.filter _ List.nodup_range
/-- the parts are those of the model -/
theorem PSW.perm (h : PSW ps M i n) (hn : n ≤ 8) : ps.Perm (cps M i n) := by
  refine (List.perm_ext_iff_of_nodup (nd_fst h.1) (nd_fst (cps_nd n))).mpr fun q => ?_
  rw [mem_cps]
  constructor
  · intro hq
    obtain ⟨h1, h2, h3⟩ := h.2.1 q hq
    exact ⟨h1, h2, by omega⟩
  · rintro ⟨h1, h2, h3⟩
    have := h.2.2 q.1 (by omega) (by rw [h2]; exact h3)
    rw [h2] at this
    exact this
theorem PSW.fold (h : PSW ps M i n) (hn : n ≤ 8) {β : Type} (f : β → Nat × Int → β) (hc : ∀ x y z, f (f z x) y = f (f z y) x) (h0 : ∀ z s, f z (s, 0) = z) (g : Nat → β) (hg : ∀ n, g (n + 1) = f (g n) (n, M.2 218 (8 * i + n))) : ps.foldl f (g 0) = g n := by
  rw [(h.perm hn).foldl_eq' (fun x _ y _ z => hc x y z)]
  exact fold_cps f h0 g hg n
theorem PSW.nil (h : PSW ps M i n) (hn : n ≤ 8) : ps = [] ↔ ∀ s, s < n → M.2 218 (8 * i + s) = 0 := by
  constructor
  · intro e s hs
    refine Classical.byContradiction fun h0 => ?_
    have := h.2.2 s (by omega) h0
    rw [e] at this; cases this
  · intro e
    cases ps with
    | nil => rfl
    | cons q l =>
      obtain ⟨h1, h2, h3⟩ := h.2.1 q List.mem_cons_self
      have := e q.1 h1
      omega
end
