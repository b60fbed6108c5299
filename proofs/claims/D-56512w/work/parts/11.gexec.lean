/-! THE GHOST MACHINE RUN: with fuel, then without -/
set_option maxRecDepth 100000
def bR (o : Option gO) (f : Option Value → gH → Option gO) (h : Nat → gH → Option gO) : Option gO := match o with
  | none => none
  | some (.inl v, G) => f v G
  | some (.inr e, G) => h e G
theorem bR_ret (v : Option Value) (G : gH) (f : Option Value → gH → Option gO) (h : Nat → gH → Option gO) : bR (some (.inl v, G)) f h = f v G := rfl
theorem bR_thr (e : Nat) (G : gH) (f : Option Value → gH → Option gO) (h : Nat → gH → Option gO) : bR (some (.inr e, G)) f h = h e G := rfl
theorem bR_none (f : Option Value → gH → Option gO) (h : Nat → gH → Option gO) : bR none f h = none := rfl
def gent (mx : Nat) (as : List Value) : gL := as.map some ++ List.replicate (mx - as.length) none
/-- what becomes of a thrown E at mi, pc -/
def gthr (hd : Nat → Nat → Nat → Option (Option Int32)) (mi pc E : Nat) (G : gH) : Option gO := match hd mi pc E with
  | none => some (.inr E, G)
  | some none => none
  | some (some c) => some (.inl (some (.int c)), G)
def gexec (P : Nat → Nat → gS) (mx : Nat → Nat) (hd : Nat → Nat → Nat → Option (Option Int32)) : Nat → Nat → Nat → Nat → gL → List Value → gH → Option gO
  | 0, _, _, _, _, _, _ => none
  | n + 1, d, mi, pc, ls, st, G => match P mi pc ls st G with
    | none => none
    | some (.inl (pc', ls', st', G')) => gexec P mx hd n d mi pc' ls' st' G'
    | some (.inr (.inl (mi', as, pc', ls', st', G'))) => (match d with
      | 0 => none
      | d' + 1 => bR (gexec P mx hd n d' mi' 0 (gent (mx mi') as) [] G') (fun v G2 => gexec P mx hd n (d' + 1) mi pc' ls' (v.toList ++ st') G2) (fun E G2 => gthr hd mi pc E G2))
    | some (.inr (.inr r)) => some r
section
variable {P : Nat → Nat → gS} {mx : Nat → Nat} {hd : Nat → Nat → Nat → Option (Option Int32)}
theorem bR_mono {o o' : Option gO} {f f' : Option Value → gH → Option gO} {h : Nat → gH → Option gO} {r : gO} (ho : ∀ x, o = some x → o' = some x) (hf : ∀ v G, f v G = some r → f' v G = some r) (e : bR o f h = some r) : bR o' f' h = some r := by
  cases ho' : o with
  | none => rw [ho'] at e; cases e
  | some x =>
    rw [ho _ ho']
    rw [ho'] at e
    obtain ⟨x | x, G⟩ := x
    · exact hf _ _ e
    · exact e
theorem gexec_succ : ∀ (n d mi pc : Nat) (ls : gL) (st : List Value) (G : gH) (r : gO), gexec P mx hd n d mi pc ls st G = some r → gexec P mx hd (n + 1) d mi pc ls st G = some r := by
  intro n
  induction n with
  | zero => intro d mi pc ls st G r h; cases h
  | succ n ih =>
    intro d mi pc ls st G r h
    rw [gexec] at h ⊢
    cases hp : P mi pc ls st G with
    | none => rw [hp] at h; cases h
    | some x =>
      rw [hp] at h
      obtain ⟨pc', ls', st', G'⟩ | ⟨mi', as, pc', ls', st', G'⟩ | x := x
      · exact ih _ _ _ _ _ _ _ h
      · cases d with
        | zero => cases h
        | succ d => exact bR_mono (fun x hx => ih _ _ _ _ _ _ _ hx) (fun v G2 hx => ih _ _ _ _ _ _ _ hx) h
      · exact h
theorem gexec_le {n m d mi pc : Nat} {ls : gL} {st : List Value} {G : gH} {r : gO} (hnm : n ≤ m) (h : gexec P mx hd n d mi pc ls st G = some r) : gexec P mx hd m d mi pc ls st G = some r := by
  induction hnm with
  | refl => exact h
  | step _ ih => exact gexec_succ _ _ _ _ _ _ _ _ ih
theorem grun_ex (P : Nat → Nat → gS) (mx : Nat → Nat) (hd : Nat → Nat → Nat → Option (Option Int32)) (d mi pc : Nat) (ls : gL) (st : List Value) (G : gH) : ∃ o : Option gO, ∀ r, o = some r ↔ ∃ n, gexec P mx hd n d mi pc ls st G = some r := by
  rcases Classical.em (∃ r n, gexec P mx hd n d mi pc ls st G = some r) with ⟨r, n, h⟩ | h
  · refine ⟨some r, fun r' => ⟨fun e => ?_, fun ⟨m, hm⟩ => ?_⟩⟩
    · cases e
      exact ⟨n, h⟩
    · rcases Nat.le_total n m with q | q
      · exact (gexec_le q h).symm.trans hm
      · exact h.symm.trans (gexec_le q hm)
  · exact ⟨none, fun r => ⟨fun e => (by cases e), fun ⟨m, hm⟩ => absurd ⟨r, m, hm⟩ h⟩⟩
noncomputable def grun (P : Nat → Nat → gS) (mx : Nat → Nat) (hd : Nat → Nat → Nat → Option (Option Int32)) (d mi pc : Nat) (ls : gL) (st : List Value) (G : gH) : Option gO := Classical.choose (grun_ex P mx hd d mi pc ls st G)
theorem grun_iff {d mi pc : Nat} {ls : gL} {st : List Value} {G : gH} {r : gO} : grun P mx hd d mi pc ls st G = some r ↔ ∃ n, gexec P mx hd n d mi pc ls st G = some r := Classical.choose_spec (grun_ex P mx hd d mi pc ls st G) r
/-- a call -/
noncomputable def gcall (P : Nat → Nat → gS) (mx : Nat → Nat) (hd : Nat → Nat → Nat → Option (Option Int32)) (d mi : Nat) (as : List Value) (G : gH) : Option gO := match d with
  | 0 => none
  | d + 1 => grun P mx hd d mi 0 (gent (mx mi) as) [] G
theorem gopt_ext {a b : Option gO} (h : ∀ r, a = some r ↔ b = some r) : a = b := by
  cases ha : a with
  | none =>
    cases hb : b with
    | none => rfl
    | some x => exact absurd ((h x).mpr hb) (by rw [ha]; exact fun q => by cases q)
  | some x => exact ((h x).mp ha).symm
theorem grun_step {d mi pc pc' : Nat} {ls ls' : gL} {st st' : List Value} {G G' : gH} (h : P mi pc ls st G = some (.inl (pc', ls', st', G'))) : grun P mx hd d mi pc ls st G = grun P mx hd d mi pc' ls' st' G' := by
  refine gopt_ext fun r => ?_
  rw [grun_iff, grun_iff]
  constructor
  · rintro ⟨n, e⟩
    cases n with
    | zero => cases e
    | succ n => rw [gexec, h] at e; exact ⟨n, e⟩
  · rintro ⟨n, e⟩
    exact ⟨n + 1, by rw [gexec, h]; exact e⟩
theorem grun_fin {d mi pc : Nat} {ls : gL} {st : List Value} {G : gH} {r : gO} (h : P mi pc ls st G = some (.inr (.inr r))) : grun P mx hd d mi pc ls st G = some r := by
  rw [grun_iff]
  exact ⟨1, by rw [gexec, h]⟩
theorem grun_none {d mi pc : Nat} {ls : gL} {st : List Value} {G : gH} (h : P mi pc ls st G = none) : grun P mx hd d mi pc ls st G = none := by
  cases e : grun P mx hd d mi pc ls st G with
  | none => rfl
  | some r =>
    obtain ⟨n, hn⟩ := grun_iff.mp e
    cases n with
    | zero => cases hn
    | succ n => rw [gexec, h] at hn; cases hn
theorem grun_call {d mi pc pc' mi' : Nat} {as : List Value} {ls ls' : gL} {st st' : List Value} {G G' : gH} (h : P mi pc ls st G = some (.inr (.inl (mi', as, pc', ls', st', G')))) : grun P mx hd d mi pc ls st G = bR (gcall P mx hd d mi' as G') (fun v G2 => grun P mx hd d mi pc' ls' (v.toList ++ st') G2) (fun E G2 => gthr hd mi pc E G2) := by
  refine gopt_ext fun r => ?_
  rw [grun_iff]
  cases d with
  | zero =>
    constructor
    · rintro ⟨n, e⟩
      cases n with
      | zero => cases e
      | succ n => rw [gexec, h] at e; cases e
    · intro e; cases e
  | succ d =>
    constructor
    · rintro ⟨n, e⟩
      cases n with
      | zero => cases e
      | succ n =>
        rw [gexec, h] at e
        exact bR_mono (fun x hx => grun_iff.mpr ⟨n, hx⟩) (fun v G2 hx => grun_iff.mpr ⟨n, hx⟩) e
    · intro e
      show ∃ n, _
      cases hc : grun P mx hd d mi' 0 (gent (mx mi') as) [] G' with
      | none => rw [gcall, hc] at e; cases e
      | some x =>
        rw [gcall, hc] at e
        obtain ⟨n, hn⟩ := grun_iff.mp hc
        obtain ⟨x | x, G2⟩ := x
        · obtain ⟨m, hm⟩ := grun_iff.mp e
          refine ⟨n + m + 1, ?_⟩
          rw [gexec, h]
          show bR (gexec P mx hd (n + m) d mi' 0 (gent (mx mi') as) [] G') _ _ = _
          rw [gexec_le (Nat.le_add_right n m) hn]
          exact gexec_le (Nat.le_add_left m n) hm
        · refine ⟨n + 1, ?_⟩
          rw [gexec, h]
          show bR (gexec P mx hd n d mi' 0 (gent (mx mi') as) [] G') _ _ = _
          rw [hn]
          exact e
theorem gcall_eq {d mi : Nat} {as : List Value} {G : gH} : gcall P mx hd (d + 1) mi as G = grun P mx hd d mi 0 (gent (mx mi) as) [] G := rfl
end
