/-! PURE 1: trees of reads, writes, choices and calls; a run that is at least what its tree says -/
set_option maxRecDepth 100000
/-- b gives what a gives -/
def gle (a b : Option gO) : Prop := ∀ r, a = some r → b = some r
theorem gle.rf (a : Option gO) : gle a a := fun _ h => h
theorem gle.eq {a b : Option gO} (h : a = b) : gle a b := fun _ e => h ▸ e
theorem gle.tr {a b c : Option gO} (h1 : gle a b) (h2 : gle b c) : gle a c := fun r h => h2 r (h1 r h)
theorem gle.no {b : Option gO} : gle none b := fun _ h => by cases h
/-- the run of method mi from pc -/
noncomputable abbrev gRn (K : gK) (d mi pc : Nat) (ls : gL) (st : List Value) (G : gH) : Option gO := grun (gP K) gMx gHd d mi pc ls st G
noncomputable abbrev gCa (K : gK) (d mi : Nat) (as : List Value) (G : gH) : Option gO := gcall (gP K) gMx gHd d mi as G
theorem gle.st {K : gK} {d mi pc pc' : Nat} {ls ls' : gL} {st st' : List Value} {G G' : gH} {a : Option gO} (h : gP K mi pc ls st G = some (.inl (pc', ls', st', G'))) (k : gle a (gRn K d mi pc' ls' st' G')) : gle a (gRn K d mi pc ls st G) := fun r e => (grun_step h).trans (k r e)
theorem gle.fin {K : gK} {d mi pc : Nat} {ls : gL} {st : List Value} {G : gH} {r : gO} (h : gP K mi pc ls st G = some (.inr (.inr r))) : gle (some r) (gRn K d mi pc ls st G) := fun r' e => by cases e; exact grun_fin h
/-- a call whose exceptions go on -/
def bC (o : Option gO) (f : Option Value → gH → Option gO) : Option gO := bR o f (fun E G => some (.inr E, G))
theorem gle.cl {K : gK} {d mi pc pc' mi' : Nat} {as : List Value} {ls ls' : gL} {st st' : List Value} {G G' : gH} {f : Option Value → gH → Option gO} (hh : ∀ E, gHd mi pc E = none) (h : gP K mi pc ls st G = some (.inr (.inl (mi', as, pc', ls', st', G')))) (k : ∀ v G2, gle (f v G2) (gRn K d mi pc' ls' (v.toList ++ st') G2)) : gle (bC (gCa K d mi' as G') f) (gRn K d mi pc ls st G) := by
  intro r e
  refine (grun_call h).trans ?_
  unfold bC at e
  cases hc : gCa K d mi' as G' with
  | none => rw [hc] at e; cases e
  | some x =>
    rw [hc] at e
    have hc' : gcall (gP K) gMx gHd d mi' as G' = some x := hc
    rw [hc']
    obtain ⟨v | E, G2⟩ := x
    · exact k v G2 r e
    · show gthr gHd mi pc E G2 = some r
      unfold gthr
      rw [hh]
      exact e
def rI (G : gH) (a c k : Nat) (f : Int32 → Option gO) : Option gO := match g_gf G a c k with | some (.int v) => f v | _ => none
def rJ (G : gH) (a c k : Nat) (f : Int64 → Option gO) : Option gO := match g_gf G a c k with | some (.long v) => f v | _ => none
def rR (G : gH) (a c k : Nat) (f : Nat → Option gO) : Option gO := match g_gf G a c k with | some (.ref v) => f v | _ => none
/-- a reference that may be null -/
def rN (G : gH) (a c k : Nat) (f : Option Nat → Option gO) : Option gO := match g_gf G a c k with | some (.ref v) => f (some v) | some .null => f none | _ => none
def wF (G : gH) (a c k : Nat) (v : Value) (f : gH → Option gO) : Option gO := match g_pf G a c k v with | some G' => f G' | none => none
def xI (G : gH) (a t : Nat) (i : Int32) (f : Int32 → Option gO) : Option gO := match g_ia G a t i with | some x => f x | none => none
def xJ (G : gH) (a : Nat) (i : Int32) (f : Int64 → Option gO) : Option gO := match g_la G a 3 i with | some x => f x | none => none
def xD (G : gH) (a : Nat) (i : Int32) (f : UInt64 → Option gO) : Option gO := match g_da G a 4 i with | some x => f x | none => none
def xQ (G : gH) (a t : Nat) (i : Int32) (f : Nat → Option gO) : Option gO := match g_qa G a t i with | some (some x) => f x | _ => none
def yI (G : gH) (a t : Nat) (i x : Int32) (f : gH → Option gO) : Option gO := match g_is G a t i x with | some G' => f G' | none => none
def yJ (G : gH) (a : Nat) (i : Int32) (x : Int64) (f : gH → Option gO) : Option gO := match g_lst G a 3 i x with | some G' => f G' | none => none
def yD (G : gH) (a : Nat) (i : Int32) (x : UInt64) (f : gH → Option gO) : Option gO := match g_ds G a 4 i x with | some G' => f G' | none => none
theorem gle.ite {p : Prop} (h : Decidable p) {a b c : Option gO} (h1 : p → gle a c) (h2 : ¬ p → gle b c) : gle (@ite _ p h a b) c := by
  split
  · exact h1 ‹_›
  · exact h2 ‹_›
theorem gle.r_I {G : gH} {a c k : Nat} {f : Int32 → Option gO} {b : Option gO} (h : ∀ v, g_gf G a c k = some (.int v) → gle (f v) b) : gle (rI G a c k f) b := by
  unfold rI
  split
  · exact h _ ‹_›
  · exact gle.no
theorem gle.r_J {G : gH} {a c k : Nat} {f : Int64 → Option gO} {b : Option gO} (h : ∀ v, g_gf G a c k = some (.long v) → gle (f v) b) : gle (rJ G a c k f) b := by
  unfold rJ
  split
  · exact h _ ‹_›
  · exact gle.no
theorem gle.r_R {G : gH} {a c k : Nat} {f : Nat → Option gO} {b : Option gO} (h : ∀ v, g_gf G a c k = some (.ref v) → gle (f v) b) : gle (rR G a c k f) b := by
  unfold rR
  split
  · exact h _ ‹_›
  · exact gle.no
theorem gle.w_F {G : gH} {a c k : Nat} {v : Value} {f : gH → Option gO} {b : Option gO} (h : ∀ G', g_pf G a c k v = some G' → gle (f G') b) : gle (wF G a c k v f) b := by
  unfold wF
  split
  · exact h _ ‹_›
  · exact gle.no
theorem gle.x_I {G : gH} {a t : Nat} {i : Int32} {f : Int32 → Option gO} {b : Option gO} (h : ∀ x, g_ia G a t i = some x → gle (f x) b) : gle (xI G a t i f) b := by
  unfold xI
  split
  · exact h _ ‹_›
  · exact gle.no
theorem gle.x_Q {G : gH} {a t : Nat} {i : Int32} {f : Nat → Option gO} {b : Option gO} (h : ∀ x, g_qa G a t i = some (some x) → gle (f x) b) : gle (xQ G a t i f) b := by
  unfold xQ
  split
  · exact h _ ‹_›
  · exact gle.no
theorem gle.y_I {G : gH} {a t : Nat} {i x : Int32} {f : gH → Option gO} {b : Option gO} (h : ∀ G', g_is G a t i x = some G' → gle (f G') b) : gle (yI G a t i x f) b := by
  unfold yI
  split
  · exact h _ ‹_›
  · exact gle.no
