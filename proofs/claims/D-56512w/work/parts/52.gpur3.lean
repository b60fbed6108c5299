/-! PURE 3: calls, objects, arrays made, the constants -/
set_option maxRecDepth 100000
def kI (f : Int32 → gH → Option gO) (v : Option Value) (G : gH) : Option gO := match v with | some (.int x) => f x G | _ => none
abbrev cI (o : Option gO) (f : Int32 → gH → Option gO) : Option gO := bC o (kI f)
theorem gm_I {v : Option Value} {G2 : gH} {f : Int32 → gH → Option gO} {b : Option gO} (k : ∀ x, v = some (.int x) → gle (f x G2) b) : gle (kI f v G2) b := by
  unfold kI
  cases v with
  | none => exact gle.no
  | some v => cases v <;> first | exact k _ rfl | exact gle.no
def kJ (f : Int64 → gH → Option gO) (v : Option Value) (G : gH) : Option gO := match v with | some (.long x) => f x G | _ => none
abbrev cJ (o : Option gO) (f : Int64 → gH → Option gO) : Option gO := bC o (kJ f)
theorem gm_J {v : Option Value} {G2 : gH} {f : Int64 → gH → Option gO} {b : Option gO} (k : ∀ x, v = some (.long x) → gle (f x G2) b) : gle (kJ f v G2) b := by
  unfold kJ
  cases v with
  | none => exact gle.no
  | some v => cases v <;> first | exact k _ rfl | exact gle.no
def kF (f : UInt32 → gH → Option gO) (v : Option Value) (G : gH) : Option gO := match v with | some (.float x) => f x G | _ => none
abbrev cF (o : Option gO) (f : UInt32 → gH → Option gO) : Option gO := bC o (kF f)
theorem gm_F {v : Option Value} {G2 : gH} {f : UInt32 → gH → Option gO} {b : Option gO} (k : ∀ x, v = some (.float x) → gle (f x G2) b) : gle (kF f v G2) b := by
  unfold kF
  cases v with
  | none => exact gle.no
  | some v => cases v <;> first | exact k _ rfl | exact gle.no
def kD (f : UInt64 → gH → Option gO) (v : Option Value) (G : gH) : Option gO := match v with | some (.double x) => f x G | _ => none
abbrev cD (o : Option gO) (f : UInt64 → gH → Option gO) : Option gO := bC o (kD f)
theorem gm_D {v : Option Value} {G2 : gH} {f : UInt64 → gH → Option gO} {b : Option gO} (k : ∀ x, v = some (.double x) → gle (f x G2) b) : gle (kD f v G2) b := by
  unfold kD
  cases v with
  | none => exact gle.no
  | some v => cases v <;> first | exact k _ rfl | exact gle.no
def kR (f : Nat → gH → Option gO) (v : Option Value) (G : gH) : Option gO := match v with | some (.ref x) => f x G | _ => none
abbrev cR (o : Option gO) (f : Nat → gH → Option gO) : Option gO := bC o (kR f)
theorem gm_R {v : Option Value} {G2 : gH} {f : Nat → gH → Option gO} {b : Option gO} (k : ∀ x, v = some (.ref x) → gle (f x G2) b) : gle (kR f v G2) b := by
  unfold kR
  cases v with
  | none => exact gle.no
  | some v => cases v <;> first | exact k _ rfl | exact gle.no
def kV (f : gH → Option gO) (v : Option Value) (G : gH) : Option gO := match v with | none => f G | _ => none
abbrev cV (o : Option gO) (f : gH → Option gO) : Option gO := bC o (kV f)
theorem gm_V {v : Option Value} {G2 : gH} {f : gH → Option gO} {b : Option gO} (k : v = none → gle (f G2) b) : gle (kV f v G2) b := by
  unfold kV
  cases v with
  | none => exact k rfl
  | some v => exact gle.no
section
variable {K : gK} {d mi pc n t : Nat} {ls : gL} {st r : List Value} {G : gH} {A B : Option gO}
theorem g_callS {mi' kk : Nat} {as : List Value} {f : Option Value → gH → Option gO} (h : gP K mi pc = o_callS mi' kk n) (hh : ∀ E, gHd mi pc E = none) (hc : kk ≤ st.length ∧ gW (st.drop kk) ≤ 8 ∧ gC1 (st.take kk) = true) (ha : (st.take kk).reverse = as) (k : ∀ v G2, gle (f v G2) (gRn K d mi n ls (v.toList ++ st.drop kk) G2)) : gle (bC (gCa K d mi' as G) f) (gRn K d mi pc ls st G) :=
  gle.cl hh (by rw [h]; unfold o_callS; rw [if_pos hc, ha]) k
theorem g_callV {c mi' kk b : Nat} {as : List Value} {f : Option Value → gH → Option gO} (h : gP K mi pc = o_callV c mi' kk n) (hh : ∀ E, gHd mi pc E = none) (hd : st.drop kk = .ref b :: r) (hc : gW r ≤ 8 ∧ gC1 (st.take kk) = true) (ha : (st.take kk).reverse = as) (k : ∀ v G2, gle (f v G2) (gRn K d mi n ls (v.toList ++ r) G2)) : gle (if g_cls G b = some c then bC (gCa K d mi' (.ref b :: as) G) f else none) (gRn K d mi pc ls st G) := by
  refine gle.ite _ (fun hb => gle.cl hh ?_ k) (fun _ => gle.no)
  rw [h]; unfold o_callV; rw [hd]; dsimp only; rw [hb]; dsimp only; rw [if_pos ⟨rfl, hc.1, hc.2⟩, ha]
theorem g_callI {mi' kk b : Nat} {as : List Value} {f : Option Value → gH → Option gO} (h : gP K mi pc = o_callI mi' kk n) (hh : ∀ E, gHd mi pc E = none) (hd : st.drop kk = .ref b :: r) (hc : gW r ≤ 8 ∧ gC1 (st.take kk) = true) (ha : (st.take kk).reverse = as) (k : ∀ v G2, gle (f v G2) (gRn K d mi n ls (v.toList ++ r) G2)) : gle (bC (gCa K d mi' (.ref b :: as) G) f) (gRn K d mi pc ls st G) := by
  refine gle.cl hh ?_ k
  rw [h]; unfold o_callI; rw [hd]; dsimp only; rw [if_pos hc, ha]
theorem g_objinit {a : Nat} (h : gP K mi pc = o_objinit n) (hc : gW r ≤ 8) (k : gle A (gRn K d mi n ls r G)) : gle A (gRn K d mi pc ls (.ref a :: r) G) := gle.st (by rw [h]; unfold o_objinit; dsimp only; rw [if_pos hc]) k
theorem g_new {c N : Nat} {fs : List Value} (h : gP K mi pc = o_new c fs N n) (k : gle A (gRn K d mi n ls (.ref G.2.1 :: st) (gnew G (.inr (c, fs)) N))) : gle A (gRn K d mi pc ls st G) := gle.st (by rw [h]; rfl) k
theorem g_newi {x : Int32} (h : gP K mi pc = o_newi t n) (k : ¬ (x < 0 ∨ 100000 < x.toNatClampNeg) → gle A (gRn K d mi n ls (.ref G.2.1 :: r) (gnew G (.inl (t, x.toNatClampNeg, .inl (fun _ => 0))) x.toNatClampNeg))) : gle (if x < 0 ∨ 100000 < x.toNatClampNeg then none else A) (gRn K d mi pc ls (.int x :: r) G) :=
  gle.ite _ (fun _ => gle.no) (fun hc => gle.st (by rw [h]; unfold o_newi; dsimp only; rw [if_neg hc]) (k hc))
theorem g_newl {x : Int32} (h : gP K mi pc = o_newl t n) (k : ¬ (x < 0 ∨ 100000 < x.toNatClampNeg) → gle A (gRn K d mi n ls (.ref G.2.1 :: r) (gnew G (.inl (t, x.toNatClampNeg, gLo (fun _ => 0))) x.toNatClampNeg))) : gle (if x < 0 ∨ 100000 < x.toNatClampNeg then none else A) (gRn K d mi pc ls (.int x :: r) G) :=
  gle.ite _ (fun _ => gle.no) (fun hc => gle.st (by rw [h]; unfold o_newl; dsimp only; rw [if_neg hc]) (k hc))
theorem g_newd {x : Int32} (h : gP K mi pc = o_newd t n) (k : ¬ (x < 0 ∨ 100000 < x.toNatClampNeg) → gle A (gRn K d mi n ls (.ref G.2.1 :: r) (gnew G (.inl (t, x.toNatClampNeg, gDo (fun _ => 0))) x.toNatClampNeg))) : gle (if x < 0 ∨ 100000 < x.toNatClampNeg then none else A) (gRn K d mi pc ls (.int x :: r) G) :=
  gle.ite _ (fun _ => gle.no) (fun hc => gle.st (by rw [h]; unfold o_newd; dsimp only; rw [if_neg hc]) (k hc))
theorem g_newq {x : Int32} (h : gP K mi pc = o_newq t n) (k : ¬ (x < 0 ∨ 100000 < x.toNatClampNeg) → gle A (gRn K d mi n ls (.ref G.2.1 :: r) (gnew G (.inl (t, x.toNatClampNeg, gQ (fun _ => none))) x.toNatClampNeg))) : gle (if x < 0 ∨ 100000 < x.toNatClampNeg then none else A) (gRn K d mi pc ls (.int x :: r) G) :=
  gle.ite _ (fun _ => gle.no) (fun hc => gle.st (by rw [h]; unfold o_newq; dsimp only; rw [if_neg hc]) (k hc))
def yQ (G : gH) (a t : Nat) (i : Int32) (x : Option Nat) (f : gH → Option gO) : Option gO := match g_qs G a t i x with | some G' => f G' | none => none
/-- Rule.allows -/
noncomputable def xAl (K : gK) (d : Nat) (G : gH) (a : Nat) (x : Int32) (m0 m1 m2 : Nat) (f : Option Value → gH → Option gO) : Option gO := if a = K.2 0 then bC (gCa K d m0 [.ref a, .int x] G) f else if a = K.2 1 then bC (gCa K d m1 [.ref a, .int x] G) f else if a = K.2 2 then bC (gCa K d m2 [.ref a, .int x] G) f else none
/-- Hindrance.find on a lambda that captures th, or on one of the two constants -/
noncomputable def xFi (K : gK) (d : Nat) (G : gH) (b on : Nat) (f : Option Value → gH → Option gO) : Option gO := match G.1 b with
  | some (.inr (c, [.ref th])) => if (100 ≤ c ∧ c < 105) ∧ g_cls G th = some 0 then bC (gCa K d (gLm (c - 100)) [.ref th, .ref on] G) f else none
  | none => if b = K.2 4 then bC (gCa K d (gLm 5) [.ref on] G) f else if b = K.2 5 then bC (gCa K d (gLm 6) [.ref on] G) f else none
  | _ => none
/-- a rule's letter -/
def xLt (K : gK) (a : Nat) (f : Int32 → Option gO) : Option gO := if a = K.2 0 then f 110 else if a = K.2 1 then f 104 else if a = K.2 2 then f 113 else none
/-- an array's length -/
def xL (K : gK) (G : gH) (a : Nat) (f : Int32 → Option gO) : Option gO := match G.1 a with | some (.inl (_, x)) => f (Int32.ofNat x.1) | some (.inr _) => none | none => if a = K.2 3 then f 0 else none
theorem g_alen {a : Nat} {f : Int32 → Option gO} (h : gP K mi pc = o_alen K n) (k : ∀ v, gle (f v) (gRn K d mi n ls (.int v :: r) G)) : gle (xL K G a f) (gRn K d mi pc ls (.ref a :: r) G) := by
  unfold xL
  split
  · rename_i t x hx
    exact gle.st (by rw [h]; unfold o_alen; dsimp only; rw [hx]) (k _)
  · exact gle.no
  · rename_i hx
    refine gle.ite _ (fun hc => gle.st ?_ (k _)) (fun _ => gle.no)
    rw [h]; unfold o_alen; dsimp only; rw [hx]; dsimp only; rw [if_pos hc]
theorem g_ccast {c a : Nat} (h : gP K mi pc = o_ccast c n) (k : gle A (gRn K d mi n ls (.ref a :: r) G)) : gle (if g_cls G a = some c then A else none) (gRn K d mi pc ls (.ref a :: r) G) :=
  gle.ite _ (fun hc => gle.st (by rw [h]; unfold o_ccast; dsimp only; rw [if_pos hc]) k) (fun _ => gle.no)
theorem g_slen {a : Nat} (h : gP K mi pc = o_slen K n) (k : gle A (gRn K d mi n ls (.int (Int32.ofNat K.1.2.1) :: r) G)) : gle (if a = K.1.1 then A else none) (gRn K d mi pc ls (.ref a :: r) G) :=
  gle.ite _ (fun hc => gle.st (by rw [h]; unfold o_slen; dsimp only; rw [if_pos hc]) k) (fun _ => gle.no)
theorem g_sld {a : Nat} {i : Int32} (h : gP K mi pc = o_sld K n) (k : gle A (gRn K d mi n ls (.int (K.1.2.2 i.toNatClampNeg) :: r) G)) : gle (if a = K.1.1 ∧ ¬ (i < 0 ∨ K.1.2.1 ≤ i.toNatClampNeg) then A else none) (gRn K d mi pc ls (.int i :: .ref a :: r) G) :=
  gle.ite _ (fun hc => gle.st (by rw [h]; unfold o_sld; dsimp only; rw [if_pos hc]) k) (fun _ => gle.no)
theorem g_aast {c a v : Nat} {i : Int32} {f : gH → Option gO} (h : gP K mi pc = o_aast t c n) (k : ∀ G2, gle (f G2) (gRn K d mi n ls r G2)) : gle (match g_cls G v with | some c' => if (c = 100 ∧ c' < 13) ∨ (c ≠ 100 ∧ c' = c) then (match g_qs G a t i (some v) with | some G' => f G' | none => none) else none | none => none) (gRn K d mi pc ls (.ref v :: .int i :: .ref a :: r) G) := by
  split
  · rename_i c' hc'
    refine gle.ite _ (fun hc => ?_) (fun _ => gle.no)
    split
    · rename_i G' hG
      exact gle.st (by rw [h]; unfold o_aast; dsimp only; rw [hc']; dsimp only; rw [if_pos hc, hG]) (k G')
    · exact gle.no
  · exact gle.no
theorem g_aastN {c a : Nat} {i : Int32} {f : gH → Option gO} (h : gP K mi pc = o_aast t c n) (k : ∀ G2, gle (f G2) (gRn K d mi n ls r G2)) : gle (yQ G a t i none f) (gRn K d mi pc ls (.null :: .int i :: .ref a :: r) G) := by
  unfold yQ
  split
  · rename_i G' hG
    exact gle.st (by rw [h]; unfold o_aast; dsimp only; rw [hG]) (k G')
  · exact gle.no
theorem g_aastR {c a v : Nat} {i : Int32} {f : gH → Option gO} (h : gP K mi pc = o_aast t c n) (k : ∀ G2, gle (f G2) (gRn K d mi n ls r G2)) : gle (if ∃ c', g_cls G v = some c' ∧ ((c = 100 ∧ c' < 13) ∨ (c ≠ 100 ∧ c' = c)) then yQ G a t i (some v) f else none) (gRn K d mi pc ls (.ref v :: .int i :: .ref a :: r) G) := by
  split
  · rename_i hc
    obtain ⟨c', h1, h2⟩ := hc
    unfold yQ
    split
    · rename_i G' hG
      exact gle.st (by rw [h]; unfold o_aast; dsimp only; rw [h1]; dsimp only; rw [if_pos h2, hG]) (k G')
    · exact gle.no
  · exact gle.no
theorem g_aastH {a v : Nat} {i : Int32} {f : gH → Option gO} (h : gP K mi pc = o_aastH K t n) (k : ∀ G2, gle (f G2) (gRn K d mi n ls r G2)) : gle (if g_isLam K G v = true then yQ G a t i (some v) f else none) (gRn K d mi pc ls (.ref v :: .int i :: .ref a :: r) G) := by
  refine gle.ite _ (fun hc => ?_) (fun _ => gle.no)
  unfold yQ
  split
  · rename_i G' hG
    exact gle.st (by rw [h]; unfold o_aastH; dsimp only; rw [if_pos hc, hG]) (k G')
  · exact gle.no
theorem g_letter {a : Nat} {f : Int32 → Option gO} (h : gP K mi pc = o_letter K n) (k : ∀ v, gle (f v) (gRn K d mi n ls (.int v :: r) G)) : gle (xLt K a f) (gRn K d mi pc ls (.ref a :: r) G) := by
  unfold xLt
  refine gle.ite _ (fun h0 => gle.st ?_ (k _)) (fun h0 => gle.ite _ (fun h1 => gle.st ?_ (k _)) (fun h1 => gle.ite _ (fun h2 => gle.st ?_ (k _)) (fun _ => gle.no)))
  · rw [h]; unfold o_letter; dsimp only; rw [if_pos h0]
  · rw [h]; unfold o_letter; dsimp only; rw [if_neg h0, if_pos h1]
  · rw [h]; unfold o_letter; dsimp only; rw [if_neg h0, if_neg h1, if_pos h2]
theorem g_allows {a m0 m1 m2 : Nat} {x : Int32} {f : Option Value → gH → Option gO} (h : gP K mi pc = o_allows K m0 m1 m2 n) (hh : ∀ E, gHd mi pc E = none) (hc : gW r ≤ 8) (k : ∀ v G2, gle (f v G2) (gRn K d mi n ls (v.toList ++ r) G2)) : gle (xAl K d G a x m0 m1 m2 f) (gRn K d mi pc ls (.int x :: .ref a :: r) G) := by
  unfold xAl
  refine gle.ite _ (fun h0 => gle.cl hh ?_ k) (fun h0 => gle.ite _ (fun h1 => gle.cl hh ?_ k) (fun h1 => gle.ite _ (fun h2 => gle.cl hh ?_ k) (fun _ => gle.no)))
  · rw [h]; unfold o_allows; dsimp only; rw [if_pos hc, if_pos h0]
  · rw [h]; unfold o_allows; dsimp only; rw [if_pos hc, if_neg h0, if_pos h1]
  · rw [h]; unfold o_allows; dsimp only; rw [if_pos hc, if_neg h0, if_neg h1, if_pos h2]
theorem g_indy {j th : Nat} (h : gP K mi pc = o_indy j n) (hc : gW r ≤ 8) (k : gle A (gRn K d mi n ls (.ref G.2.1 :: r) (gnew G (.inr (100 + j, [.ref th])) 1))) : gle A (gRn K d mi pc ls (.ref th :: r) G) := gle.st (by rw [h]; unfold o_indy; dsimp only; rw [if_pos hc]) k
theorem g_pushL {v : Value} (h : gP K mi pc = o_pushL v n) (hc : gW st ≤ 8) (k : gle A (gRn K d mi n ls (v :: st) G)) : gle A (gRn K d mi pc ls st G) := gle.st (by rw [h]; unfold o_pushL; rw [if_pos hc]) k
theorem g_multi {tq m kk : Nat} {x y : Int32} (h : gP K mi pc = o_multi tq t m kk n) (hx : x = nI m) (hy : y = nI kk) (k : gle A (gRn K d mi n ls (.ref G.2.1 :: r) (g_rows t kk m (gnew G (.inl (tq, m, gQ (fun j => if j < m then some (G.2.1 + 1 + j) else none))) m)))) : gle A (gRn K d mi pc ls (.int y :: .int x :: r) G) := gle.st (by rw [h]; unfold o_multi; dsimp only; rw [if_pos ⟨hx, hy⟩]) k
def g_akind (G : gH) (a : Nat) : Option Nat := match G.1 a with | some (.inl (t, _)) => some t | _ => none
theorem g_akind_some {G : gH} {a t : Nat} (h : g_akind G a = some t) : ∃ x, G.1 a = some (.inl (t, x)) := by
  unfold g_akind at h
  split at h
  · rename_i t' x hx
    cases h
    exact ⟨x, hx⟩
  · cases h
theorem g_acast {a : Nat} (h : gP K mi pc = o_acast t n) (k : gle A (gRn K d mi n ls (.ref a :: r) G)) : gle (if g_akind G a = some t then A else none) (gRn K d mi pc ls (.ref a :: r) G) := by
  split
  · rename_i hc
    obtain ⟨x, hx⟩ := g_akind_some hc
    exact gle.st (by rw [h]; unfold o_acast; dsimp only; rw [hx]; dsimp only; rw [if_pos rfl]) k
  · exact gle.no
theorem g_getClass {a : Nat} (h : gP K mi pc = o_getClass K n) (hc : gW r ≤ 8) (k : gle A (gRn K d mi n ls (.ref (K.2 6) :: r) G)) : gle (if g_akind G a = some 5 then A else none) (gRn K d mi pc ls (.ref a :: r) G) := by
  split
  · rename_i hq
    obtain ⟨x, hx⟩ := g_akind_some hq
    exact gle.st (by rw [h]; unfold o_getClass; dsimp only; rw [hx]; dsimp only; rw [if_pos ⟨rfl, hc⟩]) k
  · exact gle.no
/-- System.arraycopy -/
def wC (ls : gL) (st : List Value) (G : gH) (n : Nat) (f : gH → Option gO) : Option gO := match o_copy n ls st G with | some (.inl (_, _, _, G')) => f G' | _ => none
theorem g_copy {s D : Nat} {sp dp len : Int32} {f : gH → Option gO} (h : gP K mi pc = o_copy n) (k : ∀ G2, gle (f G2) (gRn K d mi n ls r G2)) : gle (wC ls (.int len :: .int dp :: .ref D :: .int sp :: .ref s :: r) G n f) (gRn K d mi pc ls (.int len :: .int dp :: .ref D :: .int sp :: .ref s :: r) G) := by
  unfold wC
  split
  · rename_i pc' ls' st' G' he
    have he' := he
    unfold o_copy at he'
    dsimp only at he'
    split at he'
    · split at he' <;> cases he'
      exact gle.st (by rw [h]; exact he) (k _)
    · cases he'
  · exact gle.no
theorem g_find {b on : Nat} {f : Option Value → gH → Option gO} (h : gP K mi pc = o_find K gLm n) (hh : ∀ E, gHd mi pc E = none) (hc : gW r ≤ 8) (k : ∀ v G2, gle (f v G2) (gRn K d mi n ls (v.toList ++ r) G2)) : gle (xFi K d G b on f) (gRn K d mi pc ls (.ref on :: .ref b :: r) G) := by
  unfold xFi
  split
  · rename_i c th hG
    refine gle.ite _ (fun h0 => gle.cl hh ?_ k) (fun _ => gle.no)
    rw [h]; unfold o_find; dsimp only; rw [if_pos hc, hG]; dsimp only; rw [if_pos h0.1, if_pos h0.2]
  · rename_i hG
    refine gle.ite _ (fun h0 => gle.cl hh ?_ k) (fun h0 => gle.ite _ (fun h1 => gle.cl hh ?_ k) (fun _ => gle.no))
    · rw [h]; unfold o_find; dsimp only; rw [if_pos hc, hG]; dsimp only; rw [if_pos h0]
    · rw [h]; unfold o_find; dsimp only; rw [if_pos hc, hG]; dsimp only; rw [if_neg h0, if_pos h1]
  · exact gle.no
end
