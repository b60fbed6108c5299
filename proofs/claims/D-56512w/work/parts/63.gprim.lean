/-! PURE 7: the trees' words, one step each -/
def dI (o : Option Value) (f : Int32 → Option gO) : Option gO := match o with | some (.int v) => f v | _ => none
def dJ (o : Option Value) (f : Int64 → Option gO) : Option gO := match o with | some (.long v) => f v | _ => none
def dR (o : Option Value) (f : Nat → Option gO) : Option gO := match o with | some (.ref v) => f v | _ => none
def dN (o : Option Value) (f : Option Nat → Option gO) : Option gO := match o with | some (.ref v) => f (some v) | some .null => f none | _ => none
def dH (o : Option gH) (f : gH → Option gO) : Option gO := match o with | some G => f G | none => none
def dX (o : Option Int32) (f : Int32 → Option gO) : Option gO := match o with | some v => f v | none => none
def dL (o : Option Int64) (f : Int64 → Option gO) : Option gO := match o with | some v => f v | none => none
def dD (o : Option UInt64) (f : UInt64 → Option gO) : Option gO := match o with | some v => f v | none => none
def dQ (o : Option (Option Nat)) (f : Nat → Option gO) : Option gO := match o with | some (some v) => f v | _ => none
theorem rI_d {G : gH} {a c k : Nat} {f : Int32 → Option gO} : rI G a c k f = dI (g_gf G a c k) f := rfl
theorem rJ_d {G : gH} {a c k : Nat} {f : Int64 → Option gO} : rJ G a c k f = dJ (g_gf G a c k) f := rfl
theorem rR_d {G : gH} {a c k : Nat} {f : Nat → Option gO} : rR G a c k f = dR (g_gf G a c k) f := rfl
theorem rN_d {G : gH} {a c k : Nat} {f : Option Nat → Option gO} : rN G a c k f = dN (g_gf G a c k) f := rfl
theorem wF_d {G : gH} {a c k : Nat} {v : Value} {f : gH → Option gO} : wF G a c k v f = dH (g_pf G a c k v) f := rfl
theorem xI_d {G : gH} {a t : Nat} {i : Int32} {f : Int32 → Option gO} : xI G a t i f = dX (g_ia G a t i) f := rfl
theorem xJ_d {G : gH} {a : Nat} {i : Int32} {f : Int64 → Option gO} : xJ G a i f = dL (g_la G a 3 i) f := rfl
theorem xD_d {G : gH} {a : Nat} {i : Int32} {f : UInt64 → Option gO} : xD G a i f = dD (g_da G a 4 i) f := rfl
theorem xQ_d {G : gH} {a t : Nat} {i : Int32} {f : Nat → Option gO} : xQ G a t i f = dQ (g_qa G a t i) f := rfl
theorem yI_d {G : gH} {a t : Nat} {i x : Int32} {f : gH → Option gO} : yI G a t i x f = dH (g_is G a t i x) f := rfl
theorem yJ_d {G : gH} {a : Nat} {i : Int32} {x : Int64} {f : gH → Option gO} : yJ G a i x f = dH (g_lst G a 3 i x) f := rfl
theorem yD_d {G : gH} {a : Nat} {i : Int32} {x : UInt64} {f : gH → Option gO} : yD G a i x f = dH (g_ds G a 4 i x) f := rfl
theorem yQ_d {G : gH} {a t : Nat} {i : Int32} {x : Option Nat} {f : gH → Option gO} : yQ G a t i x f = dH (g_qs G a t i x) f := rfl
theorem dI_s {v : Int32} {f : Int32 → Option gO} : dI (some (.int v)) f = f v := rfl
theorem dJ_s {v : Int64} {f : Int64 → Option gO} : dJ (some (.long v)) f = f v := rfl
theorem dR_s {v : Nat} {f : Nat → Option gO} : dR (some (.ref v)) f = f v := rfl
theorem dN_s {v : Nat} {f : Option Nat → Option gO} : dN (some (.ref v)) f = f (some v) := rfl
theorem dN_n {f : Option Nat → Option gO} : dN (some .null) f = f none := rfl
theorem dH_s {v : gH} {f : gH → Option gO} : dH (some v) f = f v := rfl
theorem dX_s {v : Int32} {f : Int32 → Option gO} : dX (some v) f = f v := rfl
theorem dL_s {v : Int64} {f : Int64 → Option gO} : dL (some v) f = f v := rfl
theorem dD_s {v : UInt64} {f : UInt64 → Option gO} : dD (some v) f = f v := rfl
theorem dQ_s {v : Nat} {f : Nat → Option gO} : dQ (some (some v)) f = f v := rfl
theorem bC_r {v : Option Value} {G : gH} {f : Option Value → gH → Option gO} : bC (some (.inl v, G)) f = f v G := rfl
theorem bC_t {e : Nat} {G : gH} {f : Option Value → gH → Option gO} : bC (some (.inr e, G)) f = some (.inr e, G) := rfl
theorem kI_s {v : Int32} {G : gH} {f : Int32 → gH → Option gO} : kI f (some (.int v)) G = f v G := rfl
theorem kJ_s {v : Int64} {G : gH} {f : Int64 → gH → Option gO} : kJ f (some (.long v)) G = f v G := rfl
theorem kF_s {v : UInt32} {G : gH} {f : UInt32 → gH → Option gO} : kF f (some (.float v)) G = f v G := rfl
theorem kD_s {v : UInt64} {G : gH} {f : UInt64 → gH → Option gO} : kD f (some (.double v)) G = f v G := rfl
theorem kR_s {v : Nat} {G : gH} {f : Nat → gH → Option gO} : kR f (some (.ref v)) G = f v G := rfl
theorem kV_s {G : gH} {f : gH → Option gO} : kV f none G = f G := rfl
/-- choice by a proposition -/
noncomputable def cif {α : Type} (p : Prop) (a b : α) : α := @ite α p (Classical.propDecidable p) a b
theorem cifT {α : Type} {p : Prop} {a b : α} (h : p) : cif p a b = a := @if_pos p (Classical.propDecidable p) h α a b
theorem cifF {α : Type} {p : Prop} {a b : α} (h : ¬ p) : cif p a b = b := @if_neg p (Classical.propDecidable p) h α a b
theorem cif_of {α : Type} {p q : Prop} {a b a' b' : α} (h : p ↔ q) (ha : q → a = a') (hb : ¬ q → b = b') : cif p a b = cif q a' b' := by
  by_cases hq : q
  · rw [cifT hq, cifT (h.mpr hq), ha hq]
  · rw [cifF hq, cifF (fun e => hq (h.mp e)), hb hq]
/-- 1 or 0 -/
noncomputable def b2 (p : Prop) : Int := cif p 1 0
theorem b2T {p : Prop} (h : p) : b2 p = 1 := cifT h
theorem b2F {p : Prop} (h : ¬ p) : b2 p = 0 := cifF h
theorem b2_01 (p : Prop) : 0 ≤ b2 p ∧ b2 p ≤ 1 := by
  by_cases h : p
  · rw [b2T h]; decide
  · rw [b2F h]; decide
theorem b2_of {p q : Prop} (h : p ↔ q) : b2 p = b2 q := cif_of h (fun _ => rfl) (fun _ => rfl)
theorem b2_eq1 {p : Prop} : b2 p = 1 ↔ p := by
  by_cases h : p
  · rw [b2T h]; exact ⟨fun _ => h, fun _ => rfl⟩
  · rw [b2F h]; exact ⟨fun e => (by cases e), fun e => absurd e h⟩
theorem b2_eq0 {p : Prop} : b2 p = 0 ↔ ¬ p := by
  by_cases h : p
  · rw [b2T h]; exact ⟨fun e => (by cases e), fun e => absurd h e⟩
  · rw [b2F h]; exact ⟨fun _ => h, fun _ => rfl⟩
theorem d_succ {d n : Nat} (h : n + 1 ≤ d) : ∃ e, d = e + 1 ∧ n ≤ e := ⟨d - 1, by omega, by omega⟩
theorem b2_f : b2 False = 0 := b2F (fun h => h)
theorem b2_t : b2 True = 1 := b2T trivial
theorem I_neg (a : Int) : -I a = I (-a) := (Int32.ofInt_neg a).symm
section
variable {B : gB}
theorem sI_eq {o k k' : Nat} {v : Int} (h : k' = k) : (sI B o k v).1 o k' = v := if_pos ⟨rfl, h⟩
theorem sI_ne {o k o' k' : Nat} {v : Int} (h : o' ≠ o ∨ k' ≠ k) : (sI B o k v).1 o' k' = B.1 o' k' := if_neg (by rintro ⟨h1, h2⟩; omega)
theorem sI_21 {o k : Nat} {v : Int} : (sI B o k v).2.1 = B.2.1 := rfl
theorem sI_22 {o k : Nat} {v : Int} : (sI B o k v).2.2 = B.2.2 := rfl
theorem sA_eq {o j j' : Nat} {v : Int} (h : j' = j) : (sA B o j v).2.1 o j' = v := if_pos ⟨rfl, h⟩
theorem sA_ne {o j o' j' : Nat} {v : Int} (h : o' ≠ o ∨ j' ≠ j) : (sA B o j v).2.1 o' j' = B.2.1 o' j' := if_neg (by rintro ⟨h1, h2⟩; omega)
/-- alike but for the scratch of a turned piece and of a nest -/
def SC (B B' : gB) : Prop := (∀ o k, (o ≠ 198 ∨ (k ≠ 33 ∧ k ≠ 36 ∧ k ≠ 37 ∧ k ≠ 38 ∧ k ≠ 39)) → B'.1 o k = B.1 o k) ∧ (∀ o, o ≠ 220 → o ≠ 221 → B'.2.1 o = B.2.1 o) ∧ B'.2.2 = B.2.2
theorem SC.rf : SC B B := ⟨fun _ _ _ => rfl, fun _ _ _ => rfl, rfl⟩
theorem SC.tr {B' B'' : gB} (h : SC B B') (h' : SC B' B'') : SC B B'' := ⟨fun o k q => (h'.1 o k q).trans (h.1 o k q), fun o q1 q2 => (h'.2.1 o q1 q2).trans (h.2.1 o q1 q2), h'.2.2.trans h.2.2⟩
theorem scI {k : Nat} {v : Int} (h : k = 33 ∨ k = 36 ∨ k = 37 ∨ k = 38 ∨ k = 39) : SC B (sI B 198 k v) := ⟨fun o' k' q => sI_ne (by omega), fun _ _ _ => rfl, rfl⟩
theorem scA {o j : Nat} {v : Int} (h : o = 220 ∨ o = 221) : SC B (sA B o j v) := ⟨fun _ _ _ => rfl, fun o' q1 q2 => funext fun j' => sA_ne (by omega), rfl⟩
theorem SC.f {B' : gB} (h : SC B B') {o k : Nat} (q : o ≠ 198 ∨ (k ≠ 33 ∧ k ≠ 36 ∧ k ≠ 37 ∧ k ≠ 38 ∧ k ≠ 39)) : B'.1 o k = B.1 o k := h.1 o k q
theorem SC.a {B' : gB} (h : SC B B') {o j : Nat} (q : o ≠ 220 ∧ o ≠ 221) : B'.2.1 o j = B.2.1 o j := congrFun (h.2.1 o q.1 q.2) j
/-- ... of a turned piece alone -/
def ST (B B' : gB) : Prop := SC B B' ∧ ∀ k, 37 ≤ k → k ≤ 39 → B'.1 198 k = B.1 198 k
theorem ST.rf : ST B B := ⟨SC.rf, fun _ _ _ => rfl⟩
theorem ST.tr {B' B'' : gB} (h : ST B B') (h' : ST B' B'') : ST B B'' := ⟨h.1.tr h'.1, fun k q1 q2 => (h'.2 k q1 q2).trans (h.2 k q1 q2)⟩
theorem stI {k : Nat} {v : Int} (h : k = 33 ∨ k = 36) : ST B (sI B 198 k v) := ⟨scI (by omega), fun k' q1 q2 => sI_ne (by omega)⟩
theorem stcA {o j : Nat} {v : Int} (h : o = 220 ∨ o = 221) : ST B (sA B o j v) := ⟨scA h, fun _ _ _ => rfl⟩
end
theorem cif_T {α : Type} {a b : α} : cif True a b = a := cifT trivial
theorem cif_F {α : Type} {a b : α} : cif False a b = b := cifF (fun h => h)
theorem iltT {a b : Int} (h : a < b) : (a < b) = True := eq_true h
theorem iltF {a b : Int} (h : b ≤ a) : (a < b) = False := eq_false (by omega)
theorem ileT {a b : Int} (h : a ≤ b) : (a ≤ b) = True := eq_true h
theorem ileF {a b : Int} (h : b < a) : (a ≤ b) = False := eq_false (by omega)
theorem ieqT {a b : Int} (h : a = b) : (a = b) = True := eq_true h
theorem ieqF {a b : Int} (h : a ≠ b) : (a = b) = False := eq_false h
theorem c_boolF {z : Int} (h : 0 ≤ z ∧ z ≤ 1) : (fits .boolean (.int (I z)) = true) = True := by
  rcases (show z = 0 ∨ z = 1 by omega) with rfl | rfl <;> decide
