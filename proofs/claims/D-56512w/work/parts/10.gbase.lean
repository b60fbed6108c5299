/-! THE GHOST MACHINE: entries of a memory, a machine over them by step functions, its results -/
set_option maxRecDepth 100000
/-- an array (kind, contents) or an object (class, fields) -/
abbrev gE : Type := (Nat × vp_A) ⊕ (Nat × List Value)
/-- memory, next address, slots used -/
abbrev gH : Type := (Nat → Option gE) × Nat × Nat
/-- the script (address, length, contents); the addresses of constants: 0 FIXED, 1 HALF, 2 QUARTER, 3 the empty array, 4 5 the lambdas that capture nothing, 6 the mirror of Object[] -/
abbrev gK : Type := (Nat × Nat × (Nat → Int32)) × (Nat → Nat)
abbrev gL : Type := List (Option Value)
/-- returned, or thrown; and the memory behind it -/
abbrev gO : Type := (Option Value ⊕ Nat) × gH
abbrev gN : Type := Nat × gL × List Value × gH
abbrev gC : Type := Nat × List Value × Nat × gL × List Value × gH
abbrev gR : Type := gN ⊕ (gC ⊕ gO)
abbrev gS : Type := gL → List Value → gH → Option gR
def gset (G : gH) (a : Nat) (e : gE) : gH := (fun q => if q = a then some e else G.1 q, G.2.1, G.2.2)
def gnew (G : gH) (e : gE) (n : Nat) : gH := (fun q => if q = G.2.1 then some e else G.1 q, G.2.1 + 1, G.2.2 + n)
/-- a cell that nobody reads -/
def gjunk (G : gH) (n : Nat) : gH := (G.1, G.2.1 + 1, G.2.2 + n)
abbrev gQ (f : Nat → Option Nat) : (Nat → Int32) ⊕ (Nat → Int64) ⊕ (Nat → UInt32) ⊕ (Nat → UInt64) ⊕ (Nat → Option Nat) := .inr (.inr (.inr (.inr f)))
abbrev gLo (f : Nat → Int64) : (Nat → Int32) ⊕ (Nat → Int64) ⊕ (Nat → UInt32) ⊕ (Nat → UInt64) ⊕ (Nat → Option Nat) := .inr (.inl f)
abbrev gDo (f : Nat → UInt64) : (Nat → Int32) ⊕ (Nat → Int64) ⊕ (Nat → UInt32) ⊕ (Nat → UInt64) ⊕ (Nat → Option Nat) := .inr (.inr (.inr (.inl f)))
abbrev gW (r : List Value) : Nat := (r.map Value.category).sum
/-- arguments: none is a long or a double -/
def gC1 (l : List Value) : Bool := l.all fun v => v.category == 1
def o_none : gS := fun _ _ _ => none
def o_push (v : Value) (n : Nat) : gS := fun ls st G => some (.inl (n, ls, v :: st, G))
def o_iload (k n : Nat) : gS := fun ls st G => match ls[k]? with | some (some (.int x)) => some (.inl (n, ls, .int x :: st, G)) | _ => none
def o_lload (k n : Nat) : gS := fun ls st G => match ls[k]? with | some (some (.long x)) => some (.inl (n, ls, .long x :: st, G)) | _ => none
def o_fload (k n : Nat) : gS := fun ls st G => match ls[k]? with | some (some (.float x)) => some (.inl (n, ls, .float x :: st, G)) | _ => none
def o_dload (k n : Nat) : gS := fun ls st G => match ls[k]? with | some (some (.double x)) => some (.inl (n, ls, .double x :: st, G)) | _ => none
def o_aload (k n : Nat) : gS := fun ls st G => match ls[k]? with | some (some (.ref x)) => some (.inl (n, ls, .ref x :: st, G)) | some (some .null) => some (.inl (n, ls, .null :: st, G)) | _ => none
def o_istore (k n : Nat) : gS := fun ls st G => match st with | .int x :: r => some (.inl (n, ls.set k (some (.int x)), r, G)) | _ => none
def o_fstore (k n : Nat) : gS := fun ls st G => match st with | .float x :: r => some (.inl (n, ls.set k (some (.float x)), r, G)) | _ => none
def o_astore (k n : Nat) : gS := fun ls st G => match st with | .ref x :: r => some (.inl (n, ls.set k (some (.ref x)), r, G)) | .null :: r => some (.inl (n, ls.set k (some .null), r, G)) | _ => none
def o_lstore (k n : Nat) : gS := fun ls st G => match st with | .long x :: r => some (.inl (n, (ls.set k (some (.long x))).set (k + 1) none, r, G)) | _ => none
def o_dstore (k n : Nat) : gS := fun ls st G => match st with | .double x :: r => some (.inl (n, (ls.set k (some (.double x))).set (k + 1) none, r, G)) | _ => none
def o_iinc (k : Nat) (c : Int32) (n : Nat) : gS := fun ls st G => match ls[k]? with | some (some (.int x)) => some (.inl (n, ls.set k (some (.int (x + c))), st, G)) | _ => none
def o_iadd (n : Nat) : gS := fun ls st G => match st with | .int y :: .int x :: r => some (.inl (n, ls, .int (x + y) :: r, G)) | _ => none
def o_isub (n : Nat) : gS := fun ls st G => match st with | .int y :: .int x :: r => some (.inl (n, ls, .int (x - y) :: r, G)) | _ => none
def o_imul (n : Nat) : gS := fun ls st G => match st with | .int y :: .int x :: r => some (.inl (n, ls, .int (x * y) :: r, G)) | _ => none
def o_iand (n : Nat) : gS := fun ls st G => match st with | .int y :: .int x :: r => some (.inl (n, ls, .int (x &&& y) :: r, G)) | _ => none
def o_ior (n : Nat) : gS := fun ls st G => match st with | .int y :: .int x :: r => some (.inl (n, ls, .int (x ||| y) :: r, G)) | _ => none
def o_ixor (n : Nat) : gS := fun ls st G => match st with | .int y :: .int x :: r => some (.inl (n, ls, .int (x ^^^ y) :: r, G)) | _ => none
def o_ishl (n : Nat) : gS := fun ls st G => match st with | .int y :: .int x :: r => some (.inl (n, ls, .int (x <<< (y &&& 31)) :: r, G)) | _ => none
def o_ishr (n : Nat) : gS := fun ls st G => match st with | .int y :: .int x :: r => some (.inl (n, ls, .int (x >>> (y &&& 31)) :: r, G)) | _ => none
def o_idiv (n : Nat) : gS := fun ls st G => match st with | .int y :: .int x :: r => if y = 0 then none else some (.inl (n, ls, .int (x / y) :: r, G)) | _ => none
def o_irem (n : Nat) : gS := fun ls st G => match st with | .int y :: .int x :: r => if y = 0 then none else some (.inl (n, ls, .int (x - x / y * y) :: r, G)) | _ => none
def o_ladd (n : Nat) : gS := fun ls st G => match st with | .long y :: .long x :: r => some (.inl (n, ls, .long (x + y) :: r, G)) | _ => none
def o_lmul (n : Nat) : gS := fun ls st G => match st with | .long y :: .long x :: r => some (.inl (n, ls, .long (x * y) :: r, G)) | _ => none
def o_lcmp (n : Nat) : gS := fun ls st G => match st with | .long y :: .long x :: r => some (.inl (n, ls, .int (lg_cmp x y) :: r, G)) | _ => none
def o_i2l (n : Nat) : gS := fun ls st G => match st with | .int x :: r => some (.inl (n, ls, .long x.toInt64 :: r, G)) | _ => none
def o_i2c (n : Nat) : gS := fun ls st G => match st with | .int x :: r => some (.inl (n, ls, .int (x.toUInt32 % 65536).toInt32 :: r, G)) | _ => none
def o_i2f (n : Nat) : gS := fun ls st G => match st with | .int x :: r => some (.inl (n, ls, .float (FP.i2f x) :: r, G)) | _ => none
def o_i2d (n : Nat) : gS := fun ls st G => match st with | .int x :: r => some (.inl (n, ls, .double (FP.i2d x) :: r, G)) | _ => none
def o_f2d (n : Nat) : gS := fun ls st G => match st with | .float x :: r => if (FP.f2d x) &&& 0x7fffffffffffffff ≤ 0x7ff0000000000000 then some (.inl (n, ls, .double (FP.f2d x) :: r, G)) else none | _ => none
def o_fdiv (n : Nat) : gS := fun ls st G => match st with | .float y :: .float x :: r => if (FP.fdiv x y) &&& 0x7fffffff ≤ 0x7f800000 then some (.inl (n, ls, .float (FP.fdiv x y) :: r, G)) else none | _ => none
def o_ddiv (n : Nat) : gS := fun ls st G => match st with | .double y :: .double x :: r => if (FP.ddiv x y) &&& 0x7fffffffffffffff ≤ 0x7ff0000000000000 then some (.inl (n, ls, .double (FP.ddiv x y) :: r, G)) else none | _ => none
def o_fcmp (op : CmpOp) (n : Nat) : gS := fun ls st G => match st with | .float y :: .float x :: r => some (.inl (n, ls, .int (Op.cmpValue (FP.fcmp x y) op) :: r, G)) | _ => none
def o_dcmp (op : CmpOp) (n : Nat) : gS := fun ls st G => match st with | .double y :: .double x :: r => some (.inl (n, ls, .int (Op.cmpValue (FP.dcmp x y) op) :: r, G)) | _ => none
def o_dup (n : Nat) : gS := fun ls st G => match st with | .int x :: r => some (.inl (n, ls, .int x :: .int x :: r, G)) | .ref x :: r => some (.inl (n, ls, .ref x :: .ref x :: r, G)) | _ => none
def o_pop (n : Nat) : gS := fun ls st G => match st with | .int _ :: r => some (.inl (n, ls, r, G)) | .ref _ :: r => some (.inl (n, ls, r, G)) | _ => none
def o_dup2 (n : Nat) : gS := fun ls st G => match st with | .int x :: .ref a :: r => some (.inl (n, ls, .int x :: .ref a :: .int x :: .ref a :: r, G)) | _ => none
def o_dup_x1 (n : Nat) : gS := fun ls st G => match st with | .int x :: .ref a :: r => some (.inl (n, ls, .int x :: .ref a :: .int x :: r, G)) | .ref x :: .ref a :: r => some (.inl (n, ls, .ref x :: .ref a :: .ref x :: r, G)) | _ => none
def o_goto (n : Nat) : gS := fun ls st G => some (.inl (n, ls, st, G))
def o_ifeq (t n : Nat) : gS := fun ls st G => match st with | .int x :: r => if x = 0 then some (.inl (t, ls, r, G)) else some (.inl (n, ls, r, G)) | _ => none
def o_ifne (t n : Nat) : gS := fun ls st G => match st with | .int x :: r => if x = 0 then some (.inl (n, ls, r, G)) else some (.inl (t, ls, r, G)) | _ => none
def o_iflt (t n : Nat) : gS := fun ls st G => match st with | .int x :: r => if x < 0 then some (.inl (t, ls, r, G)) else some (.inl (n, ls, r, G)) | _ => none
def o_ifge (t n : Nat) : gS := fun ls st G => match st with | .int x :: r => if 0 ≤ x then some (.inl (t, ls, r, G)) else some (.inl (n, ls, r, G)) | _ => none
def o_ifgt (t n : Nat) : gS := fun ls st G => match st with | .int x :: r => if 0 < x then some (.inl (t, ls, r, G)) else some (.inl (n, ls, r, G)) | _ => none
def o_ifle (t n : Nat) : gS := fun ls st G => match st with | .int x :: r => if x ≤ 0 then some (.inl (t, ls, r, G)) else some (.inl (n, ls, r, G)) | _ => none
def o_cmpeq (t n : Nat) : gS := fun ls st G => match st with | .int y :: .int x :: r => if x = y then some (.inl (t, ls, r, G)) else some (.inl (n, ls, r, G)) | _ => none
def o_cmpne (t n : Nat) : gS := fun ls st G => match st with | .int y :: .int x :: r => if x = y then some (.inl (n, ls, r, G)) else some (.inl (t, ls, r, G)) | _ => none
def o_cmplt (t n : Nat) : gS := fun ls st G => match st with | .int y :: .int x :: r => if x < y then some (.inl (t, ls, r, G)) else some (.inl (n, ls, r, G)) | _ => none
def o_cmpge (t n : Nat) : gS := fun ls st G => match st with | .int y :: .int x :: r => if y ≤ x then some (.inl (t, ls, r, G)) else some (.inl (n, ls, r, G)) | _ => none
def o_cmpgt (t n : Nat) : gS := fun ls st G => match st with | .int y :: .int x :: r => if y < x then some (.inl (t, ls, r, G)) else some (.inl (n, ls, r, G)) | _ => none
def o_cmple (t n : Nat) : gS := fun ls st G => match st with | .int y :: .int x :: r => if x ≤ y then some (.inl (t, ls, r, G)) else some (.inl (n, ls, r, G)) | _ => none
def o_acmpne (t n : Nat) : gS := fun ls st G => match st with | .ref b :: .ref a :: r => if a = b then some (.inl (n, ls, r, G)) else some (.inl (t, ls, r, G)) | .null :: .ref _ :: r => some (.inl (t, ls, r, G)) | .ref _ :: .null :: r => some (.inl (t, ls, r, G)) | .null :: .null :: r => some (.inl (n, ls, r, G)) | _ => none
def o_acmpeq (t n : Nat) : gS := fun ls st G => match st with | .ref b :: .ref a :: r => if a = b then some (.inl (t, ls, r, G)) else some (.inl (n, ls, r, G)) | .null :: .ref _ :: r => some (.inl (n, ls, r, G)) | .ref _ :: .null :: r => some (.inl (n, ls, r, G)) | .null :: .null :: r => some (.inl (t, ls, r, G)) | _ => none
def o_ifnonnull (t n : Nat) : gS := fun ls st G => match st with | .ref _ :: r => some (.inl (t, ls, r, G)) | .null :: r => some (.inl (n, ls, r, G)) | _ => none
/-- an object's field -/
def g_gf (G : gH) (a c k : Nat) : Option Value := match G.1 a with | some (.inr (c', fs)) => if c' = c then fs[k]? else none | _ => none
def o_getf (c k n : Nat) : gS := fun ls st G => match st with | .ref a :: r => (match g_gf G a c k with | some v => some (.inl (n, ls, v :: r, G)) | none => none) | _ => none
def g_pf (G : gH) (a c k : Nat) (v : Value) : Option gH := match G.1 a with | some (.inr (c', fs)) => if c' = c ∧ k < fs.length then some (gset G a (.inr (c, fs.set k v))) else none | _ => none
def g_fit (ty : FieldType) (v : Value) : Prop := narrow ty v = v ∧ fits ty v = true
def o_putf (c k : Nat) (ty : FieldType) (n : Nat) : gS := fun ls st G => match st with | v :: .ref a :: r => (if narrow ty v = v ∧ fits ty v = true then (match g_pf G a c k v with | some G' => some (.inl (n, ls, r, G')) | none => none) else none) | _ => none
def o_new (c : Nat) (fs : List Value) (N n : Nat) : gS := fun ls st G => some (.inl (n, ls, .ref G.2.1 :: st, gnew G (.inr (c, fs)) N))
def o_newi (t n : Nat) : gS := fun ls st G => match st with | .int k :: r => if k < 0 ∨ 100000 < k.toNatClampNeg then none else some (.inl (n, ls, .ref G.2.1 :: r, gnew G (.inl (t, k.toNatClampNeg, .inl (fun _ => 0))) k.toNatClampNeg)) | _ => none
def o_newl (t n : Nat) : gS := fun ls st G => match st with | .int k :: r => if k < 0 ∨ 100000 < k.toNatClampNeg then none else some (.inl (n, ls, .ref G.2.1 :: r, gnew G (.inl (t, k.toNatClampNeg, gLo (fun _ => 0))) k.toNatClampNeg)) | _ => none
def o_newd (t n : Nat) : gS := fun ls st G => match st with | .int k :: r => if k < 0 ∨ 100000 < k.toNatClampNeg then none else some (.inl (n, ls, .ref G.2.1 :: r, gnew G (.inl (t, k.toNatClampNeg, gDo (fun _ => 0))) k.toNatClampNeg)) | _ => none
def o_newq (t n : Nat) : gS := fun ls st G => match st with | .int k :: r => if k < 0 ∨ 100000 < k.toNatClampNeg then none else some (.inl (n, ls, .ref G.2.1 :: r, gnew G (.inl (t, k.toNatClampNeg, gQ (fun _ => none))) k.toNatClampNeg)) | _ => none
/-- m rows of k places each, made behind one another -/
def g_rows (t k : Nat) : Nat → gH → gH
  | 0, G => G
  | m + 1, G => gnew (g_rows t k m G) (.inl (t, k, .inl (fun _ => 0))) k
/-- an array of m rows of k places: the rows lie behind it -/
def o_multi (tq t m k n : Nat) : gS := fun ls st G => match st with | .int k' :: .int m' :: r => if m' = nI m ∧ k' = nI k then some (.inl (n, ls, .ref G.2.1 :: r, g_rows t k m (gnew G (.inl (tq, m, gQ (fun j => if j < m then some (G.2.1 + 1 + j) else none))) m))) else none | _ => none
def o_alen (K : gK) (n : Nat) : gS := fun ls st G => match st with | .ref a :: r => (match G.1 a with | some (.inl (_, x)) => some (.inl (n, ls, .int (Int32.ofNat x.1) :: r, G)) | some (.inr _) => none | none => if a = K.2 3 then some (.inl (n, ls, .int 0 :: r, G)) else none) | _ => none
def o_slen (K : gK) (n : Nat) : gS := fun ls st G => match st with | .ref a :: r => if a = K.1.1 then some (.inl (n, ls, .int (Int32.ofNat K.1.2.1) :: r, G)) else none | _ => none
def o_sld (K : gK) (n : Nat) : gS := fun ls st G => match st with | .int i :: .ref a :: r => if a = K.1.1 ∧ ¬ (i < 0 ∨ K.1.2.1 ≤ i.toNatClampNeg) then some (.inl (n, ls, .int (K.1.2.2 i.toNatClampNeg) :: r, G)) else none | _ => none
/-- a place of an array of ints (t: its kind) -/
def g_ia (G : gH) (a t : Nat) (i : Int32) : Option Int32 := match G.1 a with | some (.inl (t', N, .inl f)) => if t' = t ∧ ¬ (i < 0 ∨ N ≤ i.toNatClampNeg) then some (f i.toNatClampNeg) else none | _ => none
def g_is (G : gH) (a t : Nat) (i x : Int32) : Option gH := match G.1 a with | some (.inl (t', N, .inl f)) => if t' = t ∧ ¬ (i < 0 ∨ N ≤ i.toNatClampNeg) then some (gset G a (.inl (t, N, .inl (upd f i.toNatClampNeg x)))) else none | _ => none
def g_la (G : gH) (a t : Nat) (i : Int32) : Option Int64 := match G.1 a with | some (.inl (t', N, .inr (.inl f))) => if t' = t ∧ ¬ (i < 0 ∨ N ≤ i.toNatClampNeg) then some (f i.toNatClampNeg) else none | _ => none
def g_lst (G : gH) (a t : Nat) (i : Int32) (x : Int64) : Option gH := match G.1 a with | some (.inl (t', N, .inr (.inl f))) => if t' = t ∧ ¬ (i < 0 ∨ N ≤ i.toNatClampNeg) then some (gset G a (.inl (t, N, gLo (vp_updL f i.toNatClampNeg x)))) else none | _ => none
def g_da (G : gH) (a t : Nat) (i : Int32) : Option UInt64 := match G.1 a with | some (.inl (t', N, .inr (.inr (.inr (.inl f))))) => if t' = t ∧ ¬ (i < 0 ∨ N ≤ i.toNatClampNeg) then some (f i.toNatClampNeg) else none | _ => none
def g_ds (G : gH) (a t : Nat) (i : Int32) (x : UInt64) : Option gH := match G.1 a with | some (.inl (t', N, .inr (.inr (.inr (.inl f))))) => if t' = t ∧ ¬ (i < 0 ∨ N ≤ i.toNatClampNeg) then some (gset G a (.inl (t, N, gDo (vf_upd f i.toNatClampNeg x)))) else none | _ => none
def g_qa (G : gH) (a t : Nat) (i : Int32) : Option (Option Nat) := match G.1 a with | some (.inl (t', N, .inr (.inr (.inr (.inr f))))) => if t' = t ∧ ¬ (i < 0 ∨ N ≤ i.toNatClampNeg) then some (f i.toNatClampNeg) else none | _ => none
def g_qs (G : gH) (a t : Nat) (i : Int32) (x : Option Nat) : Option gH := match G.1 a with | some (.inl (t', N, .inr (.inr (.inr (.inr f))))) => if t' = t ∧ ¬ (i < 0 ∨ N ≤ i.toNatClampNeg) then some (gset G a (.inl (t, N, gQ (va_up f i.toNatClampNeg x)))) else none | _ => none
def o_iald (t n : Nat) : gS := fun ls st G => match st with | .int i :: .ref a :: r => (match g_ia G a t i with | some x => some (.inl (n, ls, .int x :: r, G)) | none => none) | _ => none
def o_iast (n : Nat) : gS := fun ls st G => match st with | .int x :: .int i :: .ref a :: r => (match g_is G a 0 i x with | some G' => some (.inl (n, ls, r, G')) | none => none) | _ => none
def o_zast (n : Nat) : gS := fun ls st G => match st with | .int x :: .int i :: .ref a :: r => (match g_is G a 1 i (vp_nar .boolean x) with | some G' => some (.inl (n, ls, r, G')) | none => none) | _ => none
def o_cast (n : Nat) : gS := fun ls st G => match st with | .int x :: .int i :: .ref a :: r => (match g_is G a 2 i (vp_nar .char x) with | some G' => some (.inl (n, ls, r, G')) | none => none) | _ => none
def o_lald (n : Nat) : gS := fun ls st G => match st with | .int i :: .ref a :: r => (match g_la G a 3 i with | some x => some (.inl (n, ls, .long x :: r, G)) | none => none) | _ => none
def o_last (n : Nat) : gS := fun ls st G => match st with | .long x :: .int i :: .ref a :: r => (match g_lst G a 3 i x with | some G' => some (.inl (n, ls, r, G')) | none => none) | _ => none
def o_dald (n : Nat) : gS := fun ls st G => match st with | .int i :: .ref a :: r => (match g_da G a 4 i with | some x => some (.inl (n, ls, .double x :: r, G)) | none => none) | _ => none
def o_dast (n : Nat) : gS := fun ls st G => match st with | .double x :: .int i :: .ref a :: r => (match g_ds G a 4 i x with | some G' => some (.inl (n, ls, r, G')) | none => none) | _ => none
def o_aald (t n : Nat) : gS := fun ls st G => match st with | .int i :: .ref a :: r => (match g_qa G a t i with | some x => some (.inl (n, ls, va_rf x :: r, G)) | none => none) | _ => none
/-- which class's objects: those with an entry -/
def g_cls (G : gH) (a : Nat) : Option Nat := match G.1 a with | some (.inr (c, _)) => some c | _ => none
/-- t: the array's kind; c: the one class of which objects are stored (100: any of the first thirteen) -/
def o_aast (t c n : Nat) : gS := fun ls st G => match st with
  | .ref v :: .int i :: .ref a :: r => (match g_cls G v with | some c' => if (c = 100 ∧ c' < 13) ∨ (c ≠ 100 ∧ c' = c) then (match g_qs G a t i (some v) with | some G' => some (.inl (n, ls, r, G')) | none => none) else none | none => none)
  | .null :: .int i :: .ref a :: r => (match g_qs G a t i none with | some G' => some (.inl (n, ls, r, G')) | none => none)
  | _ => none
/-- a lambda's object into the array of them -/
def g_isLam (K : gK) (G : gH) (v : Nat) : Bool := match g_cls G v with | some c' => decide (100 ≤ c') && decide (c' < 105) | none => (G.1 v).isNone && (decide (v = K.2 4) || decide (v = K.2 5))
def o_aastH (K : gK) (t n : Nat) : gS := fun ls st G => match st with
  | .ref v :: .int i :: .ref a :: r => if g_isLam K G v = true then (match g_qs G a t i (some v) with | some G' => some (.inl (n, ls, r, G')) | none => none) else none
  | _ => none
def o_callS (mi k n : Nat) : gS := fun ls st G => if k ≤ st.length ∧ gW (st.drop k) ≤ 8 ∧ gC1 (st.take k) = true then some (.inr (.inl (mi, (st.take k).reverse, n, ls, st.drop k, G))) else none
def o_callV (c mi k n : Nat) : gS := fun ls st G => match st.drop k with | .ref b :: r => (match g_cls G b with | some c' => if c' = c ∧ gW r ≤ 8 ∧ gC1 (st.take k) = true then some (.inr (.inl (mi, .ref b :: (st.take k).reverse, n, ls, r, G))) else none | none => none) | _ => none
def o_callI (mi k n : Nat) : gS := fun ls st G => match st.drop k with | .ref b :: r => if gW r ≤ 8 ∧ gC1 (st.take k) = true then some (.inr (.inl (mi, .ref b :: (st.take k).reverse, n, ls, r, G))) else none | _ => none
def o_objinit (n : Nat) : gS := fun ls st G => match st with | .ref _ :: r => if gW r ≤ 8 then some (.inl (n, ls, r, G)) else none | _ => none
/-- checkcast: null passes, and objects of the class c -/
def o_ccast (c n : Nat) : gS := fun ls st G => match st with | .null :: r => some (.inl (n, ls, .null :: r, G)) | .ref a :: r => if g_cls G a = some c then some (.inl (n, ls, .ref a :: r, G)) else none | _ => none
/-- checkcast to an array's class of kind t -/
def o_acast (t n : Nat) : gS := fun ls st G => match st with | .ref a :: r => (match G.1 a with | some (.inl (t', _)) => if t' = t then some (.inl (n, ls, .ref a :: r, G)) else none | _ => none) | _ => none
def o_iret : gS := fun _ st G => match st with | [.int v] => some (.inr (.inr (.inl (some (.int v)), G))) | _ => none
def o_zret (ty : FieldType) : gS := fun _ st G => match st with | [.int v] => if narrow ty (.int v) = .int v then some (.inr (.inr (.inl (some (.int v)), G))) else none | _ => none
def o_lret : gS := fun _ st G => match st with | [.long v] => some (.inr (.inr (.inl (some (.long v)), G))) | _ => none
def o_fret : gS := fun _ st G => match st with | [.float v] => some (.inr (.inr (.inl (some (.float v)), G))) | _ => none
def o_dret : gS := fun _ st G => match st with | [.double v] => some (.inr (.inr (.inl (some (.double v)), G))) | _ => none
def o_aret : gS := fun _ st G => match st with | [.ref v] => some (.inr (.inr (.inl (some (.ref v)), G))) | [.null] => some (.inr (.inr (.inl (some .null), G))) | _ => none
def o_vret : gS := fun _ st G => match st with | [] => some (.inr (.inr (.inl none, G))) | _ => none
/-- 'throw new E()' -/
def o_throw (E : Nat) : gS := fun _ st G => if gW st ≤ 8 then some (.inr (.inr (.inr E, gjunk G 6))) else none
def o_switch (tg : List Nat) (d : Nat) : gS := fun ls st G => match st with | .int x :: r => some (.inl (if x < 0 then d else tg.getD x.toNatClampNeg d, ls, r, G)) | _ => none
/-- a rule's letter -/
def o_letter (K : gK) (n : Nat) : gS := fun ls st G => match st with | .ref a :: r => if a = K.2 0 then some (.inl (n, ls, .int 110 :: r, G)) else if a = K.2 1 then some (.inl (n, ls, .int 104 :: r, G)) else if a = K.2 2 then some (.inl (n, ls, .int 113 :: r, G)) else none | _ => none
/-- Rule.allows -/
def o_allows (K : gK) (m0 m1 m2 n : Nat) : gS := fun ls st G => match st with | .int x :: .ref a :: r => if gW r ≤ 8 then (if a = K.2 0 then some (.inr (.inl (m0, [.ref a, .int x], n, ls, r, G))) else if a = K.2 1 then some (.inr (.inl (m1, [.ref a, .int x], n, ls, r, G))) else if a = K.2 2 then some (.inr (.inl (m2, [.ref a, .int x], n, ls, r, G))) else none) else none | _ => none
/-- invokedynamic: a lambda that captures this -/
def o_indy (j n : Nat) : gS := fun ls st G => match st with | .ref th :: r => if gW r ≤ 8 then some (.inl (n, ls, .ref G.2.1 :: r, gnew G (.inr (100 + j, [.ref th])) 1)) else none | _ => none
/-- ... one that captures nothing -/
def o_pushL (v : Value) (n : Nat) : gS := fun ls st G => if gW st ≤ 8 then some (.inl (n, ls, v :: st, G)) else none
/-- Hindrance.find: lm j: the method of the lambda j -/
def o_find (K : gK) (lm : Nat → Nat) (n : Nat) : gS := fun ls st G => match st with
  | .ref on :: .ref b :: r => if gW r ≤ 8 then (match G.1 b with
    | some (.inr (c, fs)) => if 100 ≤ c ∧ c < 105 then (match fs with | [.ref th] => if g_cls G th = some 0 then some (.inr (.inl (lm (c - 100), [.ref th, .ref on], n, ls, r, G))) else none | _ => none) else none
    | some (.inl _) => none
    | none => if b = K.2 4 then some (.inr (.inl (lm 5, [.ref on], n, ls, r, G))) else if b = K.2 5 then some (.inr (.inl (lm 6, [.ref on], n, ls, r, G))) else none) else none
  | _ => none
/-- System.arraycopy between arrays of objects -/
def o_copy (n : Nat) : gS := fun ls st G => match st with
  | .int len :: .int dp :: .ref d :: .int sp :: .ref s :: r => (match G.1 s, G.1 d with
    | some (.inl (t0, n0, .inr (.inr (.inr (.inr f))))), some (.inl (t1, n1, .inr (.inr (.inr (.inr g))))) =>
      if t0 = 5 ∧ t1 = 5 ∧ ¬ sp < 0 ∧ ¬ dp < 0 ∧ ¬ len < 0 ∧ sp.toNatClampNeg + len.toNatClampNeg ≤ n0 ∧ dp.toNatClampNeg + len.toNatClampNeg ≤ n1 ∧ gW r ≤ 8 ∧ (List.range len.toNatClampNeg).all (fun i => match f (sp.toNatClampNeg + i) with | none => true | some y => (g_cls G y).any (fun c => decide (c < 13))) = true then some (.inl (n, ls, r, gset G d (.inl (5, n1, gQ (va_cpy f g sp.toNatClampNeg dp.toNatClampNeg len.toNatClampNeg))))) else none
    | _, _ => none)
  | _ => none
/-- getClass of an array of objects -/
def o_getClass (K : gK) (n : Nat) : gS := fun ls st G => match st with | .ref a :: r => (match G.1 a with | some (.inl (t, _)) => if t = 5 ∧ gW r ≤ 8 then some (.inl (n, ls, .ref (K.2 6) :: r, G)) else none | _ => none) | _ => none
