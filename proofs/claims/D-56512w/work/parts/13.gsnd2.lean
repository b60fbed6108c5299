/-! SOUNDNESS 2: the judgement VV, rows for instructions that leave the memory alone -/
set_option maxRecDepth 100000
/-- words that the lists don't carry: taken along -/
def gnwKind : Cond → Bool
  | .fieldLinkNest _ _ _ _ _ _ => true
  | .methodLinkNest _ _ _ _ => true
  | .castable _ _ => true
  | .declares _ => true
  | .arrayOver (.object _) => true
  | .arrayOver (.array _) => true
  | _ => false
theorem gAO_spec {s : State} {t : FieldType} (h : va_Nw (.arrayOver (.array t)) s) :
    ∃ comp c k, s.vm.findClass (FieldType.array t).toString = some comp ∧ (s.vm.classes.findIdx? fun (x : Class) => match x.kind with | .array component _ => component == comp | _ => false) = some c ∧ s.vm.classes[c]? = some k ∧ k.kind = .array comp (.array t) ∧ s.vm.findClass ("[" ++ (FieldType.array t).toString) = some c := by
  unfold va_Nw Cond.before at h
  simp only [Cond.holds, Cond.value, beq_iff_eq] at h
  cases hc : s.vm.findClass (FieldType.array t).toString with
  | none => simp [hc] at h
  | some comp =>
    simp only [hc, Option.bind_some, Option.bind_eq_some_iff, Option.map_eq_some_iff] at h
    obtain ⟨c, hi, k, hk, hb⟩ := h
    obtain ⟨hlt, hp, -⟩ := Array.findIdx?_eq_some_iff_getElem.mp hi
    have hkk : s.vm.classes[c] = k := (Array.getElem?_eq_some_iff.mp hk).2
    rw [hkk] at hp
    cases hkind : k.kind with
    | array component ty =>
      rw [hkind] at hb hp
      simp at hb hp
      exact ⟨comp, c, k, rfl, hi, hk, by rw [hkind, hp, hb.1], hb.2⟩
    | _ => rw [hkind] at hb; simp at hb
theorem gAO_moved {u U : State} {t : FieldType} (hvm : u.vm.Alike U.vm) (h : va_Nw (.arrayOver (.array t)) u) : va_Nw (.arrayOver (.array t)) U := by
  obtain ⟨comp, c, k, h1, h2, h3, h4, h5⟩ := gAO_spec h
  obtain ⟨k', hk', he⟩ := hvm.2.2 _ _ h3
  have hi : (U.vm.classes.findIdx? fun (x : Class) => match x.kind with | .array component _ => component == comp | _ => false) = some c := by
    have hb : U.vm.bare = u.vm.bare := by first | exact hvm.bare_eq | exact hvm.bare_eq.symm
    have b1 := va_idx_bare U.vm comp
    have b2 := va_idx_bare u.vm comp
    rw [hb] at b1
    exact (b1.symm.trans b2).trans h2
  have hkind : k'.kind = .array comp (.array t) := by rw [he]; exact h4
  have f1 : U.vm.findClass (FieldType.array t).toString = some comp := by rw [hvm.findClass]; exact h1
  have f2 : U.vm.findClass ("[" ++ (FieldType.array t).toString) = some c := by rw [hvm.findClass]; exact h5
  unfold va_Nw Cond.before Cond.holds
  simp only [Cond.value]
  rw [f1, Option.bind_some]
  refine (congrArg (fun o : Option Nat => (o.bind (fun c => (U.vm.classes[c]?).map fun (k : Class) => match k.kind with | .array _ ty => decide (ty = FieldType.array t) && decide (U.vm.findClass ("[" ++ (FieldType.array t).toString) = some c) | _ => false) == some true)) hi).trans ?_
  simp [hk', hkind, f2]
def gnw : List Cond := lw_tbl.filter gnwKind
theorem gnw_of {w : Cond} (h : w ∈ lw_tbl) (g : gnwKind w = true) : w ∈ gnw := List.mem_filter.mpr ⟨h, g⟩
theorem gnw_warm {s U : State} (hW : s.WarmedH U.vm) {w : Cond} (hk : gnwKind w = true) (h : va_Nw w s) : va_Nw w U := by
  cases w <;> first | (cases hk; done) | exact va_Nw.warmF hW h | exact va_Nw.warmM hW h | exact va_Nw.warmC hW h | exact va_Nw.warmD hW h | skip
  rename_i ty
  cases ty <;> first | (cases hk; done) | exact va_AO.moved hW.alike h | exact gAO_moved hW.alike h
/-- the list's methods by which it is called, and ArrayList's own -/
def gfw : List (MethodName × MethodName) := [(⟨"java/util/List", "size", "()I"⟩, yJ2_size), (⟨"java/util/List", "get", "(I)Ljava/lang/Object;"⟩, yJ2_get), (⟨"java/util/List", "add", "(Ljava/lang/Object;)Z"⟩, yJ2_add), (⟨"java/util/List", "isEmpty", "()Z"⟩, yJ2_isEmpty), (⟨"java/util/List", "clear", "()V"⟩, yJ2_clear), (⟨"java/util/List", "remove", "(Ljava/lang/Object;)Z"⟩, yJ2_remove)]
def gRuleN (i : Nat) : String := if i = 0 then "CuttingRoom$Rule$1" else if i = 1 then "CuttingRoom$Rule$2" else "CuttingRoom$Rule$3"
def gRuleF (i : Nat) : String := if i = 0 then "FIXED" else if i = 1 then "HALF" else "QUARTER"
def gRuleL (i : Nat) : Int32 := if i = 0 then 110 else if i = 1 then 104 else 113
def lS0 : Lambda.Shape := { iface := "CuttingRoom$Hindrance", name := "find", sam := ⟨[.object "CuttingRoom$Sheet"], some .char⟩, captured := [.object "CuttingRoom"], kind := 5, implClass := "CuttingRoom", implName := "lambda$new$0", implDesc := ⟨[.object "CuttingRoom$Sheet"], some .char⟩, implItf := false, inst := ⟨[.object "CuttingRoom$Sheet"], some .char⟩ }
theorem lS0_is : siteWord_1_1 = .lambdaSite ⟨"CuttingRoom", "<init>", "()V"⟩ 99 52 lS0 := rfl
def lS1 : Lambda.Shape := { iface := "CuttingRoom$Hindrance", name := "find", sam := ⟨[.object "CuttingRoom$Sheet"], some .char⟩, captured := [.object "CuttingRoom"], kind := 5, implClass := "CuttingRoom", implName := "lambda$new$1", implDesc := ⟨[.object "CuttingRoom$Sheet"], some .char⟩, implItf := false, inst := ⟨[.object "CuttingRoom$Sheet"], some .char⟩ }
theorem lS1_is : siteWord_1_2 = .lambdaSite ⟨"CuttingRoom", "<init>", "()V"⟩ 108 56 lS1 := rfl
def lS2 : Lambda.Shape := { iface := "CuttingRoom$Hindrance", name := "find", sam := ⟨[.object "CuttingRoom$Sheet"], some .char⟩, captured := [.object "CuttingRoom"], kind := 5, implClass := "CuttingRoom", implName := "lambda$new$2", implDesc := ⟨[.object "CuttingRoom$Sheet"], some .char⟩, implItf := false, inst := ⟨[.object "CuttingRoom$Sheet"], some .char⟩ }
theorem lS2_is : siteWord_1_3 = .lambdaSite ⟨"CuttingRoom", "<init>", "()V"⟩ 117 57 lS2 := rfl
def lS3 : Lambda.Shape := { iface := "CuttingRoom$Hindrance", name := "find", sam := ⟨[.object "CuttingRoom$Sheet"], some .char⟩, captured := [.object "CuttingRoom"], kind := 5, implClass := "CuttingRoom", implName := "lambda$new$3", implDesc := ⟨[.object "CuttingRoom$Sheet"], some .char⟩, implItf := false, inst := ⟨[.object "CuttingRoom$Sheet"], some .char⟩ }
theorem lS3_is : siteWord_1_4 = .lambdaSite ⟨"CuttingRoom", "<init>", "()V"⟩ 126 58 lS3 := rfl
def lS4 : Lambda.Shape := { iface := "CuttingRoom$Hindrance", name := "find", sam := ⟨[.object "CuttingRoom$Sheet"], some .char⟩, captured := [.object "CuttingRoom"], kind := 5, implClass := "CuttingRoom", implName := "lambda$new$4", implDesc := ⟨[.object "CuttingRoom$Sheet"], some .char⟩, implItf := false, inst := ⟨[.object "CuttingRoom$Sheet"], some .char⟩ }
theorem lS4_is : siteWord_1_5 = .lambdaSite ⟨"CuttingRoom", "<init>", "()V"⟩ 135 59 lS4 := rfl
def lS5 : Lambda.Shape := { iface := "CuttingRoom$Hindrance", name := "find", sam := ⟨[.object "CuttingRoom$Sheet"], some .char⟩, captured := [], kind := 6, implClass := "CuttingRoom", implName := "lambda$new$5", implDesc := ⟨[.object "CuttingRoom$Sheet"], some .char⟩, implItf := false, inst := ⟨[.object "CuttingRoom$Sheet"], some .char⟩ }
theorem lS5_is : siteWord_1_6 = .lambdaSite ⟨"CuttingRoom", "<init>", "()V"⟩ 143 60 lS5 := rfl
def lS6 : Lambda.Shape := { iface := "CuttingRoom$Hindrance", name := "find", sam := ⟨[.object "CuttingRoom$Sheet"], some .char⟩, captured := [], kind := 6, implClass := "CuttingRoom", implName := "lambda$new$6", implDesc := ⟨[.object "CuttingRoom$Sheet"], some .char⟩, implItf := false, inst := ⟨[.object "CuttingRoom$Sheet"], some .char⟩ }
theorem lS6_is : siteWord_1_7 = .lambdaSite ⟨"CuttingRoom", "<init>", "()V"⟩ 152 63 lS6 := rfl
def gex (k : Nat) : String := if k = 0 then "java/lang/IllegalArgumentException" else if k = 1 then "java/lang/IllegalStateException" else if k = 2 then "java/lang/UnsupportedOperationException" else if k = 3 then "java/lang/IndexOutOfBoundsException" else if k = 4 then "java/util/NoSuchElementException" else "java/lang/ArithmeticException"
/-- the shape of the lambda j's site -/
def gsg (j : Nat) : Lambda.Shape := if j = 0 then lS0 else if j = 1 then lS1 else if j = 2 then lS2 else if j = 3 then lS3 else if j = 4 then lS4 else if j = 5 then lS5 else lS6
def gpcL (j : Nat) : Nat := if j = 0 then 99 else if j = 1 then 108 else if j = 2 then 117 else if j = 3 then 126 else if j = 4 then 135 else if j = 5 then 143 else 152
def gixL (j : Nat) : Nat := if j = 0 then 52 else if j = 1 then 56 else if j = 2 then 57 else if j = 3 then 58 else if j = 4 then 59 else if j = 5 then 60 else 63
/-- a site of the room's constructor that is linked to the class c -/
def gSite (j : Nat) (c : ClassId) (one : Option Addr) (U : State) : Prop := ∃ (m : MethodId) (k kc : Class) (cf : ClassFile) (i0 p0 : Nat) (l : Linked), U.methodNamed? ⟨"CuttingRoom", "<init>", "()V"⟩ = some m ∧ U.vm.classes[m.cls]? = some k ∧ U.vm.classes[c]? = some kc ∧ k.cf = some cf ∧ Lambda.shapeOf? cf (gixL j) = some (gsg j) ∧
  (k.callSites.find? fun y => y.1 == m.idx && y.2.1 == gpcL j) = some (i0, p0, l) ∧ Lambda.isMade { classPath := fun _ => none } U.vm m.cls (gsg j) c = true ∧ U.lambdaCallable (gsg j) c = true ∧
  l = (match one with | some a => .constant a | none => .makes c)
/-- what stands of the lambdas' sites, and which exceptions are none of another's class -/
def KnL (Z : gZ) (K : gK) (U : State) : Prop := (∀ i j, i < 6 → j < 6 → i ≠ j → va_Nc (gex i) (gex j) U) ∧ (∀ j, j < 5 → gSite j (gZL Z j) none U) ∧ (∀ j, j < 2 → gSite (5 + j) (gZL Z (5 + j)) (some (K.2 (4 + j))) U ∧ ∃ cell : Cell, (gZB Z)[K.2 (4 + j)]? = some cell ∧ cell.cls = gZL Z (5 + j) ∧ cell.vm = .none) ∧ (∀ o ok, U.vm.findClass "java/lang/Object" = some o → U.vm.classes[o]? = some ok → ok.instanceTypes.size = 0) ∧ ∃ i ik, U.vm.findClass "CuttingRoom$Hindrance" = some i ∧ U.vm.classes[i]? = some ik ∧ ik.isInterface = true
theorem gSite.warm {j : Nat} {c : ClassId} {one : Option Addr} {s U : State} (hW : s.WarmedH U.vm) (h : gSite j c one s) : gSite j c one U := by
  obtain ⟨m, k, kc, cf, i0, p0, l, h1, h2, h3, h4, h5, h6, h7, h8, h9⟩ := h
  have hA := hW.alike
  obtain ⟨k', hk', he⟩ := hA.2.2 _ _ h2
  obtain ⟨kc', hkc', hec⟩ := hA.2.2 _ _ h3
  refine ⟨m, k', kc', cf, i0, p0, l, ?_, hk', hkc', by rw [he]; exact h4, h5, by rw [he]; exact h6, Lambda.isMade_warmer hW h7, ?_, h9⟩
  · have := State.methodNamed?_setVm (s := s) hA ⟨"CuttingRoom", "<init>", "()V"⟩
    rw [h1] at this
    exact this
  · simp only [State.lambdaCallable, hA.findClass, hA.assignable, hA.superclasses, hA.declaredIn] at h8 ⊢
    exact h8
theorem KnL.warm {Z : gZ} {K : gK} {s U : State} (hW : s.WarmedH U.vm) (h : KnL Z K s) : KnL Z K U := by
  obtain ⟨h1, h2, h3, h4, i, ik, h5, h6, h7⟩ := h
  have hA := hW.alike
  refine ⟨fun i j hi hj hij => (h1 i j hi hj hij).moved hA, fun j hj => (h2 j hj).warm hW, fun j hj => ⟨(h3 j hj).1.warm hW, (h3 j hj).2⟩, fun o ok ho hok => ?_, ?_⟩
  rotate_left
  · obtain ⟨ik', hk', he'⟩ := hA.2.2 _ _ h6
    exact ⟨i, ik', by rw [hA.findClass]; exact h5, hk', by rw [he']; exact h7⟩
  rw [hA.findClass] at ho
  cases hk : s.vm.classes[o]? with
  | none => rw [hA.none hk] at hok; cases hok
  | some k =>
    obtain ⟨k', hk', he⟩ := hA.2.2 _ _ hk
    rw [hk'] at hok
    cases hok
    rw [he]
    exact h4 o k ho hk
/-- what a state's tables hold, all through a run -/
def Kn (Z : gZ) (K : gK) (U : State) : Prop := va_K (gZD Z) gcl (gtys Z) U ∧ (∀ w ∈ gnw, va_Nw w U) ∧ (∀ q ∈ gfw, va_Fw "java/util/ArrayList" q.1 q.2 U) ∧
  (∀ i, i < 3 → va_Z "CuttingRoom$Rule" (gRuleF i) "LCuttingRoom$Rule;" (.ref (K.2 i)) (gNewA Z) U (gZB Z) ∧ va_OF "CuttingRoom$Rule" "letter" "C" (.int (gRuleL i)) (K.2 i) (gNewA Z) U (gZB Z) ∧ va_O (gRuleN i) (K.2 i) (gNewA Z) U (gZB Z)) ∧
  va_Z "java/util/ArrayList" "DEFAULTCAPACITY_EMPTY_ELEMENTDATA" "[Ljava/lang/Object;" (.ref (K.2 3)) (gNewA Z) U (gZB Z) ∧ va_T (.object "java/lang/Object") (K.2 3) 0 (fun _ => .null) (gNewA Z) U (gZB Z) ∧
  vx_Zq Bundle.tN "UNASSIGNED_STACK" Bundle.steD (gNewA Z) U (gZB Z) ∧ vx_Zq Bundle.tN "SUPPRESSED_SENTINEL" Bundle.listD (gNewA Z) U (gZB Z) ∧
  va_X K.1.1 K.1.2.1 K.1.2.2 U (gZB Z) ∧ K.1.1 < (gZB Z).size ∧ va_Mi "[Ljava/lang/Object;" (K.2 6) U ∧ Z.1.stackTraces = false ∧ KnL Z K U
theorem Kn.warm {Z : gZ} {K : gK} {s U : State} (hW : s.WarmedH U.vm) (h : Kn Z K s) : Kn Z K U := by
  obtain ⟨h1, h2, h3, h4, h5, h6, h7, h8, h9, h10, h11, h12, h13⟩ := h
  refine ⟨h1.moved hW.alike, fun w hw => gnw_warm hW (List.mem_filter.mp hw).2 (h2 w hw), fun q hq => va_Fw.moved ?_ hW.alike (h3 q hq), fun i hi => ⟨(h4 i hi).1.moved hW.alike, (h4 i hi).2.1.moved hW.alike, (h4 i hi).2.2.moved hW.alike⟩, h5.moved hW.alike, h6.moved hW.alike, h7.moved hW.alike, h8.moved hW.alike, h9.moved hW.alike, h10, h11.moved hW.alike, h12, KnL.warm hW h13⟩
  have : ∀ q ∈ gfw, q.1.cls ≠ "java/lang/invoke/MethodHandle" ∧ q.1.cls ≠ "java/lang/invoke/VarHandle" := by decide
  exact this q hq
/-- own class, name, code, locals, answer, handlers, the places of long locals -/
abbrev gMd : Type := String × String × ByteArray × Nat × Option FieldType × List (Nat × Nat × Nat × Nat) × (Nat → Bool)
def CXt (Z : gZ) (K : gK) (M : gMd) (p : Program) (s : State) (m : MethodId) (args : Array Value) (meth : Method) (c : Code) : Prop :=
  p.tables.exec = Jvm.exec ∧ c.code = M.2.2.1 ∧ meth.sig.returnType = M.2.2.2.2.1 ∧ c.maxLocals = M.2.2.2.1 ∧ s.vm.findClass M.1 = some m.cls ∧ (∀ w ∈ lw_all, w.before args s = true) ∧ meth.locks = false ∧ (meth.name = M.2.1 ∧ (M.2.1 = "<init>" → M.1 = "CuttingRoom" → s.methodNamed? ⟨"CuttingRoom", "<init>", "()V"⟩ = some m)) ∧
  c.exceptionTable.toList = tableOf M.2.2.2.2.2.1 ∧ Kn Z K s ∧ (gZB Z).size ≤ s.heap.size ∧ ∀ q, q < (gZB Z).size → s.heap[q]? = (gZB Z)[q]?
def QC (Z : gZ) (rt : Option FieldType) (r : gO) : Array Value → State → Outcome → State → Prop := fun _ _ o t => ∃ v, r.1 = .inl v ∧ o = .returned v ∧ HW Z r.2 t.heap ∧ (rt = some .char → ∃ x, v = some (.int x) ∧ narrow .char (.int x) = .int x)
def XC (Z : gZ) (r : gO) : String → State → State → Prop := fun E _ t => ∃ k, k < 6 ∧ r.1 = .inr k ∧ E = gex k ∧ HW Z r.2 t.heap
def EndQ (Z : gZ) (M : gMd) (r : gO) (R : Room) (s : State) (args : Array Value) (below : List Frame) (Q : State → Prop) : Prop :=
  Q = vx_MQ below (QC Z M.2.2.2.2.1 r) (XC Z r) args s R.cells R.slots (gNewA Z) ∨
  (M.2.2.1 = code ∧ M.2.2.2.2.1 = ret ∧ R = room_1 ∧ (∃ b, args = #[Value.ref b]) ∧ s.heap.size = (gZB Z).size ∧ r.1 = .inl (some (.int 1)) ∧ M.2.1 = "law" ∧ Q = lw_Z below args s)
def FR (d : Nat) : Nat := 2 * d + 12
def LR (d : Nat) : Nat := 80 * d + 3600
def VV (Z : gZ) (K : gK) (T : Nat → gMd) (d mi pc : Nat) (ls : gL) (st : List Value) (G : gH) (r : gO) : Prop :=
  G.2.1 ≤ r.2.2.1 ∧ G.2.2 ≤ r.2.2.2 ∧
  ∀ (p : Program) (e : Env) (R : Room) (s : State) (m : MethodId) (args : Array Value) (below : List Frame) (meth : Method) (c : Code) (H : Heap) (locs : List Loc) (cells slots : Nat) (arr : Array Slot) (Q : State → Prop),
    CXt Z K (T mi) p s m args meth c → FR d ≤ R.frames → LR d ≤ R.locals → cells + r.2.2.1 ≤ R.cells + G.2.1 → slots + r.2.2.2 ≤ R.slots + G.2.2 → HW Z G H → s.heap.size ≤ H.size → (∀ z ∈ locs, (gZB Z).size ≤ z.base) → glv (T mi).2.2.2.2.2.2 (T mi).2.2.2.1 arr ls → EndQ Z (T mi) r R s args below Q →
    W p Z.1 e R s m args below meth c H locs cells slots Q (F0 m pc arr st)
/-- a step of the ghost, met by the machine -/
def SO (Z : gZ) (K : gK) (T : Nat → gMd) (hd : Nat → Nat → Nat → Option (Option Int32)) (mi pc : Nat) (f : gS) : Prop := ∀ (ls : gL) (st : List Value) (G : gH), match f ls st G with
  | none => True
  | some (.inl (pc', ls', st', G')) => ∀ d r, VV Z K T d mi pc' ls' st' G' r → VV Z K T d mi pc ls st G r
  | some (.inr (.inl (mi', as, pc', ls', rest, G'))) => ∀ d r1 r, VV Z K T d mi' 0 (gent (T mi').2.2.2.1 as) [] G' r1 → (∀ v G1, r1 = (.inl v, G1) → VV Z K T (d + 1) mi pc' ls' (v.toList ++ rest) G1 r) → (∀ E G1, r1 = (.inr E, G1) → gthr hd mi pc E G1 = some r) → VV Z K T (d + 1) mi pc ls st G r
  | some (.inr (.inr r)) => ∀ d, VV Z K T d mi pc ls st G r
theorem gsound {Z : gZ} {K : gK} {T : Nat → gMd} {P : Nat → Nat → gS} {hd : Nat → Nat → Nat → Option (Option Int32)} (hall : ∀ mi pc, SO Z K T hd mi pc (P mi pc)) :
    ∀ (n d mi pc : Nat) (ls : gL) (st : List Value) (G : gH) (r : gO), gexec P (fun k => (T k).2.2.2.1) hd n d mi pc ls st G = some r → VV Z K T d mi pc ls st G r := by
  intro n
  induction n with
  | zero => intro d mi pc ls st G r h; cases h
  | succ n ih =>
    intro d mi pc ls st G r h
    have hS := hall mi pc ls st G
    rw [gexec] at h
    cases hp : P mi pc ls st G with
    | none => rw [hp] at h; cases h
    | some x =>
      rw [hp] at h hS
      obtain ⟨pc', ls', st', G'⟩ | ⟨mi', as, pc', ls', st', G'⟩ | x := x
      · exact hS d r (ih _ _ _ _ _ _ _ h)
      · cases d with
        | zero => cases h
        | succ d =>
          dsimp only at h
          cases hc : gexec P (fun k => (T k).2.2.2.1) hd n d mi' 0 (gent (T mi').2.2.2.1 as) [] G' with
          | none => rw [hc] at h; cases h
          | some r1 =>
            rw [hc] at h
            refine hS d r1 r (ih _ _ _ _ _ _ _ hc) (fun v G1 e => ?_) (fun E G1 e => ?_)
            · subst e
              exact ih _ _ _ _ _ _ _ h
            · subst e
              exact h
      · cases h
        exact hS d
section
variable {Z : gZ} {K : gK} {T : Nat → gMd} {hd : Nat → Nat → Nat → Option (Option Int32)} {mi pc : Nat} {own nm : String} {cc : ByteArray} {mx : Nat} {rt : Option FieldType} {hh : List (Nat × Nat × Nat × Nat)} {S : Nat → Bool}
/-- a step that leaves the memory alone -/
theorem VV.same {d pc' : Nat} {ls ls' : gL} {st st' : List Value} {G : gH} {r : gO} (hM : T mi = (own, nm, cc, mx, rt, hh, S)) (hv : VV Z K T d mi pc' ls' st' G r)
    (h : ∀ (p : Program) (e : Env) (R : Room) (s : State) (m : MethodId) (args : Array Value) (below : List Frame) (meth : Method) (c : Code) (H : Heap) (locs : List Loc) (cells slots : Nat) (arr : Array Slot) (Q : State → Prop),
      CXt Z K (own, nm, cc, mx, rt, hh, S) p s m args meth c → FR d ≤ R.frames → LR d ≤ R.locals → HW Z G H → s.heap.size ≤ H.size → (∀ z ∈ locs, (gZB Z).size ≤ z.base) → glv S mx arr ls →
      (∀ arr', glv S mx arr' ls' → W p Z.1 e R s m args below meth c H locs cells slots Q (F0 m pc' arr' st')) → W p Z.1 e R s m args below meth c H locs cells slots Q (F0 m pc arr st)) : VV Z K T d mi pc ls st G r := by
  refine ⟨hv.1, hv.2.1, ?_⟩
  intro p e R s m args below meth c H locs cells slots arr Q C h1 h2 h3 h4 h5 h6 h7 h8 h9
  have hv := hv.2.2
  rw [hM] at C h8 h9
  refine h p e R s m args below meth c H locs cells slots arr Q C h1 h2 h5 h6 h7 h8 (fun arr' hl => ?_)
  refine hv p e R s m args below meth c H locs cells slots arr' Q ?_ h1 h2 h3 h4 h5 h6 h7 ?_ ?_
  · rw [hM]; exact C
  · rw [hM]; exact hl
  · rw [hM]; exact h9
end
