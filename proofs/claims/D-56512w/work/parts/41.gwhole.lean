/-! THE START, joined; the law's walk out of the ghost's run (printed by mkwhole.py) -/
set_option maxRecDepth 100000
theorem st_rule {s : State} {b : Addr} {f nm : String} {z : Int32} {A : Nat → Prop} (hl : (Cond.laysStatic "CuttingRoom$Rule" f "LCuttingRoom$Rule;").before #[Value.ref b] s = true) (hini : (Cond.initialized "CuttingRoom$Rule").before #[Value.ref b] s = true) (hex : (Cond.exactly (.static "CuttingRoom$Rule" f "LCuttingRoom$Rule;") nm).before #[Value.ref b] s = true) (hf : (Cond.eq (.field (.static "CuttingRoom$Rule" f "LCuttingRoom$Rule;") "CuttingRoom$Rule" "letter" "C") (.int z)).before #[Value.ref b] s = true) (hA : ∀ a : Nat, a < s.heap.size → ¬ A a) :
    ∃ a, (Term.static "CuttingRoom$Rule" f "LCuttingRoom$Rule;").eval #[Value.ref b] s none [] s = some (.ref a) ∧ a < s.heap.size ∧ va_Z "CuttingRoom$Rule" f "LCuttingRoom$Rule;" (.ref a) A s s.heap ∧ va_OF "CuttingRoom$Rule" "letter" "C" (.int z) a A s s.heap ∧ va_O nm a A s s.heap := by
  obtain ⟨a, c, cell, k, q1, q2, q3, q4, q5, q6, -⟩ := Cond.exactly_spec hex
  refine ⟨a, q1, (Array.getElem?_eq_some_iff.mp q3).1, va_Zref hl hini q1 hA, ?_, va_Oof hex q1 hA⟩
  have hv := va_eqt hf
  cases hfo : s.fieldFound? "CuttingRoom$Rule" "letter" "C" with
  | none =>
    rw [va_fe q1] at hv
    simp [State.fieldOf?, State.fieldNamed?, hfo] at hv
  | some x =>
    obtain ⟨cf, k, fi, f⟩ := x
    obtain ⟨g1, cell, g2, g3, -, -, g6⟩ := Term.field_spec hfo q1 hv
    exact ⟨cf, k, fi, f, cell, hfo, g1, g2, g3, g6, hA _ (Array.getElem?_eq_some_iff.mp g2).1⟩
theorem st_nw {s : State} {b : Addr} (ht : ∀ w ∈ lw_tbl, w.before #[Value.ref b] s = true) : ∀ w ∈ gnw, va_Nw w s := by
  intro w hw
  have h := ht w (List.mem_filter.mp hw).1
  have hk := (List.mem_filter.mp hw).2
  cases w <;> first | (cases hk; done) | exact va_Nw.of rfl h | exact h
theorem st_fw {s : State} {b : Addr} (ht : ∀ w ∈ lw_tbl, w.before #[Value.ref b] s = true) : ∀ q ∈ gfw, va_Fw "java/util/ArrayList" q.1 q.2 s := by
  intro q hq
  simp only [gfw, List.mem_cons, List.not_mem_nil, or_false] at hq
  rcases hq with rfl | rfl | rfl | rfl | rfl | rfl
  · exact va_Fw.of (ht _ q211) (ht _ q210) (ht _ q216) (ht _ q214) (ht _ q212)
  · exact va_Fw.of (ht _ q407) (ht _ q406) (ht _ q411) (ht _ q409) (ht _ q212)
  · exact va_Fw.of (ht _ q747) (ht _ q746) (ht _ q751) (ht _ q749) (ht _ q212)
  · exact va_Fw.of (ht _ q571) (ht _ q570) (ht _ q575) (ht _ q573) (ht _ q212)
  · exact va_Fw.of (ht _ q381) (ht _ q380) (ht _ q385) (ht _ q383) (ht _ q212)
  · exact va_Fw.of (ht _ q1014) (ht _ q1013) (ht _ q1018) (ht _ q1016) (ht _ q212)
theorem st_Kn {p : Program} {s : State} {m : MethodId} {meth : Method} {c : Code} (l : Launch) (hflags : l.flags = flags0) {b L : Nat} {xs : Nat → Int32} (C0 : lw_At p s m meth c b L xs) : ∃ (Z : gZ) (K : gK), Z.1 = l ∧ gZB Z = s.heap ∧ K.1 = (b, L, xs) ∧ Kn Z K s ∧ (∀ i, i < 6 → K.2 i < s.heap.size) ∧ K.2 0 ≠ K.2 1 ∧ K.2 0 ≠ K.2 2 ∧ K.2 1 ≠ K.2 2 ∧ K.2 4 ≠ K.2 5 := by
  obtain ⟨hx, hb, hr, hml, hown, ht, hX, hbl, hlocks, hgv⟩ := C0
  have hs := flat_of_before _ hgv
  have hA : ∀ a : Nat, a < s.heap.size → ¬ (fun q => s.heap.size ≤ q) a := fun a h h2 => absurd h (Nat.not_lt.mpr h2)
  obtain ⟨r0, ev0, lt0, z0, f0, o0⟩ := st_rule (nm := "CuttingRoom$Rule$1") (z := 110) (A := fun q => s.heap.size ≤ q) (ht _ q639) (ht _ (lw_all_tbl q81)) (hs (Cond.exactly (.static "CuttingRoom$Rule" "FIXED" "LCuttingRoom$Rule;") "CuttingRoom$Rule$1") (by decide +kernel)) (hs (Cond.eq (.field (.static "CuttingRoom$Rule" "FIXED" "LCuttingRoom$Rule;") "CuttingRoom$Rule" "letter" "C") (.int 110)) (by decide +kernel)) hA
  obtain ⟨r1, ev1, lt1, z1, f1, o1⟩ := st_rule (nm := "CuttingRoom$Rule$2") (z := 104) (A := fun q => s.heap.size ≤ q) (ht _ q641) (ht _ (lw_all_tbl q81)) (hs (Cond.exactly (.static "CuttingRoom$Rule" "HALF" "LCuttingRoom$Rule;") "CuttingRoom$Rule$2") (by decide +kernel)) (hs (Cond.eq (.field (.static "CuttingRoom$Rule" "HALF" "LCuttingRoom$Rule;") "CuttingRoom$Rule" "letter" "C") (.int 104)) (by decide +kernel)) hA
  obtain ⟨r2, ev2, lt2, z2, f2, o2⟩ := st_rule (nm := "CuttingRoom$Rule$3") (z := 113) (A := fun q => s.heap.size ≤ q) (ht _ q643) (ht _ (lw_all_tbl q81)) (hs (Cond.exactly (.static "CuttingRoom$Rule" "QUARTER" "LCuttingRoom$Rule;") "CuttingRoom$Rule$3") (by decide +kernel)) (hs (Cond.eq (.field (.static "CuttingRoom$Rule" "QUARTER" "LCuttingRoom$Rule;") "CuttingRoom$Rule" "letter" "C") (.int 113)) (by decide +kernel)) hA
  obtain ⟨r3, ev3, t3⟩ := va_Tof (args := #[Value.ref b]) (tm := .static "java/util/ArrayList" "DEFAULTCAPACITY_EMPTY_ELEMENTDATA" "[Ljava/lang/Object;") (ty := .object "java/lang/Object") (N := 0) (f := fun _ => .null) (A := fun q => s.heap.size ≤ q) (by decide) (hs (Cond.arrayOf (.static "java/util/ArrayList" "DEFAULTCAPACITY_EMPTY_ELEMENTDATA" "[Ljava/lang/Object;") (.object "java/lang/Object")) (by decide +kernel)) (va_eqt (hs (Cond.eq (.length (.static "java/util/ArrayList" "DEFAULTCAPACITY_EMPTY_ELEMENTDATA" "[Ljava/lang/Object;")) (.int 0)) (by decide +kernel))) (fun j hj => absurd hj (Nat.not_lt_zero j)) hA
  have z3 := va_Zref (ht _ q121) (ht _ (lw_all_tbl q69)) ev3 hA
  have lt3 : r3 < s.heap.size := by
    obtain ⟨cell, h, -⟩ := t3
    exact (Array.getElem?_eq_some_iff.mp h).1
  obtain ⟨l0, s0⟩ := st_siteB (j := 0) (by decide) (hs (Cond.lambdaSite ⟨"CuttingRoom", "<init>", "()V"⟩ (gpcL 0) (gixL 0) (gsg 0)) (by decide +kernel))
  obtain ⟨l1, s1⟩ := st_siteB (j := 1) (by decide) (hs (Cond.lambdaSite ⟨"CuttingRoom", "<init>", "()V"⟩ (gpcL 1) (gixL 1) (gsg 1)) (by decide +kernel))
  obtain ⟨l2, s2⟩ := st_siteB (j := 2) (by decide) (hs (Cond.lambdaSite ⟨"CuttingRoom", "<init>", "()V"⟩ (gpcL 2) (gixL 2) (gsg 2)) (by decide +kernel))
  obtain ⟨l3, s3⟩ := st_siteB (j := 3) (by decide) (hs (Cond.lambdaSite ⟨"CuttingRoom", "<init>", "()V"⟩ (gpcL 3) (gixL 3) (gsg 3)) (by decide +kernel))
  obtain ⟨l4, s4⟩ := st_siteB (j := 4) (by decide) (hs (Cond.lambdaSite ⟨"CuttingRoom", "<init>", "()V"⟩ (gpcL 4) (gixL 4) (gsg 4)) (by decide +kernel))
  obtain ⟨l5, r4, s5, cell5, d5, e5, g5⟩ := st_siteS (j := 0) (by decide) (hs (Cond.lambdaSite ⟨"CuttingRoom", "<init>", "()V"⟩ (gpcL 5) (gixL 5) (gsg 5)) (by decide +kernel))
  obtain ⟨l6, r5, s6, cell6, d6, e6, g6⟩ := st_siteS (j := 1) (by decide) (hs (Cond.lambdaSite ⟨"CuttingRoom", "<init>", "()V"⟩ (gpcL 6) (gixL 6) (gsg 6)) (by decide +kernel))
  obtain ⟨mi, hmi⟩ := va_Mi.of (hs (Cond.isRef (.mirror "[Ljava/lang/Object;")) (by decide +kernel))
  have hO : ∀ o ok, s.vm.findClass "java/lang/Object" = some o → s.vm.classes[o]? = some ok → ok.instanceTypes.size = 0 := by
    obtain ⟨cO, kO, hfO, hkO, -, -, -, hsz⟩ := Cond.instantiable_spec (ht _ (lw_all_tbl q1875))
    intro o ok h1 h2
    cases hfO.symm.trans h1
    cases hkO.symm.trans h2
    exact hsz
  have hne := st_ne s5 s6 hO
  obtain ⟨iI, ik, -, hI1, hI2, hI3, -⟩ := Cond.interfaceMethod_spec (ht _ q939)
  obtain ⟨dC, dI, hcls⟩ := st_cls ht
  obtain ⟨aC, harr⟩ := st_arr ht
  have u1 := vx_Zqof (C := Bundle.tN) (n := "UNASSIGNED_STACK") (d := Bundle.steD) (A := fun q => s.heap.size ≤ q) (ht _ q472) (ht _ (lw_all_tbl q74)) (hs (Cond.isRef (.static "java/lang/Throwable" "UNASSIGNED_STACK" "[Ljava/lang/StackTraceElement;")) (by decide +kernel)) hA
  have u2 := vx_Zqof (C := Bundle.tN) (n := "SUPPRESSED_SENTINEL") (d := Bundle.listD) (A := fun q => s.heap.size ≤ q) (ht _ q474) (ht _ (lw_all_tbl q74)) (hs (Cond.isRef (.static "java/lang/Throwable" "SUPPRESSED_SENTINEL" "Ljava/util/List;")) (by decide +kernel)) hA
  refine ⟨(l, s.heap, (dC, dI), aC, fun j => if j = 0 then l0 else if j = 1 then l1 else if j = 2 then l2 else if j = 3 then l3 else if j = 4 then l4 else if j = 5 then l5 else l6), ((b, L, xs), fun i => if i = 0 then r0 else if i = 1 then r1 else if i = 2 then r2 else if i = 3 then r3 else if i = 4 then r4 else if i = 5 then r5 else mi), rfl, rfl, rfl, ?_, ?_, ?_, ?_, ?_, ?_⟩
  · refine ⟨⟨hcls, harr _ _ _ _⟩, st_nw ht, st_fw ht, fun i hi => ?_, z3, t3, u1, u2, hX, hbl, hmi, ?_, st_nc hs, fun j hj => ?_, fun j hj => ?_, hO, iI, ik, hI1, hI2, hI3⟩
    · match i, hi with
      | 0, _ => exact ⟨z0, f0, o0⟩
      | 1, _ => exact ⟨z1, f1, o1⟩
      | 2, _ => exact ⟨z2, f2, o2⟩
      | i + 3, h => exact absurd h (by omega)
    · show l.stackTraces = false
      unfold Launch.stackTraces
      rw [hflags]
      decide
    · match j, hj with
      | 0, _ => exact s0
      | 1, _ => exact s1
      | 2, _ => exact s2
      | 3, _ => exact s3
      | 4, _ => exact s4
      | j + 5, h => exact absurd h (by omega)
    · match j, hj with
      | 0, _ => exact ⟨s5, cell5, d5, e5, g5⟩
      | 1, _ => exact ⟨s6, cell6, d6, e6, g6⟩
      | j + 2, h => exact absurd h (by omega)
  · intro i hi
    match i, hi with
    | 0, _ => exact lt0
    | 1, _ => exact lt1
    | 2, _ => exact lt2
    | 3, _ => exact lt3
    | 4, _ => exact (Array.getElem?_eq_some_iff.mp d5).1
    | 5, _ => exact (Array.getElem?_eq_some_iff.mp d6).1
    | i + 6, h => exact absurd h (by omega)
  · exact va_neR (hs (Cond.not (.eq (.static "CuttingRoom$Rule" "FIXED" "LCuttingRoom$Rule;") (.static "CuttingRoom$Rule" "HALF" "LCuttingRoom$Rule;"))) (by decide +kernel))  ev0 ev1
  · exact va_neR (hs (Cond.not (.eq (.static "CuttingRoom$Rule" "FIXED" "LCuttingRoom$Rule;") (.static "CuttingRoom$Rule" "QUARTER" "LCuttingRoom$Rule;"))) (by decide +kernel))  ev0 ev2
  · exact va_neR (hs (Cond.not (.eq (.static "CuttingRoom$Rule" "HALF" "LCuttingRoom$Rule;") (.static "CuttingRoom$Rule" "QUARTER" "LCuttingRoom$Rule;"))) (by decide +kernel))  ev1 ev2
  · intro h
    have h' : r4 = r5 := h
    subst h'
    cases d5.symm.trans d6
    exact hne (e5.symm.trans e6)
abbrev gMx (k : Nat) : Nat := (gT k).2.2.2.1
/-- what the pure side owes: on every script the law's run gives 1, within its room -/
def gPure : Prop := ∀ (K : gK) (N : Nat), K.1.2.1 ≤ 384 → K.1.1 < N → (∀ i, i < 6 → K.2 i < N) → K.2 0 ≠ K.2 1 → K.2 0 ≠ K.2 2 → K.2 1 ≠ K.2 2 → K.2 4 ≠ K.2 5 →
  ∃ (d : Nat) (G : gH), d ≤ 1000 ∧ grun (gP K) gMx gHd d 0 0 (gent 9 [.ref K.1.1]) [] (fun _ => none, N, 0) = some (.inl (some (.int 1)), G) ∧ G.2.1 ≤ N + 603072 ∧ G.2.2 ≤ 7182442
theorem whole_of (hp : gPure) {p : Program} {e : Env} {s : State} {m : MethodId} {below : List Frame} {meth : Method} {c : Code} (l : Launch) (hflags : l.flags = flags0) {b L : Nat} {xs : Nat → Int32} (hL : L ≤ 384) (C0 : lw_At p s m meth c b L xs) (hnm : meth.name = "law") (htab : c.exceptionTable.toList = []) : W p l e room_1 s m #[Value.ref b] below meth c s.heap [] 0 0 (lw_Z below #[Value.ref b] s) (entryFrame m ([Value.ref b] : List Value).toArray 9) := by
  obtain ⟨⟨l', H', D, aC, lC⟩, K, hl', hH', hK1, hKn, hlt, d1, d2, d3, d4⟩ := st_Kn l hflags C0
  dsimp only [gZB] at hl' hH'
  subst hl' hH'
  obtain ⟨⟨kb, kL, kx⟩, K2⟩ := K
  cases hK1
  obtain ⟨hx, hb, hr, hml, hown, ht, hX, hbl, hlocks, hgv⟩ := C0
  obtain ⟨d, G, hd, hrun, hc, hs⟩ := hp ((b, L, xs), K2) s.heap.size hL hbl hlt d1 d2 d3 d4
  obtain ⟨n, hn⟩ := grun_iff.mp hrun
  have hv := gsound (gSall (l', s.heap, D, aC, lC) ((b, L, xs), K2)) n d 0 0 _ _ _ _ hn
  have hl := lv_entry [Value.ref b] (n := 9) (by show 1 ≤ 9; decide)
  rw [lg_entry_eq]
  generalize (lg_sl [Value.ref b] ++ List.replicate (9 - (lg_sl [Value.ref b]).length) Slot.unset).toArray = arr at hl ⊢
  have hcat : ∀ v ∈ [Value.ref b], v.category = 1 := by intro v hv; simp at hv; subst hv; rfl
  refine hv.2.2 p e room_1 s m #[Value.ref b] below meth c s.heap [] 0 0 arr _ ?_ ?_ ?_ ?_ ?_ ⟨rfl, Nat.le_refl _, fun _ _ => rfl, fun _ _ h => by cases h⟩ (Nat.le_refl _) (fun _ h => by cases h) ?_ ?_
  · rw [m_0]
    exact ⟨hx, hb, hr, hml, hown, fun w hw => ht w (lw_all_tbl hw), hlocks, ⟨hnm, fun h => absurd h (by decide)⟩, htab, hKn, Nat.le_refl _, fun _ _ => rfl⟩
  · show 2 * d + 12 ≤ 8192
    omega
  · show 80 * d + 3600 ≤ 104096
    omega
  · show 0 + G.2.1 ≤ 603072 + s.heap.size
    omega
  · show 0 + G.2.2 ≤ 7182442 + 0
    omega
  · rw [m_0]
    refine ⟨hl.1, hl.2.1, fun k v hk hc => ?_, fun k v hk => ?_⟩
    · have := hcat v (List.mem_of_getElem? (gent_at hk))
      omega
    · have := lv_args_1 [Value.ref b] 0 k v hcat (gent_at hk)
      rw [Nat.zero_add] at this
      exact hl.2.2 _ this
  · rw [m_0]
    exact Or.inr ⟨rfl, rfl, rfl, ⟨b, rfl⟩, rfl, rfl, rfl, rfl⟩
