/-! SOUNDNESS 13: calls of lambdas -/
set_option maxRecDepth 100000
theorem l_madeB {σ : Lambda.Shape} (hσ : σ ∈ lbs) {e : Setting} {vm : Vm} {d c : ClassId} {dk : Class} (hd : vm.classes[d]? = some dk) (hname : dk.name = "CuttingRoom") (h : Lambda.isMade e vm d σ c = true)
    (hO : ∀ o ok, vm.findClass "java/lang/Object" = some o → vm.classes[o]? = some ok → ok.instanceTypes.size = 0) :
    ∃ (k tk : Class) (file : ClassFile) (methk : Method) (ck : Code) (toy : ClassId) (t : MethodId) (f0 : Field),
      vm.classes[c]? = some k ∧ k.name = "CuttingRoom$$Lambda" ∧ k.cf = some file ∧ file.constantPool = (lD σ).constantPool ∧
      vm.method? ⟨c, 1⟩ = some methk ∧ methk.code = some ck ∧ ck.code = lcB ∧ ck.maxLocals = 2 ∧ methk.locks = false ∧ methk.accessFlags = 0x0001 ∧ methk.sig.returnType = some .char ∧ ck.exceptionTable = #[] ∧
      vm.findClass "CuttingRoom" = some toy ∧ vm.classes[toy]? = some tk ∧ tk.isInterface = false ∧ ((methodIn toy σ.implName "(LCuttingRoom$Sheet;)C" tk.isInterface none).ask e vm).1 = .ok t ∧
      vm.methodReady c 22 t ∧ vm.classReady c 19 toy ∧ vm.fieldReady c 15 c f0 ∧ f0.isStatic = false ∧ f0.slot = 0 ∧ k.instanceTypes = #[.object "CuttingRoom"] ∧ k.kind = .ordinary := by
  have hσ' : σ ∈ lbs ++ lss := List.mem_append_left _ hσ
  obtain ⟨dk', k, ok, tk, file, cf, object, iface, toy, lay, methods, target, found, hd', hk, hfile, hcf, hobj, -, hok, hlay, hms, ht, htk, hg, -, hrec, -, -, -, hitf, hpool, hmeth, hfields, hty, hres, -⟩ := Lambda.isMade_spec h
  cases hd.symm.trans hd'
  rw [hname, l_file hσ'] at hcf
  cases hcf
  have hO' := hO object ok hobj hok
  rw [hO', l_laid hσ'] at hlay
  cases hlay
  obtain ⟨ff, hid, hic, -⟩ := l_flags σ hσ'
  rw [hid] at hg
  rw [hic] at ht
  obtain ⟨b, hb, hsame⟩ := hmeth 1 (lfw σ) (l_second hσ' methods hms)
  obtain ⟨hn, -, hsig, hfl, x, y, hfc, hbc, -, hml, hby, hex⟩ := Lambda.sameMethod_spec hsame
  have fc := l_codeB σ hσ
  simp only [Prod.mk.injEq] at ff
  have eF0 := l_eF σ hσ
  have eM := l_eM σ hσ
  have eC := l_eC σ hσ
  obtain ⟨g0, hg0, hp0⟩ := Option.map_eq_some_iff.mp eF0.2.2.2.1
  simp only [Prod.mk.injEq] at hp0
  rw [hfc] at fc
  simp only [Option.map_some, Option.some.injEq, Prod.mk.injEq] at fc
  have hif : tk.isInterface = false := by
    rw [hitf]
    have : ∀ σ ∈ lbs, σ.implItf = false := by decide
    exact this σ hσ
  have hemp : ok.instanceTypes = #[] := Array.eq_empty_of_size_eq_zero hO'
  refine ⟨k, tk, file, b, y, toy, target, g0, hk, by rw [hrec.1, hname]; rfl, hfile, hpool.2.1, by simp [Vm.method?, hk, hb], hbc, ?_, by rw [hml]; exact fc.2, ?_, by rw [hfl]; exact ff.1, by rw [hsig]; exact ff.2.2, hex, ht, htk, hif, hg,
    ⟨k, hk, hres 22 _ (Lambda.resolvedOf_method eM.1 eM.2.1 ht htk eM.2.2 hg)⟩, ⟨k, hk, hres 19 _ (Lambda.resolvedOf_class eC.1 eC.2.2 eC.2.1 ht)⟩,
    ⟨k, 0, k, hk, hres 15 _ (Lambda.resolvedOf_field eF0.1 eF0.2.1 eF0.2.2.1), hk, hfields 0 _ hg0⟩, hp0.1, hp0.2, ?_, hrec.2.1⟩
  · rw [hby]
    exact ByteArray.ext fc.1
  · simp [Method.locks, Method.isSynchronized, hfl, ff.1, hasFlag, Acc.synchronized]
  · rw [hty.1, hemp, eF0.2.2.2.2]
    rfl
theorem l_madeS {σ : Lambda.Shape} (hσ : σ ∈ lss) {e : Setting} {vm : Vm} {d c : ClassId} {dk : Class} (hd : vm.classes[d]? = some dk) (hname : dk.name = "CuttingRoom") (h : Lambda.isMade e vm d σ c = true)
    (hO : ∀ o ok, vm.findClass "java/lang/Object" = some o → vm.classes[o]? = some ok → ok.instanceTypes.size = 0) :
    ∃ (k tk : Class) (file : ClassFile) (methk : Method) (ck : Code) (toy : ClassId) (t : MethodId),
      vm.classes[c]? = some k ∧ k.name = "CuttingRoom$$Lambda" ∧ k.cf = some file ∧ file.constantPool = (lD σ).constantPool ∧
      vm.method? ⟨c, 1⟩ = some methk ∧ methk.code = some ck ∧ ck.code = lcS ∧ ck.maxLocals = 2 ∧ methk.locks = false ∧ methk.accessFlags = 0x0001 ∧ methk.sig.returnType = some .char ∧ ck.exceptionTable = #[] ∧
      vm.findClass "CuttingRoom" = some toy ∧ vm.classes[toy]? = some tk ∧ tk.isInterface = false ∧ ((methodIn toy σ.implName "(LCuttingRoom$Sheet;)C" tk.isInterface none).ask e vm).1 = .ok t ∧
      vm.methodReady c 17 t ∧ vm.classReady c 14 toy := by
  have hσ' : σ ∈ lbs ++ lss := List.mem_append_right _ hσ
  obtain ⟨dk', k, ok, tk, file, cf, object, iface, toy, lay, methods, target, found, hd', hk, hfile, hcf, hobj, -, hok, hlay, hms, ht, htk, hg, -, hrec, -, -, -, hitf, hpool, hmeth, hfields, -, hres, -⟩ := Lambda.isMade_spec h
  cases hd.symm.trans hd'
  rw [hname, l_file hσ'] at hcf
  cases hcf
  obtain ⟨ff, hid, hic, -⟩ := l_flags σ hσ'
  rw [hid] at hg
  rw [hic] at ht
  obtain ⟨b, hb, hsame⟩ := hmeth 1 (lfw σ) (l_second hσ' methods hms)
  obtain ⟨hn, -, hsig, hfl, x, y, hfc, hbc, -, hml, hby, hex⟩ := Lambda.sameMethod_spec hsame
  have fc := l_codeS σ hσ
  simp only [Prod.mk.injEq] at ff
  have eM := l_sM σ hσ
  have eC := l_sC σ hσ
  rw [hfc] at fc
  simp only [Option.map_some, Option.some.injEq, Prod.mk.injEq] at fc
  have hif : tk.isInterface = false := by
    rw [hitf]
    have : ∀ σ ∈ lss, σ.implItf = false := by decide
    exact this σ hσ
  refine ⟨k, tk, file, b, y, toy, target, hk, by rw [hrec.1, hname]; rfl, hfile, hpool.2.1, by simp [Vm.method?, hk, hb], hbc, ?_, by rw [hml]; exact fc.2, ?_, by rw [hfl]; exact ff.1, by rw [hsig]; exact ff.2.2, hex, ht, htk, hif, hg,
    ⟨k, hk, hres 17 _ (Lambda.resolvedOf_method eM.1 eM.2.1 ht htk eM.2.2 hg)⟩, ⟨k, hk, hres 14 _ (Lambda.resolvedOf_class eC.1 eC.2.2 eC.2.1 ht)⟩⟩
  · rw [hby]
    exact ByteArray.ext fc.1
  · simp [Method.locks, Method.isSynchronized, hfl, ff.1, hasFlag, Acc.synchronized]
theorem gw_weaken {tb : Tables} {e : Env} {mid below : List Frame} {a b : State} (h : Steps tb e (mid ++ below) a b) : Steps tb e below a b := by
  obtain ⟨n, hn, w⟩ := h
  exact ⟨n, hn, fun k hk => (w k hk).weaken⟩
section
variable {p : Program} {l : Launch} {e : Env} {R : Room} {s : State} {m : MethodId} {args : Array Value} {below : List Frame} {meth : Method} {c : Code} {T : State} {locs : List Loc} {cells slots : Nat}
/-- a method that is entered by its number, walked in a frame of its own: back in the caller's frame -/
theorem gmade (X : Stand p l e R s m args below meth c T locs cells slots) {g : JFrame} (hg : g.method = m) (hsize : g.locals.size = c.maxLocals) {ig : Instr} {len : Nat} (hdg : decode c.code g.pc = .ok (ig, len))
    {mk : MethodId} {methk : Method} {ck : Code} {a : Array Value} {R' : Room} {Qc : Array Value → State → Outcome → State → Prop} {XC : String → State → State → Prop} {free : Addr → Prop} {mc ms : Nat} (hmk : T.vm.method? mk = some methk) (hck : methk.code = some ck) (hlk : methk.locks = false) (hpk : T.plainMethod mk)
    (hframes : R'.frames + 1 ≤ R.frames) (hlocals : 2 * g.monitorRoom + (g.stack.map fun v => v.category).sum + (ck.maxLocals + 11) + R'.locals ≤ R.locals) (hcells : cells + R'.cells ≤ R.cells) (hslots : slots + R'.slots ≤ R.slots)
    (hW : ∀ U : State, U = (T.setTop g).pushFrame (.java (entryFrame mk a ck.maxLocals)) → Stand p l e R' (T.calling g mk a) mk a (.java g :: below) methk ck U [] 0 0 →
      ∃ t, Steps p.tables e (.java g :: below) (U.setTop (entryFrame mk a ck.maxLocals)) t ∧ vx_MQ (.java g :: below) Qc XC a (T.calling g mk a) mc ms free t) :
    (∃ (v : Option Value) (t T' : State) (L : List Loc), Stand p l e R s m args below meth c T' (locs ++ L) (cells + mc) (slots + ms) ∧ (∀ q ∈ L, free q.base) ∧ T'.heap = t.heap ∧ T'.vm = t.vm ∧ Qc a (T.calling g mk a) (.returned v) t ∧
      Steps p.tables e below (doInvoke e (T.setTop g) [] mk a).1 (T'.setTop { g with pc := g.pc + len, stack := v.toList ++ g.stack })) ∨
    (∃ (q : Addr) (t T' : State) (L : List Loc) (E : String) (ce : Cell), Stand p l e R s m args below meth c T' (locs ++ L) (cells + mc) (slots + ms) ∧ (∀ z ∈ L, free z.base) ∧ T'.heap = t.heap ∧ T'.vm = t.vm ∧ XC E (T.calling g mk a) t ∧ t.heap[q]? = some ce ∧ ce.vm = .none ∧ T.vm.findClass E = some ce.cls ∧
      Steps p.tables e below (doInvoke e (T.setTop g) [] mk a).1 ((T'.setTop g).pushFrame (.throwing q))) := by
  obtain ⟨Y₀, hin⟩ := X.into hg hsize hdg a (R' := R') hmk hck hlk hpk hframes hlocals hcells hslots
  obtain ⟨t, hst, o, hrun, hend, hq⟩ := hW _ rfl Y₀
  have hst' : Steps p.tables e below (doInvoke e (T.setTop g) [] mk a).1 t := by
    rw [hin []]
    exact gw_weaken (mid := [.java g]) hst
  rcases hq with ⟨hqc, L, ⟨⟨v, rfl⟩, hW₂, hsm⟩, hL⟩ | ⟨q, rfl, E, ce, L, hx, hce, hcv, hcl, hW₂, hsm, hL⟩
  · obtain ⟨e2, q2, q3, q4, q5, q6⟩ := id hsm
    subst hg
    have htop := X.here.top
    have e3 : t = ({ (T.calling g g.method a).setFrames t.frames with heap := t.heap, slotsUsed := t.slotsUsed } : State).setVm t.vm ∨ True := Or.inr trivial
    obtain ⟨c₂, i₂, len₂, hc₂, hd₂, hf₂⟩ := hend
    have hW' : T.WarmedH t.vm := hW₂
    have hcc : c₂ = c := by
      have h1 : t.code? g.method = T.code? g.method := by rw [State.code?_eq, State.code?_eq, hW'.alike.method?]
      exact Option.some.inj (hc₂.symm.trans (h1.trans X.here.code))
    subst hcc
    have hlen : len₂ = len := by rw [hdg] at hd₂; cases hd₂; rfl
    subst hlen
    obtain ⟨g₀, hr⟩ := X.frames_eq
    have e4 : t = ({ (T.calling g mk a).setFrames t.frames with heap := t.heap, slotsUsed := t.slotsUsed } : State).setVm t.vm := by
      have : t = ({ t with vm := (T.calling g mk a).vm } : State).setVm t.vm := rfl
      rw [e2] at this
      exact this
    have ht : t = (({ T with heap := t.heap, slotsUsed := t.slotsUsed } : State).setVm t.vm).setTop { g with pc := g.pc + len₂, stack := v.toList ++ g.stack } := by
      have hr' : (({ T with heap := t.heap, slotsUsed := t.slotsUsed } : State).setVm t.vm).frames = .java g₀ :: below := hr
      refine e4.trans ?_
      rw [hf₂, State.calling_eq htop, State.setFrames_setFrames, State.setTop_of_frames _ hr']
      rfl
    have hB : T.sameButNew ({ T with heap := t.heap, slotsUsed := t.slotsUsed } : State) L mc ms := by
      refine ⟨?_, q2, q3, q4, q5, q6⟩
      obtain ⟨th, hth, -⟩ := State.frames_cons hr
      show ({ T with heap := t.heap, slotsUsed := t.slotsUsed } : State) = { T.setFrames T.frames with heap := t.heap, slotsUsed := t.slotsUsed }
      rw [State.setFrames_self hth]
    refine Or.inl ⟨v, t, ({ T with heap := t.heap, slotsUsed := t.slotsUsed } : State).setVm t.vm, L,
      ⟨X.admits, X.cas, X.clock, X.frames, X.room, X.hears, X.method, X.code, (X.here.setHeapUsed t.heap t.slotsUsed).setVm hW'.alike, X.tail, State.WarmedH.trans X.warmed hW', X.limits, X.bytes, X.same.trans (hB.setVm s.vm)⟩, hL, rfl, rfl, hqc, ?_⟩
    rw [← ht]
    exact hst'
  · obtain ⟨e2, q2, q3, q4, q5, q6⟩ := id hsm
    subst hg
    have htop := X.here.top
    obtain ⟨g₀, hr⟩ := X.frames_eq
    have hW' : T.WarmedH t.vm := hW₂
    have e4 : t = ({ (T.calling g mk a).setFrames t.frames with heap := t.heap, slotsUsed := t.slotsUsed } : State).setVm t.vm := by
      have : t = ({ t with vm := (T.calling g mk a).vm } : State).setVm t.vm := rfl
      rw [e2] at this
      exact this
    have hf₂ : t.frames = .throwing q :: .java g :: below := hend
    have hr' : (({ T with heap := t.heap, slotsUsed := t.slotsUsed } : State).setVm t.vm).frames = .java g₀ :: below := hr
    have ht : t = ((({ T with heap := t.heap, slotsUsed := t.slotsUsed } : State).setVm t.vm).setTop g).pushFrame (.throwing q) := by
      refine e4.trans ?_
      rw [hf₂, State.calling_eq htop, State.setFrames_setFrames, State.pushFrame, State.frames_setTop _ hr', State.setTop_of_frames _ hr', State.setFrames_setFrames]
      rfl
    have hB : T.sameButNew ({ T with heap := t.heap, slotsUsed := t.slotsUsed } : State) L mc ms := by
      refine ⟨?_, q2, q3, q4, q5, q6⟩
      obtain ⟨th, hth, -⟩ := State.frames_cons hr
      show ({ T with heap := t.heap, slotsUsed := t.slotsUsed } : State) = { T.setFrames T.frames with heap := t.heap, slotsUsed := t.slotsUsed }
      rw [State.setFrames_self hth]
    refine Or.inr ⟨q, t, ({ T with heap := t.heap, slotsUsed := t.slotsUsed } : State).setVm t.vm, L, E, ce,
      ⟨X.admits, X.cas, X.clock, X.frames, X.room, X.hears, X.method, X.code, (X.here.setHeapUsed t.heap t.slotsUsed).setVm hW'.alike, X.tail, State.WarmedH.trans X.warmed hW', X.limits, X.bytes, X.same.trans (hB.setVm s.vm)⟩, hL, rfl, rfl, hx, hce, hcv, hcl, ?_⟩
    rw [← ht]
    exact hst'
end
