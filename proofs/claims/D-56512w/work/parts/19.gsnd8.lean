/-! SOUNDNESS 8: getClass, throws, contracts, calls -/
set_option maxRecDepth 100000
section
variable {Z : gZ} {K : gK} {T : Nat → gMd} {hd : Nat → Nat → Nat → Option (Option Int32)} {mi pc : Nat} {own nm : String} {cc : ByteArray} {mx : Nat} {rt : Option FieldType} {hh : List (Nat × Nat × Nat × Nat)} {S : Nat → Bool}
theorem so_getClass (hM : T mi = (own, nm, cc, mx, rt, hh, S)) {index : Nat} (hw : Cond.methodLink own index ⟨"java/lang/Object", "getClass", "()Ljava/lang/Class;"⟩ ∈ lw_all) (hw2 : Cond.declares ⟨"java/lang/Object", "getClass", "()Ljava/lang/Class;"⟩ ∈ lw_tbl) (hw3 : Cond.selects "[Ljava/lang/Object;" ⟨"java/lang/Object", "getClass", "()Ljava/lang/Class;"⟩ ⟨"java/lang/Object", "getClass", "()Ljava/lang/Class;"⟩ ∈ lw_all) (hw4 : Cond.instanceMethod ⟨"java/lang/Object", "getClass", "()Ljava/lang/Class;"⟩ ∈ lw_all) (hw5 : Cond.native ⟨"java/lang/Object", "getClass", "()Ljava/lang/Class;"⟩ ∈ lw_all) (hdg : decode cc pc = .ok (.invokevirtual index, 3)) : SO Z K T hd mi pc (o_getClass K (pc + 3)) := by
  refine SO.of fun ls st G x h => ?_
  unfold o_getClass at h
  split at h
  · split at h
    · split at h <;> cases h
      rename_i a r _ t x9 h1 h2
      obtain ⟨rfl, h3⟩ := h2
      refine fun d q hv => VV.same hM hv (fun _ _ R s m args _ _ c H locs _ _ arr _ C hfr hlr hH hs hlo hl kk => ?_)
      obtain ⟨-, -, -, -, -, -, -, -, -, -, k11, -⟩ := C.kn
      refine va_getC C.1 C.2.1 (by rw [C.2.2.2.1]; exact hl.1.symm) C.ow (C.hts _ hw) (va_Nw.use rfl (C.nw hw2 rfl)) (C.hts _ hw3) (C.hts _ hw4) (C.hts _ hw5) k11 ?_ ?_ ?_ hdg (kk _ hl)
      · exact ⟨_, (hH.2.2.2 a _ h1).2.2, by obtain ⟨n, f | f | f | f | f⟩ := x9 <;> rfl, by
          have := va_nmO (nm := "[Ljava/lang/Object;") (C.va.2 5 _ rfl).2 rfl
          rw [this]
          obtain ⟨n, f | f | f | f | f⟩ := x9 <;> rfl⟩
      · unfold FR at hfr; omega
      · unfold LR at hlr
        have : (r.map fun v => v.category).sum ≤ 8 := h3
        omega
    · cases h
  · cases h
/-- 'throw new E()', its heap's size told -/
theorem gw_throw0 {p : Program} {l : Launch} {e : Env} {R : Room} {s : State} {m : MethodId} {args : Array Value} {below : List Frame} {meth : Method} {c : Code} {H : Heap} {locs : List Loc} {cells slots : Nat} {free : Addr → Prop} {ls : Array Slot} {rest : List Value} {Qc : Array Value → State → Outcome → State → Prop} {XC : String → State → State → Prop}
    {cc : ByteArray} {pc : Nat} (hexec : p.tables.exec = Jvm.exec) (hb : c.code = cc) (hl : l.stackTraces = false) {own cls : String} {names : List String} {ik ic mc ms : Nat} {A : Nat → Prop}
    (hown : s.vm.findClass own = some m.cls) (hcls : Bundle.fit cls = true) (hnames : ∀ n ∈ names, Bundle.fit n = true)
    (hk : (Cond.classLink own ik cls).before args s = true) (hini : (Cond.initialized cls).before args s = true) (hat : ∀ w ∈ vx_at0 own ic cls names, w.before args s = true)
    (hgood : ∀ w ∈ Cond.classLink own ik cls :: Cond.initialized cls :: vx_at0 own ic cls names, vx_ot w = true)
    (hU : vx_Zq Bundle.tN "UNASSIGNED_STACK" Bundle.steD A s s.heap) (hN : vx_Zq Bundle.tN "SUPPRESSED_SENTINEL" Bundle.listD A s s.heap) (hS : va_S A s.heap H locs) (hsize : ls.size = c.maxLocals)
    (d0 : decode cc pc = .ok (.new ik, 3)) (d3 : decode cc (pc + 3) = .ok (.dup, 1)) (d4 : decode cc (pc + 4) = .ok (.invokespecial ic, 3)) (d7 : decode cc (pc + 7) = .ok (.athrow, 1))
    (hout : ∀ x ∈ c.exceptionTable.toList, covers x (pc + 7) = false)
    (hRframes : names.length + 3 < R.frames) (hRlocals : (rest.map fun v => v.category).sum + (13 * (names.length + 1) + 42) ≤ R.locals) (hRcells : cells + 1 ≤ R.cells) (hRslots : slots + 6 ≤ R.slots) (hlocks : meth.locks = false)
    (hx : ∀ t : State, s.vm.Alike t.vm → t.heap.size = H.size + 1 → (∀ q : Nat, q < H.size → t.heap[q]? = H[q]?) → XC cls s t)
    (hf : ∀ z ∈ locs, free z.base) (hc : cells + 1 ≤ mc) (hs : slots + 6 ≤ ms) :
    W p l e R s m args below meth c H locs cells slots (vx_MQ below Qc XC args s mc ms free) (F0 m pc ls rest) := by
  intro T hT X
  have htr : e.platform.stackTraces = false := (show e.platform.stackTraces = l.stackTraces by rw [X.admits.platform]).trans hl
  have Y := vx_rebase X (R' := { frames := R.frames, locals := R.locals, cells := 1, slots := 6 }) (Nat.le_refl _) (Nat.le_refl _) hRcells hRslots
  obtain ⟨s', hA⟩ : ∃ z, z = (T.setVm s.vm).setFrames (.invoking m args :: below) := ⟨_, rfl⟩
  rw [← hA] at Y
  have hvm : s'.vm = s.vm := by rw [hA]; rfl
  have hhp : s'.heap = H := by rw [hA]; exact hT
  have hW0 : s.WarmedH s'.vm := by rw [hvm]; exact State.WarmedH.refl s
  have hat' : ∀ w ∈ vx_at0 own ic cls names, w.before args s' = true := fun w hw => vx_ot_at hW0 hvm.symm (hgood w (List.mem_cons_of_mem _ (List.mem_cons_of_mem _ hw))) (hat w hw)
  have hk' : (Cond.classLink own ik cls).before args s' = true := vx_ot_at hW0 hvm.symm (hgood _ List.mem_cons_self) hk
  have hini' : (Cond.initialized cls).before args s' = true := vx_ot_at hW0 hvm.symm (hgood _ (List.mem_cons_of_mem _ List.mem_cons_self)) hini
  have hU' : vx_Zq Bundle.tN "UNASSIGNED_STACK" Bundle.steD A s' s'.heap := by rw [hhp]; exact vx_Zq.moved hW0.alike (hU.kept hS.2.1)
  have hN' : vx_Zq Bundle.tN "SUPPRESSED_SENTINEL" Bundle.listD A s' s'.heap := by rw [hhp]; exact vx_Zq.moved hW0.alike (hN.kept hS.2.1)
  have h : ∀ w ∈ Bundle.ownAtoms0 own ic cls names, w.before args s' = true := vx_own hat' (vx_isRefq hU'.1) (vx_isRefq hN'.1) hU'.2.word hN'.2.word
  have hown' : s'.vm.findClass own = some m.cls := by rw [hvm]; exact hown
  have hins : (Cond.instantiable cls 6).before args s' = true := h _ (by simp [Bundle.ownAtoms0])
  obtain ⟨vm₁, cX, kX, hfX, hkX, -, -, X₁, st1⟩ := Y.newCold hexec (own := own) (C := cls) (index := ik) (n := 6) hown' hk' hins hini'
    (g := F0 m pc ls rest) rfl (by rw [hb]; exact d0) (Nat.le_refl _) (Nat.le_refl _)
  generalize hT1 : (T.setVm vm₁).pushCell { cls := cX, slots := kX.instanceTypes.map defaultValue, vm := .none } = T1 at X₁ st1
  have hcat : (Value.ref T.heap.size).category = 1 := rfl
  have hcellA : T1.heap[T.heap.size]? = some (freshCell cX kX) := by rw [← hT1]; exact State.heap_pushCell_size _ _
  have d3' : decode c.code (pc + 3) = .ok (.dup, 1) := by rw [hb]; exact d3
  obtain ⟨U, hsteps, hrun, hend, hW, hsame, ce, hce, hO⟩ := X₁.ctorThrow0 hexec htr (own := own) (cls := cls) (names := names) (ic := ic) hown' hcls hnames h (fun x hx => nomatch hx) hfX hkX hcellA (by rw [hhp, hT]; exact Nat.le_refl _)
    (g := { method := m, pc := pc + 4, locals := ls, stack := .ref T.heap.size :: .ref T.heap.size :: rest, locked := none }) rfl hsize rfl rfl (rest := rest) rfl
    (by rw [hb]; exact d4) (by rw [hb]; exact d7) hout hRframes (by simp only [List.map_cons, List.sum_cons, hcat]; omega) hlocks
  obtain ⟨f1, f2⟩ := vx_frame hsame
  have f3 : U.heap.size ≤ s'.heap.size + 1 := hsame.2.2.1
  rw [hhp] at f1 f2 f3
  have f4 : T.heap.size < U.heap.size := (Array.getElem?_eq_some_iff.mp hce).1
  rw [hT] at f4
  have hWs : s.WarmedH U.vm := State.WarmedH.trans hW0 hW
  have hcl : s.vm.findClass cls = some ce.cls := by
    have h9 := hO.cls
    rw [hvm] at h9
    exact h9
  have hall : s.sameButNew ({ U with vm := s.vm } : State) locs mc ms := by
    subst hA
    obtain ⟨e1, e2⟩ := hsame
    rw [State.setFrames_setFrames] at e1
    have h2 : (T.setVm s.vm).sameButNew ({ U with vm := s.vm } : State) [] (0 + 1) (0 + 6) := ⟨e1, e2⟩
    have h3 := X.same.trans h2
    rw [List.append_nil] at h3
    exact h3.mono hc hs
  refine ⟨U, ?_, .threw T.heap.size, hrun, hend, Or.inr ⟨T.heap.size, rfl, cls, ce, locs, hx U hWs.alike (by omega) (fun q hq => f2 q hq (fun z hz => nomatch hz)), hce, hO.vm, hcl, hWs, hall, hf⟩⟩
  refine st1 _ ?_
  show Steps p.tables e below (T1.setTop { method := m, pc := pc + 3, locals := ls, stack := .ref T.heap.size :: rest, locked := none }) _
  jvm_step X₁.here [X₁.here.top, hexec, d3', Value.category]
  exact hsteps
theorem so_throw (hM : T mi = (own, nm, cc, mx, rt, [], S)) (hnm : nm ≠ "law") {E ik ic : Nat} {names : List String} (hE : E < 6) (hcls : Bundle.fit (gex E) = true) (hnames : ∀ n ∈ names, Bundle.fit n = true) (hlen : names.length ≤ 4) (hw1 : Cond.classLink own ik (gex E) ∈ lw_all) (hw2 : Cond.initialized (gex E) ∈ lw_all) (hat : ∀ w ∈ vx_at0 own ic (gex E) names, w ∈ lw_tbl) (hg : (vx_at0 own ic (gex E) names).all (fun w => (goodWord w || gnwKind w) && vx_ot w) = true)
    (d0 : decode cc pc = .ok (.new ik, 3)) (d3 : decode cc (pc + 3) = .ok (.dup, 1)) (d4 : decode cc (pc + 4) = .ok (.invokespecial ic, 3)) (d7 : decode cc (pc + 7) = .ok (.athrow, 1)) : SO Z K T hd mi pc (o_throw E) := by
  refine SO.of fun ls st G x h => ?_
  unfold o_throw at h
  split at h <;> cases h
  rename_i hst
  intro d
  refine ⟨by simp only [gjunk]; omega, by simp only [gjunk]; omega, ?_⟩
  intro p e R s m args below meth c H locs cells slots arr Q C h1 h2 h3 h4 h5 h6 h7 h8 h9
  rw [hM] at C h8 h9
  simp only [gjunk] at h3 h4
  rcases h9 with rfl | ⟨-, -, -, -, -, -, hn, -⟩
  · have hS := gS_of C h5 h6 h7
    obtain ⟨-, -, -, -, -, -, k7, k8, -, -, -, k12, -⟩ := C.kn
    have hall := List.all_eq_true.mp hg
    unfold FR at h1
    unfold LR at h2
    have hst' : (st.map fun v => v.category).sum ≤ 8 := hst
    refine gw_throw0 (names := names) (A := gNewA Z) C.1 C.2.1 k12 C.ow hcls hnames (C.hts _ hw1) (C.hts _ hw2) (fun w hw => ?_) (fun w hw => ?_) (k7.kept C.old) (k8.kept C.old) hS (by rw [C.2.2.2.1]; exact h8.1) d0 d3 d4 d7 (fun x hx => ?_) (by omega) (by omega) (by omega) (by omega) C.locks (fun t ht hz hq => ⟨E, hE, rfl, rfl, h5.junk 6 hz hq⟩) h7 (by omega) (by omega)
    · have := hall w hw
      simp only [Bool.and_eq_true, Bool.or_eq_true] at this
      rcases this.1 with q | q
      · exact C.hts w (lw_g (hat w hw) q)
      · have h2 := this.2
        simp only [vx_ot, Bool.or_eq_true] at h2
        rcases h2 with z | z
        · exact va_Nw.use z (C.nw (hat w hw) q)
        · exact C.hts w (lw_g (hat w hw) z)
    · rcases List.mem_cons.mp hw with rfl | hw
      · simp [vx_ot, goodWord, Cond.onTables]
      · rcases List.mem_cons.mp hw with rfl | hw
        · simp [vx_ot, goodWord, Cond.onTables]
        · have := hall w hw
          simp only [Bool.and_eq_true] at this
          exact this.2
    · rw [C.2.2.2.2.2.2.2.2.1] at hx
      cases hx
  · exact absurd hn hnm
end
