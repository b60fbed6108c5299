/-! SOUNDNESS 9: a method's contract out of the ghost's run; calls -/
set_option maxRecDepth 100000
section
variable {Z : gZ} {K : gK} {T : Nat → gMd} {hd : Nat → Nat → Nat → Option (Option Int32)} {mi pc : Nat} {own nm : String} {cc : ByteArray} {mx : Nat} {rt : Option FieldType} {hh : List (Nat × Nat × Nat × Nat)} {S : Nat → Bool}
theorem gC1_at {l : List Value} (h : gC1 l = true) {v : Value} (hv : v ∈ l) : v.category = 1 := by
  have := List.all_eq_true.mp h v hv
  simpa using this
theorem lv_args_1 : ∀ (vs : List Value) (i k : Nat) (v : Value), (∀ w ∈ vs, w.category = 1) → vs[k]? = some v → (i + k, v) ∈ lv_args i vs
  | [], i, k, v, _, h => by simp at h
  | w :: vs, i, k, v, hc, h => by
    have hw : w.category = 1 := hc w List.mem_cons_self
    rw [lv_args, if_neg (by omega)]
    cases k with
    | zero =>
      rw [List.getElem?_cons_zero] at h
      cases h
      exact List.mem_cons_self
    | succ k =>
      rw [List.getElem?_cons_succ] at h
      have := lv_args_1 vs (i + 1) k v (fun z hz => hc z (List.mem_cons_of_mem _ hz)) h
      rw [show i + (k + 1) = i + 1 + k by omega]
      exact List.mem_cons_of_mem _ this
theorem lg_sl_1 : ∀ (vs : List Value), (∀ w ∈ vs, w.category = 1) → (lg_sl vs).length = vs.length
  | [], _ => rfl
  | w :: vs, hc => by
    have hw : w.category = 1 := hc w List.mem_cons_self
    have ih := lg_sl_1 vs (fun z hz => hc z (List.mem_cons_of_mem _ hz))
    unfold lg_sl at ih ⊢
    rw [List.flatMap_cons, if_neg (by omega), List.length_append, ih]
    simp [Nat.add_comm]
theorem gent_at {as : List Value} {k : Nat} {v : Value} (h : (gent mx as)[k]? = some (some v)) : as[k]? = some v := by
  unfold gent at h
  by_cases hk : k < (as.map some).length
  · rw [List.getElem?_append_left hk, List.getElem?_map] at h
    cases ha : as[k]? with
    | none => rw [ha] at h; cases h
    | some w => rw [ha] at h; cases h; rfl
  · rw [List.getElem?_append_right (by omega), List.getElem?_replicate] at h
    split at h <;> cases h
/-- what the machine owes behind a call of pc + len -/
def gRun (p : Program) (l : Launch) (e : Env) (R : Room) (s : State) (m : MethodId) (args : Array Value) (below : List Frame) (meth : Method) (c : Code) (H : Heap) (locs : List Loc) (cells slots mc ms len : Nat) (g : JFrame) (rest : List Value) (Qa : State → Outcome → State → Prop) (XC : String → State → State → Prop) (free : Addr → Prop) : Prop :=
  ∀ T : State, T.heap = H → Stand p l e R s m args below meth c T locs cells slots →
    (∃ (v : Option Value) (st₀ t T' : State) (L : List Loc), st₀.heap = H ∧ Stand p l e R s m args below meth c T' (locs ++ L) (cells + mc) (slots + ms) ∧ (∀ q ∈ L, free q.base) ∧ T'.heap = t.heap ∧ T'.vm = t.vm ∧ Qa st₀ (.returned v) t ∧
      Goes p e below T g T' { g with pc := g.pc + len, stack := v.toList ++ rest }) ∨
    (∃ (q : Addr) (st₀ t T' : State) (L : List Loc) (E : String) (ce : Cell), st₀.heap = H ∧ Stand p l e R s m args below meth c T' (locs ++ L) (cells + mc) (slots + ms) ∧ (∀ z ∈ L, free z.base) ∧ T'.heap = t.heap ∧ T'.vm = t.vm ∧ XC E st₀ t ∧ t.heap[q]? = some ce ∧ ce.vm = .none ∧ s.vm.findClass E = some ce.cls ∧
      Steps p.tables e below (T.setTop g) ((T'.setTop { g with stack := rest }).pushFrame (.throwing q)))
/-- a call out of a method without handlers -/
theorem VV.call {d : Nat} {rt9 : Option FieldType} {ls : gL} {st rest : List Value} {G : gH} {r1 r : gO} (len : Nat) (hM : T mi = (own, nm, cc, mx, rt, [], S)) (hnone : ∀ E, hd mi pc E = none) (hm1 : G.2.1 ≤ r1.2.2.1) (hm2 : G.2.2 ≤ r1.2.2.2)
    (k1 : ∀ v G1, r1 = (.inl v, G1) → VV Z K T (d + 1) mi (pc + len) ls (v.toList ++ rest) G1 r) (k2 : ∀ E G1, r1 = (.inr E, G1) → gthr hd mi pc E G1 = some r)
    (hrun : ∀ (p : Program) (e : Env) (R : Room) (s : State) (m : MethodId) (args : Array Value) (below : List Frame) (meth : Method) (c : Code) (H : Heap) (locs : List Loc) (cells slots : Nat) (arr : Array Slot),
      CXt Z K (own, nm, cc, mx, rt, [], S) p s m args meth c → FR (d + 1) ≤ R.frames → LR (d + 1) ≤ R.locals → HW Z G H → s.heap.size ≤ H.size → (∀ z ∈ locs, (gZB Z).size ≤ z.base) → arr.size = mx → cells + (r1.2.2.1 - G.2.1) ≤ R.cells → slots + (r1.2.2.2 - G.2.2) ≤ R.slots →
      ∃ a, gRun p Z.1 e R s m args below meth c H locs cells slots (r1.2.2.1 - G.2.1) (r1.2.2.2 - G.2.2) len (F0 m pc arr st) rest (QC Z rt9 r1 a) (XC Z r1) (gNewA Z)) : VV Z K T (d + 1) mi pc ls st G r := by
  have hr : r1.2.2.1 ≤ r.2.2.1 ∧ r1.2.2.2 ≤ r.2.2.2 := by
    obtain ⟨v | E, G1⟩ := r1
    · exact ⟨(k1 v G1 rfl).1, (k1 v G1 rfl).2.1⟩
    · have h := k2 E G1 rfl
      unfold gthr at h
      rw [hnone] at h
      cases h
      exact ⟨Nat.le_refl _, Nat.le_refl _⟩
  refine ⟨Nat.le_trans hm1 hr.1, Nat.le_trans hm2 hr.2, ?_⟩
  intro p e R s m args below meth c H locs cells slots arr Q C h1 h2 h3 h4 h5 h6 h7 h8 h9
  have h8' := h8
  have C' := C
  rw [hM] at C' h8'
  obtain ⟨a, hrun⟩ := hrun p e R s m args below meth c H locs cells slots arr C' h1 h2 h5 h6 h7 h8'.1 (by omega) (by omega)
  intro T0 hT X
  rcases hrun T0 hT X with ⟨v, st₀, t, T', L, e0, X', hL, e1, e2, ⟨v', hr1, hv', hHW, -⟩, hgo⟩ | ⟨q, st₀, t, T', L, E, ce, e0, X', hL, e1, e2, ⟨k, hk6, hr1, hE, hHW⟩, hce, hcv, hcl, hgo⟩
  · cases hv'
    obtain ⟨w, G1⟩ := r1
    dsimp only at hr1
    subst hr1
    dsimp only at hr hHW X' hm1 hm2
    have hz : H.size ≤ T'.heap.size := by
      rw [e1, hHW.1, h5.1]
      exact hm1
    obtain ⟨t9, a9, b9⟩ := (k1 v G1 rfl).2.2 p e R s m args below meth c T'.heap (locs ++ L) _ _ arr Q C h1 h2 (by omega) (by omega) (by rw [e1]; exact hHW) (by omega) (fun z hz => by
      rcases List.mem_append.mp hz with q | q
      · exact h7 z q
      · exact hL z q) h8 h9 T' rfl X'
    exact ⟨t9, hgo t9 a9, b9⟩
  · obtain ⟨w, G1⟩ := r1
    dsimp only at hr1
    subst hr1
    dsimp only at hr hHW X' hm1 hm2
    have hth := k2 k G1 rfl
    unfold gthr at hth
    rw [hnone] at hth
    cases hth
    rw [hM] at h9
    rcases h9 with rfl | ⟨-, -, -, -, -, hx, -⟩
    · have hW : vx_W p Z.1 e R s m args below meth c T'.heap (locs ++ L) (cells + (G1.2.1 - G.2.1)) (slots + (G1.2.2 - G.2.2)) (vx_MQ below (QC Z rt (.inr k, G1)) (XC Z (.inr k, G1)) args s R.cells R.slots (gNewA Z)) (F0 m pc arr rest) q := by
        refine vx_out (E := E) (fun x hx => ?_) C'.locks (by rw [e1]; exact hce) hcv hcl (fun t' ht' _ => ⟨k, hk6, rfl, hE, by rw [ht', e1]; exact hHW⟩) (fun z hz => ?_) (by omega) (by omega)
        · rw [C'.2.2.2.2.2.2.2.2.1] at hx
          cases hx
        · rcases List.mem_append.mp hz with q | q
          · exact h7 z q
          · exact hL z q
      obtain ⟨t9, a9, b9⟩ := hW T' rfl X'
      exact ⟨t9, hgo.trans a9, b9⟩
    · cases hx
theorem gFB {G : gH} {as : List Value} : FrameBlind (va_Pc as (fun U => HW Z G U.heap ∧ Kn Z K U)) := by
  intro a U g mk h
  exact ⟨h.1, h.2.1, Kn.warm (s := U) (U := U.calling g mk a) (State.WarmedH.refl U) h.2.2⟩
theorem gw_ofWF {l : Launch} {y : MethodName} {ws ws' : List Cond} {rm : Room} {Pc : Array Value → State → Prop} {Qc : Array Value → State → Outcome → State → Prop} {XC : String → State → State → Prop} {mc ms : Nat} {free : Addr → Prop} {cc : ByteArray} {maxL : Nat} {ret : Option FieldType}
    (hy : plainFor y = true) (hw : ws = Cond.code y cc maxL ret :: ws')
    (body : ∀ p e s m args below meth c s₁, BodyLoose p l y (headSpec ws rm) cc maxL ret e s m args below meth c s₁ → c.maxLocals = maxL → (∀ x ∈ c.exceptionTable.toList, False) → Pc args s →
      W p l e (headSpec ws rm).room s m args below meth c s.heap [] 0 0 (vx_MQ below Qc XC args s mc ms free) (entryFrame m args maxL)) : vx_Met l y ws rm Pc Qc XC mc ms free := by
  refine MetFree.of_bodySF (code := cc) (maxLocals := maxL) (ret := ret) hy ?_ ?_
  · intro args s m h hn
    obtain ⟨meth, c, h1, h2, h3, h4, h5, h6, -, -⟩ := Cond.code_spec hn (atoms_spec (ws := ws) h _ (by rw [hw]; exact List.mem_cons_self))
    exact ⟨meth, c, h1, h2, h3, h4, h5, h6⟩
  · intro p e s m args below meth c s₁ B hml hP _
    have hh0 : s₁.heap = s.heap := by rw [B.state]; rfl
    have ht : ∀ x ∈ c.exceptionTable.toList, False := by
      obtain ⟨meth9, c9, h1, h2, -, -, -, -, h7, -⟩ := Cond.code_spec B.named (atoms_spec (ws := ws) B.pre _ (by rw [hw]; exact List.mem_cons_self))
      cases Option.some.inj (h1.symm.trans B.method)
      cases Option.some.inj (h2.symm.trans (Stand.of_body B).code)
      intro x hx
      rw [Array.isEmpty_iff.mp h7] at hx
      cases hx
    obtain ⟨t, a1, o, b1, b2, b3⟩ := body p e s m args below meth c s₁ B hml ht hP s₁ hh0 (Stand.of_body B)
    exact ⟨t, o, a1, b1, b2, b3⟩
theorem gInit {s : State} {y : MethodName} {m : MethodId} {own' nm' : String} (h : s.methodNamed? y = some m) (hy1 : y.cls = own') (hy2 : y.name = nm') (hd : y.name = "<init>" → y.cls = "CuttingRoom" → y.desc = "()V") : nm' = "<init>" → own' = "CuttingRoom" → s.methodNamed? ⟨"CuttingRoom", "<init>", "()V"⟩ = some m := by
  intro e1 e2
  rw [e1] at hy2
  rw [e2] at hy1
  have h3 := hd hy2 hy1
  obtain ⟨c, n, d⟩ := y
  dsimp only at hy1 hy2 h3
  subst hy1 hy2 h3
  exact h
/-- the contract of a method without handlers -/
theorem VV.met {d mi' : Nat} {own' nm' : String} {cc' : ByteArray} {mx' : Nat} {rt' : Option FieldType} {S' : Nat → Bool} {as : List Value} {G : gH} {r1 : gO} {y : MethodName} (hM' : T mi' = (own', nm', cc', mx', rt', [], S')) (hy1 : y.cls = own') (hy2 : y.name = nm') (hpl : plainFor y = true ∧ (y.name = "<init>" → y.cls = "CuttingRoom" → y.desc = "()V")) (hcat : ∀ v ∈ as, v.category = 1) (hlen : as.length ≤ mx')
    (hv : VV Z K T d mi' 0 (gent mx' as) [] G r1) : vx_Met Z.1 y (ws_ y cc' mx' rt') { frames := FR d, cells := r1.2.2.1 - G.2.1, slots := r1.2.2.2 - G.2.2, locals := LR d } (va_Pc as (fun U => HW Z G U.heap ∧ Kn Z K U)) (QC Z rt' r1) (XC Z r1) (r1.2.2.1 - G.2.1) (r1.2.2.2 - G.2.2) (gNewA Z) := by
  refine gw_ofWF (cc := cc') (maxL := mx') (ret := rt') hpl.1 rfl ?_
  intro p e s m args below meth c s₁ B hml hno hv0
  obtain ⟨rfl, hH, hKn⟩ := hv0
  have hts := atoms_spec (ws := ws_ y cc' mx' rt') B.pre
  have hts : ∀ w ∈ lw_all, w.before _ s = true := fun w h => hts w (List.mem_cons_of_mem _ h)
  have hown : s.vm.findClass y.cls = some m.cls := findClass_of_methodNamed B.named
  have hin : meth.name = y.name := (name_of_methodNamed B.named B.method).1
  have hl := lv_entry as (n := mx') (by rw [lg_sl_1 as hcat]; exact hlen)
  rw [lg_entry_eq]
  generalize (lg_sl as ++ List.replicate (mx' - (lg_sl as).length) Slot.unset).toArray = arr at hl ⊢
  have k1 := hv.1
  have k2 := hv.2.1
  refine hv.2.2 p e (headSpec (ws_ y cc' mx' rt') { frames := FR d, cells := r1.2.2.1 - G.2.1, slots := r1.2.2.2 - G.2.2, locals := LR d }).room s m as.toArray below meth c s.heap [] 0 0 arr _ ?_ (Nat.le_refl _) (Nat.le_refl _) ?_ ?_ hH (Nat.le_refl _) (fun _ h => by cases h) ?_ ?_
  · rw [hM']
    refine ⟨B.exec, B.bytes, B.returns, hml, by rw [← hy1]; exact hown, hts, B.notSynchronized, ⟨by rw [hin]; exact hy2, gInit B.named hy1 hy2 hpl.2⟩, ?_, hKn, hH.2.1, hH.2.2.1⟩
    cases hc : c.exceptionTable.toList with
    | nil => rfl
    | cons x l => exact absurd (by rw [hc]; exact List.mem_cons_self) (fun h => hno x h)
  · show 0 + _ ≤ (r1.2.2.1 - G.2.1) + _
    omega
  · show 0 + _ ≤ (r1.2.2.2 - G.2.2) + _
    omega
  · rw [hM']
    refine ⟨hl.1, hl.2.1, fun k v hk hc => ?_, fun k v hk => ?_⟩
    · have := hcat v (List.mem_of_getElem? (gent_at hk))
      omega
    · have := lv_args_1 as 0 k v hcat (gent_at hk)
      rw [Nat.zero_add] at this
      exact hl.2.2 _ this
  · rw [hM']
    exact Or.inl rfl
end
