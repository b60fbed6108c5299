/-! SOUNDNESS 11: methods with handlers -/
set_option maxRecDepth 100000
def gcat (ct : Nat) : Option Nat := if ct = 13 then some 0 else if ct = 15 then some 1 else if ct = 25 then some 2 else if ct = 35 then some 3 else if ct = 57 then some 4 else if ct = 124 then some 5 else none
/-- the handler of the exception k -/
def gHx : List (Nat × Nat × Nat × Nat) → Nat → Nat → Option Nat
  | [], _, _ => none
  | (a, b, h, ct) :: l, pc, k => if a ≤ pc ∧ pc < b then (match gcat ct with | some j => if j = k then some h else gHx l pc k | none => none) else gHx l pc k
theorem gcat_law {ct j : Nat} (h : gcat ct = some j) : j < 6 ∧ ct ≠ 0 ∧ Cond.classLink "CuttingRoomLaw" ct (gex j) ∈ lw_all := by
  unfold gcat at h
  split at h
  · cases h; subst_vars; exact ⟨by decide, by decide, q544⟩
  · split at h
    · cases h; subst_vars; exact ⟨by decide, by decide, q545⟩
    · split at h
      · cases h; subst_vars; exact ⟨by decide, by decide, q605⟩
      · split at h
        · cases h; subst_vars; exact ⟨by decide, by decide, q820⟩
        · split at h
          · cases h; subst_vars; exact ⟨by decide, by decide, q995⟩
          · split at h
            · cases h; subst_vars; exact ⟨by decide, by decide, q1349⟩
            · cases h
theorem gHx_some {pc k h : Nat} : ∀ {hh : List (Nat × Nat × Nat × Nat)}, gHx hh pc k = some h → ∃ (pre : List ExceptionTableEntry) (x : ExceptionTableEntry) (suf : List ExceptionTableEntry), tableOf hh = pre ++ x :: suf ∧ (∀ z ∈ pre, covers z pc = false ∨ ∃ j, gcat z.catchType = some j ∧ j ≠ k) ∧ covers x pc = true ∧ gcat x.catchType = some k ∧ x.handlerPc = h
  | [], e => by cases e
  | (a, b, h0, ct) :: l, e => by
    unfold gHx at e
    split at e
    · rename_i hin
      split at e
      · rename_i j hj
        split at e
        · rename_i hjk
          cases e
          subst hjk
          exact ⟨[], ⟨a, b, _, ct⟩, tableOf l, rfl, (fun z hz => by cases hz), by simp [covers, hin.1, hin.2], hj, rfl⟩
        · rename_i hjk
          obtain ⟨pre, x, suf, e1, e2, e3, e4, e5⟩ := gHx_some e
          refine ⟨⟨a, b, h0, ct⟩ :: pre, x, suf, by rw [tableOf] at e1 ⊢; rw [List.map_cons, e1]; rfl, fun z hz => ?_, e3, e4, e5⟩
          rcases List.mem_cons.mp hz with rfl | hz
          · exact Or.inr ⟨j, hj, hjk⟩
          · exact e2 z hz
      · cases e
    · rename_i hin
      obtain ⟨pre, x, suf, e1, e2, e3, e4, e5⟩ := gHx_some e
      refine ⟨⟨a, b, h0, ct⟩ :: pre, x, suf, by rw [tableOf] at e1 ⊢; rw [List.map_cons, e1]; rfl, fun z hz => ?_, e3, e4, e5⟩
      rcases List.mem_cons.mp hz with rfl | hz
      · left
        simp only [covers, Bool.and_eq_false_iff, decide_eq_false_iff_not]
        by_cases h1 : a ≤ pc
        · exact Or.inr (fun h2 => hin ⟨h1, h2⟩)
        · exact Or.inl h1
      · exact e2 z hz
section
variable {Z : gZ} {K : gK} {T : Nat → gMd} {hd : Nat → Nat → Nat → Option (Option Int32)} {mi pc : Nat} {own nm : String} {cc : ByteArray} {mx : Nat} {rt : Option FieldType} {hh : List (Nat × Nat × Nat × Nat)} {S : Nat → Bool}
/-- what a catching method's handlers do: they give an int back -/
def gHok (Z : gZ) (K : gK) (T : Nat → gMd) (hd : Nat → Nat → Nat → Option (Option Int32)) (mi pc : Nat) (hh : List (Nat × Nat × Nat × Nat)) : Prop := ∀ k, k < 6 → (match gHx hh pc k with
  | none => hd mi pc k = some none
  | some h => ∃ (c : Int32) (i n1 n2 : Nat), hd mi pc k = some (some c) ∧ SO Z K T hd mi h (o_astore i n1) ∧ SO Z K T hd mi n1 (o_push (.int c) n2) ∧ SO Z K T hd mi n2 o_iret)
theorem VV.hand {d h i n1 n2 : Nat} {c : Int32} {ls : gL} {G : gH} (h1 : SO Z K T hd mi h (o_astore i n1)) (h2 : SO Z K T hd mi n1 (o_push (.int c) n2)) (h3 : SO Z K T hd mi n2 o_iret) (q : Nat) : VV Z K T d mi h ls [.ref q] G (.inl (some (.int c)), G) :=
  h1 ls [.ref q] G d _ (h2 (ls.set i (some (.ref q))) [] G d _ (h3 (ls.set i (some (.ref q))) [.int c] G d))
theorem gcast (k : Nat) (hk : k < 6) : Cond.castable (gex k) (gex k) ∈ lw_tbl := by
  match k, hk with
  | 0, _ => exact q555
  | 1, _ => exact q582
  | 2, _ => exact q615
  | 3, _ => exact q866
  | 4, _ => exact q447
  | 5, _ => exact q1361
  | k + 6, h => exact absurd h (by omega)
/-- a call out of a method that may catch -/
theorem VV.callH {d : Nat} {rt9 : Option FieldType} {ls : gL} {st rest : List Value} {G : gH} {r1 r : gO} (len : Nat) (hM : T mi = ("CuttingRoomLaw", nm, cc, mx, rt, hh, S)) (hnm : nm ≠ "law") (hok : gHok Z K T hd mi pc hh) (hm1 : G.2.1 ≤ r1.2.2.1) (hm2 : G.2.2 ≤ r1.2.2.2)
    (k1 : ∀ v G1, r1 = (.inl v, G1) → VV Z K T (d + 1) mi (pc + len) ls (v.toList ++ rest) G1 r) (k2 : ∀ E G1, r1 = (.inr E, G1) → gthr hd mi pc E G1 = some r)
    (hrun : ∀ (p : Program) (e : Env) (R : Room) (s : State) (m : MethodId) (args : Array Value) (below : List Frame) (meth : Method) (c : Code) (H : Heap) (locs : List Loc) (cells slots : Nat) (arr : Array Slot),
      CXt Z K ("CuttingRoomLaw", nm, cc, mx, rt, hh, S) p s m args meth c → FR (d + 1) ≤ R.frames → LR (d + 1) ≤ R.locals → HW Z G H → s.heap.size ≤ H.size → (∀ z ∈ locs, (gZB Z).size ≤ z.base) → arr.size = mx → cells + (r1.2.2.1 - G.2.1) ≤ R.cells → slots + (r1.2.2.2 - G.2.2) ≤ R.slots →
      ∃ a, gRun p Z.1 e R s m args below meth c H locs cells slots (r1.2.2.1 - G.2.1) (r1.2.2.2 - G.2.2) len (F0 m pc arr st) rest (QC Z rt9 r1 a) (XC Z r1) (gNewA Z)) : VV Z K T (d + 1) mi pc ls st G r := by
  have hr : r1.2.2.1 ≤ r.2.2.1 ∧ r1.2.2.2 ≤ r.2.2.2 := by
    obtain ⟨v | E, G1⟩ := r1
    · exact ⟨(k1 v G1 rfl).1, (k1 v G1 rfl).2.1⟩
    · have h := k2 E G1 rfl
      unfold gthr at h
      split at h <;> cases h
      · exact ⟨Nat.le_refl _, Nat.le_refl _⟩
      · exact ⟨Nat.le_refl _, Nat.le_refl _⟩
  refine ⟨Nat.le_trans hm1 hr.1, Nat.le_trans hm2 hr.2, ?_⟩
  intro p e R s m args below meth c H locs cells slots arr Q C h1 h2 h3 h4 h5 h6 h7 h8 h9
  have h8' := h8
  have C' := C
  rw [hM] at C' h8'
  obtain ⟨a, hrun⟩ := hrun p e R s m args below meth c H locs cells slots arr C' h1 h2 h5 h6 h7 h8'.1 (by omega) (by omega)
  intro T0 hT X
  rcases hrun T0 hT X with ⟨v, st₀, t, T', L, e0, X', hL, e1, e2, ⟨v', hr1, hv', hHW, -⟩, hgo⟩ | ⟨q, st₀, t, T', L, E, ce, e0, X', hL, e1, e2, ⟨k, hk6, hr1, hE, hHW⟩, hce, hcv, hcl, hgo⟩
  · cases hv'
    obtain ⟨w, G1⟩ := r1
    dsimp only at hr1
    subst hr1
    dsimp only at hr hHW X' hm1 hm2
    have hz : H.size ≤ T'.heap.size := by
      rw [e1, hHW.1, h5.1]
      exact hm1
    obtain ⟨t9, a9, b9⟩ := (k1 v G1 rfl).2.2 p e R s m args below meth c T'.heap (locs ++ L) _ _ arr Q C h1 h2 (by omega) (by omega) (by rw [e1]; exact hHW) (by omega) (fun z hz => by
      rcases List.mem_append.mp hz with q | q
      · exact h7 z q
      · exact hL z q) h8 h9 T' rfl X'
    exact ⟨t9, hgo t9 a9, b9⟩
  · obtain ⟨w, G1⟩ := r1
    dsimp only at hr1
    subst hr1
    dsimp only at hr hHW X' hm1 hm2
    have hth := k2 k G1 rfl
    have hokk := hok k hk6
    unfold gthr at hth
    cases hx : gHx hh pc k with
    | none =>
      rw [hx] at hokk
      dsimp only at hokk
      rw [hokk] at hth
      cases hth
    | some h =>
      rw [hx] at hokk
      obtain ⟨cn, i, n1, n2, hc0, s1, s2, s3⟩ := hokk
      rw [hc0] at hth
      cases hth
      obtain ⟨pre, x, suf, t1, t2, t3, t4, t5⟩ := gHx_some hx
      subst hE
      have hlink := gcat_law t4
      have hz : H.size ≤ T'.heap.size := by
        rw [e1, hHW.1, h5.1]
        exact hm1
      have hW : vx_W p Z.1 e R s m args below meth c T'.heap (locs ++ L) (cells + (G1.2.1 - G.2.1)) (slots + (G1.2.2 - G.2.2)) Q (F0 m pc arr rest) q := by
        refine vx_catch (own := "CuttingRoomLaw") (name := gex k) (E := gex k) C'.ow pre x suf (C'.2.2.2.2.2.2.2.2.1.trans t1) (fun z hz => ?_) t3 hlink.2.1 (C'.hts _ hlink.2.2) (va_Nw.use rfl (C'.nw (gcast k hk6) rfl)) (by rw [e1]; exact hce) hcv hcl ?_
        · rcases t2 z hz with q | ⟨j, hj, hjk⟩
          · exact Or.inl q
          · have hl := gcat_law hj
            exact Or.inr ⟨hl.2.1, _, C'.hts _ hl.2.2, C'.kn.2.2.2.2.2.2.2.2.2.2.2.2.1 k j hk6 hl.1 (fun q => hjk q.symm)⟩
        · rw [t5]
          exact (VV.hand s1 s2 s3 q).2.2 p e R s m args below meth c T'.heap (locs ++ L) _ _ arr Q C h1 h2 (by dsimp only; omega) (by dsimp only; omega) (by rw [e1]; exact hHW) (by omega) (fun z hz => by
            rcases List.mem_append.mp hz with q | q
            · exact h7 z q
            · exact hL z q) h8 h9
      obtain ⟨t9, a9, b9⟩ := hW T' rfl X'
      exact ⟨t9, hgo.trans a9, b9⟩
/-- the contract of a method with handlers -/
theorem VV.metH {d mi' : Nat} {own' nm' : String} {cc' : ByteArray} {mx' : Nat} {rt' : Option FieldType} {hh' : List (Nat × Nat × Nat × Nat)} {S' : Nat → Bool} {as : List Value} {G : gH} {r1 : gO} {y : MethodName} (hM' : T mi' = (own', nm', cc', mx', rt', hh', S')) (hy1 : y.cls = own') (hy2 : y.name = nm') (hpl : plainName y.cls = true ∧ (y.name = "<init>" → y.cls = "CuttingRoom" → y.desc = "()V")) (hcw : Cond.codeWith y cc' mx' rt' hh' ∈ lw_all) (hcat : ∀ v ∈ as, v.category = 1) (hlen : as.length ≤ mx')
    (hv : VV Z K T d mi' 0 (gent mx' as) [] G r1) : vx_Met Z.1 y (wsW_ y cc' mx' rt' hh') { frames := FR d, cells := r1.2.2.1 - G.2.1, slots := r1.2.2.2 - G.2.2, locals := LR d } (va_Pc as (fun U => HW Z G U.heap ∧ Kn Z K U)) (QC Z rt' r1) (XC Z r1) (r1.2.2.1 - G.2.1) (r1.2.2.2 - G.2.2) (gNewA Z) := by
  refine vx_ofWH (cc := cc') (maxL := mx') (ret := rt') (hh := hh') hpl.1 rfl ?_
  intro p e s m args below meth c s₁ B hml hv0
  obtain ⟨rfl, hH, hKn⟩ := hv0
  have hts := atoms_spec (ws := wsW_ y cc' mx' rt' hh') B.pre
  have htab := vx_table (x := y) B (hts _ List.mem_cons_self)
  have hts : ∀ w ∈ lw_all, w.before _ s = true := fun w h => hts w (List.mem_cons_of_mem _ h)
  have hown : s.vm.findClass y.cls = some m.cls := findClass_of_methodNamed B.named
  have hin : meth.name = y.name := (name_of_methodNamed B.named B.method).1
  have hl := lv_entry as (n := mx') (by rw [lg_sl_1 as hcat]; exact hlen)
  rw [lg_entry_eq]
  generalize (lg_sl as ++ List.replicate (mx' - (lg_sl as).length) Slot.unset).toArray = arr at hl ⊢
  have k1 := hv.1
  have k2 := hv.2.1
  refine hv.2.2 p e (headSpec (wsW_ y cc' mx' rt' hh') { frames := FR d, cells := r1.2.2.1 - G.2.1, slots := r1.2.2.2 - G.2.2, locals := LR d }).room s m as.toArray below meth c s.heap [] 0 0 arr _ ?_ (Nat.le_refl _) (Nat.le_refl _) ?_ ?_ hH (Nat.le_refl _) (fun _ h => by cases h) ?_ ?_
  · rw [hM']
    exact ⟨B.exec, B.bytes, B.returns, hml, by rw [← hy1]; exact hown, hts, B.notSynchronized, ⟨by rw [hin]; exact hy2, gInit B.named hy1 hy2 hpl.2⟩, htab, hKn, hH.2.1, hH.2.2.1⟩
  · show 0 + _ ≤ (r1.2.2.1 - G.2.1) + _
    omega
  · show 0 + _ ≤ (r1.2.2.2 - G.2.2) + _
    omega
  · rw [hM']
    refine ⟨hl.1, hl.2.1, fun k v hk hc => ?_, fun k v hk => ?_⟩
    · have := hcat v (List.mem_of_getElem? (gent_at hk))
      omega
    · have := lv_args_1 as 0 k v hcat (gent_at hk)
      rw [Nat.zero_add] at this
      exact hl.2.2 _ this
  · rw [hM']
    exact Or.inl rfl
variable {mi' : Nat} {own' nm' : String} {cc' : ByteArray} {mx' : Nat} {rt' : Option FieldType} {hh' : List (Nat × Nat × Nat × Nat)} {S' : Nat → Bool} {y : MethodName} {n index : Nat}
/-- the law calls a method with handlers -/
theorem so_callSX (hM : T mi = (own, nm, cc, mx, rt, [], S)) (hnone : ∀ E, hd mi pc E = none) (hM' : T mi' = (own', nm', cc', mx', rt', hh', S')) (hy1 : y.cls = own') (hy2 : y.name = nm') (hpl : plainName y.cls = true ∧ (y.name = "<init>" → y.cls = "CuttingRoom" → y.desc = "()V")) (hk : n ≤ mx') (h60 : mx' ≤ 60) (hcw : Cond.codeWith y cc' mx' rt' hh' ∈ lw_all) (hini : Cond.initialized y.cls ∈ lw_all) (hds : y.cls ≠ "java/lang/invoke/MethodHandle" ∧ y.cls ≠ "java/lang/invoke/VarHandle" ∧ (parseMethodDescriptor y.desc).map (fun d => d.parameters.length) = some n)
    (hl : Cond.methodLink own index y ∈ lw_all) (hst : Cond.static y ∈ lw_all) (hdg : decode cc pc = .ok (.invokestatic index, 3)) : SO Z K T hd mi pc (o_callS mi' n (pc + 3)) := by
  refine SO.of fun ls st G x h => ?_
  unfold o_callS at h
  split at h <;> cases h
  rename_i hcond
  obtain ⟨c1, c2, c3⟩ := hcond
  intro d r1 r hv k1 k2
  refine VV.call (rt9 := rt') 3 hM hnone hv.1 hv.2.1 k1 k2 (fun p e R s m args below meth c H locs cells slots arr C h1 h2 hH hs hlo hsz hce hsl => ⟨#[], ?_⟩)
  have hlen : ((st.take n).reverse).length = n := by rw [List.length_reverse, List.length_take]; omega
  rw [show (T mi').2.2.2.1 = mx' by rw [hM']] at hv
  have hmet := VV.metH hM' hy1 hy2 hpl hcw (gcats c3) (by rw [hlen]; exact hk) hv
  exact vx_runSX (hh := hh') (As := (st.take n).reverse) (rest := st.drop n) ⟨C.1, C.2.1, C.2.2.2.1, C.ow, C.hts⟩ hmet (vx_cwSW n C.hts (lw_SW hl hst hini hcw) rfl rfl rfl hds ⟨Nat.le_trans (gFRs d) h1, Nat.le_trans (gLRs h60) h2⟩) ⟨gFB, gpre hH C.kn⟩ rfl hlen hsz gtake.symm (lv_room c2) hdg ⟨hce, hsl⟩
/-- a method with handlers calls one without -/
theorem so_callVH (hM : T mi = ("CuttingRoomLaw", nm, cc, mx, rt, hh, S)) (hnm : nm ≠ "law") (hok : gHok Z K T hd mi pc hh) (hc : gCal T mi' own' nm' cc' mx' rt' S' y n (n + 1)) {c0 : Nat} {q : vw_C} (hc13 : c0 < 13) (hcl : gcl[c0]? = some q) (hl : Cond.methodLink "CuttingRoomLaw" index y ∈ lw_all) (hins : Cond.instanceMethod y ∈ lw_all) (hsel : Cond.selects q.1 y y ∈ lw_all) (hdg : decode cc pc = .ok (.invokevirtual index, 3)) : SO Z K T hd mi pc (o_callV c0 mi' n (pc + 3)) := by
  refine SO.of fun ls st G x h => ?_
  unfold o_callV at h
  split at h
  · split at h
    · split at h <;> cases h
      rename_i _ b r0 hb _ c' hcls hcond
      obtain ⟨rfl, c2, c3⟩ := hcond
      intro d r1 r hv k1 k2
      refine VV.callH (rt9 := rt') 3 hM hnm hok hv.1 hv.2.1 k1 k2 (fun p e R s m args below meth c H locs cells slots arr C h1 h2 hH hs hlo hsz hce hsl => ⟨#[], ?_⟩)
      exact vx_runV (C := q.1) (As := (st.take n).reverse) (rest := r0) ⟨C.1, C.2.1, C.2.2.2.1, C.ow, C.hts⟩ (hc.met (gcatsR c3) (by rw [List.length_cons, glenR hb]) hv) ⟨hc.cb C.hts h1 h2 hl, C.hts _ hins, C.hts _ hsel⟩ ⟨gFB, hH.recv C.va hcls hc13 hcl, gpre hH C.kn⟩ rfl (glenR hb) hsz (by show st = _; rw [← hb, gtake]) (lv_room c2) hdg ⟨hce, hsl⟩
    · cases h
  · cases h
end
