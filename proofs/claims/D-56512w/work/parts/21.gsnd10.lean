/-! SOUNDNESS 10: the kinds of calls -/
set_option maxRecDepth 100000
section
variable {Z : gZ} {K : gK} {T : Nat → gMd} {hd : Nat → Nat → Nat → Option (Option Int32)} {mi pc : Nat} {own nm : String} {cc : ByteArray} {mx : Nat} {rt : Option FieldType} {hh : List (Nat × Nat × Nat × Nat)} {S : Nat → Bool}
variable {mi' : Nat} {own' nm' : String} {cc' : ByteArray} {mx' : Nat} {rt' : Option FieldType} {S' : Nat → Bool} {y : MethodName} {n index : Nat}
theorem gFRs (d : Nat) : FR d + 1 ≤ FR (d + 1) := by unfold FR; omega
theorem gLRs {d m : Nat} (h : m ≤ 60) : 8 + (m + 11) + LR d ≤ LR (d + 1) := by unfold LR; omega
/-- what a callee's names must be -/
def gCal (T : Nat → gMd) (mi' : Nat) (own' nm' : String) (cc' : ByteArray) (mx' : Nat) (rt' : Option FieldType) (S' : Nat → Bool) (y : MethodName) (n k : Nat) : Prop := T mi' = (own', nm', cc', mx', rt', [], S') ∧ y.cls = own' ∧ y.name = nm' ∧ (plainFor y = true ∧ (y.name = "<init>" → y.cls = "CuttingRoom" → y.desc = "()V")) ∧ k ≤ mx' ∧ mx' ≤ 60 ∧ Cond.code y cc' mx' rt' ∈ lw_all ∧ Cond.initialized y.cls ∈ lw_all ∧ (y.cls ≠ "java/lang/invoke/MethodHandle" ∧ y.cls ≠ "java/lang/invoke/VarHandle" ∧ (parseMethodDescriptor y.desc).map (fun d => d.parameters.length) = some n)
theorem gCal.met {k d : Nat} {as : List Value} {G : gH} {r1 : gO} (h : gCal T mi' own' nm' cc' mx' rt' S' y n k) (hcat : ∀ v ∈ as, v.category = 1) (hlen : as.length = k) (hv : VV Z K T d mi' 0 (gent (T mi').2.2.2.1 as) [] G r1) :
    vx_Met Z.1 y (ws_ y cc' mx' rt') { frames := FR d, cells := r1.2.2.1 - G.2.1, slots := r1.2.2.2 - G.2.2, locals := LR d } (va_Pc as (fun U => HW Z G U.heap ∧ Kn Z K U)) (QC Z rt' r1) (XC Z r1) (r1.2.2.1 - G.2.1) (r1.2.2.2 - G.2.2) (gNewA Z) := by
  obtain ⟨h1, h2, h3, h4, h5, h6, h7, h8, h9⟩ := h
  rw [show (T mi').2.2.2.1 = mx' by rw [h1]] at hv
  exact VV.met h1 h2 h3 h4 hcat (by omega) hv
theorem gCal.cb {k d : Nat} {R : Room} {s : State} {args : Array Value} {mc ms : Nat} (h : gCal T mi' own' nm' cc' mx' rt' S' y n k) (hts : ∀ w ∈ lw_all, w.before args s = true) (h1 : FR (d + 1) ≤ R.frames) (h2 : LR (d + 1) ≤ R.locals) (hl : Cond.methodLink own index y ∈ lw_all) :
    CallB R s args own index y cc' mx' rt' (ws_ y cc' mx' rt') { frames := FR d, cells := mc, slots := ms, locals := LR d } mc ms n :=
  callB_of n hts (lw_meth h.2.2.2.2.2.2.1) rfl rfl rfl (hts _ h.2.2.2.2.2.2.2.1) (hts _ hl) h.2.2.2.2.2.2.2.2 ⟨Nat.le_trans (gFRs d) h1, Nat.le_trans (gLRs h.2.2.2.2.2.1) h2⟩
theorem gCal.cn {k d : Nat} {R : Room} {s : State} {args : Array Value} {mc ms : Nat} {host : String} (h : gCal T mi' own' nm' cc' mx' rt' S' y n k) (hts : ∀ w ∈ lw_all, w.before args s = true) (h1 : FR (d + 1) ≤ R.frames) (h2 : LR (d + 1) ≤ R.locals) (hl : va_Nw (.methodLinkNest own index y host) s) :
    va_CN R s args own index y host cc' mx' rt' (ws_ y cc' mx' rt') { frames := FR d, cells := mc, slots := ms, locals := LR d } mc ms n :=
  va_cnB n hts (lw_meth h.2.2.2.2.2.2.1) rfl rfl rfl hl (hts _ h.2.2.2.2.2.2.2.1) h.2.2.2.2.2.2.2.2 ⟨Nat.le_trans (gFRs d) h1, Nat.le_trans (gLRs h.2.2.2.2.2.1) h2⟩
theorem gpre {as : List Value} {G : gH} {H : Heap} {s : State} (hH : HW Z G H) (hK : Kn Z K s) : ∀ U : State, U.heap = H → s.WarmedH U.vm → va_Pc as (fun U => HW Z G U.heap ∧ Kn Z K U) as.toArray U := fun U hU hW => ⟨rfl, by rw [hU]; exact hH, Kn.warm hW hK⟩
theorem gtake {st : List Value} {k : Nat} : ((st.take k).reverse).reverse ++ st.drop k = st := by rw [List.reverse_reverse, List.take_append_drop]
theorem gcats {st : List Value} {k : Nat} (h : gC1 (st.take k) = true) : ∀ v ∈ (st.take k).reverse, v.category = 1 := fun v hv => gC1_at h (List.mem_reverse.mp hv)
theorem gcatsR {st : List Value} {k b : Nat} (h : gC1 (st.take k) = true) : ∀ v ∈ Value.ref b :: (st.take k).reverse, v.category = 1 := by
  intro v hv
  rcases List.mem_cons.mp hv with rfl | hv
  · rfl
  · exact gcats h v hv
theorem glenR {st r : List Value} {k : Nat} {v : Value} (h : st.drop k = v :: r) : ((st.take k).reverse).length = k := by
  rw [List.length_reverse, List.length_take]
  have := congrArg List.length h
  rw [List.length_drop, List.length_cons] at this
  omega
theorem so_callS (hM : T mi = (own, nm, cc, mx, rt, [], S)) (hnone : ∀ E, hd mi pc E = none) (hc : gCal T mi' own' nm' cc' mx' rt' S' y n n) (hl : Cond.methodLink own index y ∈ lw_all) (hst : Cond.static y ∈ lw_all) (hdg : decode cc pc = .ok (.invokestatic index, 3)) : SO Z K T hd mi pc (o_callS mi' n (pc + 3)) := by
  refine SO.of fun ls st G x h => ?_
  unfold o_callS at h
  split at h <;> cases h
  rename_i hcond
  obtain ⟨c1, c2, c3⟩ := hcond
  intro d r1 r hv k1 k2
  refine VV.call (rt9 := rt') 3 hM hnone hv.1 hv.2.1 k1 k2 (fun p e R s m args below meth c H locs cells slots arr C h1 h2 hH hs hlo hsz hce hsl => ⟨#[], ?_⟩)
  exact vx_runS (As := (st.take n).reverse) (rest := st.drop n) ⟨C.1, C.2.1, C.2.2.2.1, C.ow, C.hts⟩ (hc.met (gcats c3) (by rw [List.length_reverse, List.length_take]; omega) hv) ⟨hc.cb C.hts h1 h2 hl, C.hts _ hst⟩ ⟨gFB, gpre hH C.kn⟩ rfl (by rw [List.length_reverse, List.length_take]; omega) hsz gtake.symm (lv_room c2) hdg ⟨hce, hsl⟩
theorem so_callV (hM : T mi = (own, nm, cc, mx, rt, [], S)) (hnone : ∀ E, hd mi pc E = none) (hc : gCal T mi' own' nm' cc' mx' rt' S' y n (n + 1)) {c0 : Nat} {q : vw_C} (hc13 : c0 < 13) (hcl : gcl[c0]? = some q) (hl : Cond.methodLink own index y ∈ lw_all) (hins : Cond.instanceMethod y ∈ lw_all) (hsel : Cond.selects q.1 y y ∈ lw_all) (hdg : decode cc pc = .ok (.invokevirtual index, 3)) : SO Z K T hd mi pc (o_callV c0 mi' n (pc + 3)) := by
  refine SO.of fun ls st G x h => ?_
  unfold o_callV at h
  split at h
  · split at h
    · split at h <;> cases h
      rename_i _ b r0 hb _ c' hcls hcond
      obtain ⟨rfl, c2, c3⟩ := hcond
      intro d r1 r hv k1 k2
      refine VV.call (rt9 := rt') 3 hM hnone hv.1 hv.2.1 k1 k2 (fun p e R s m args below meth c H locs cells slots arr C h1 h2 hH hs hlo hsz hce hsl => ⟨#[], ?_⟩)
      exact vx_runV (C := q.1) (As := (st.take n).reverse) (rest := r0) ⟨C.1, C.2.1, C.2.2.2.1, C.ow, C.hts⟩ (hc.met (gcatsR c3) (by rw [List.length_cons, glenR hb]) hv) ⟨hc.cb C.hts h1 h2 hl, C.hts _ hins, C.hts _ hsel⟩ ⟨gFB, hH.recv C.va hcls hc13 hcl, gpre hH C.kn⟩ rfl (glenR hb) hsz (by show st = _; rw [← hb, gtake]) (lv_room c2) hdg ⟨hce, hsl⟩
    · cases h
  · cases h
theorem so_callVN (hM : T mi = (own, nm, cc, mx, rt, [], S)) (hnone : ∀ E, hd mi pc E = none) (hc : gCal T mi' own' nm' cc' mx' rt' S' y n (n + 1)) {c0 : Nat} {q : vw_C} {host : String} (hc13 : c0 < 13) (hcl : gcl[c0]? = some q) (hl : Cond.methodLinkNest own index y host ∈ lw_tbl) (hins : Cond.instanceMethod y ∈ lw_all) (hsel : Cond.selects q.1 y y ∈ lw_all) (hdg : decode cc pc = .ok (.invokevirtual index, 3)) : SO Z K T hd mi pc (o_callV c0 mi' n (pc + 3)) := by
  refine SO.of fun ls st G x h => ?_
  unfold o_callV at h
  split at h
  · split at h
    · split at h <;> cases h
      rename_i _ b r0 hb _ c' hcls hcond
      obtain ⟨rfl, c2, c3⟩ := hcond
      intro d r1 r hv k1 k2
      refine VV.call (rt9 := rt') 3 hM hnone hv.1 hv.2.1 k1 k2 (fun p e R s m args below meth c H locs cells slots arr C h1 h2 hH hs hlo hsz hce hsl => ⟨#[], ?_⟩)
      exact vx_runVN (C := q.1) (As := (st.take n).reverse) (rest := r0) ⟨C.1, C.2.1, C.2.2.2.1, C.ow, C.hts⟩ (hc.met (gcatsR c3) (by rw [List.length_cons, glenR hb]) hv) ⟨hc.cn C.hts h1 h2 (C.nw hl rfl), C.hts _ hins, C.hts _ hsel⟩ ⟨gFB, hH.recv C.va hcls hc13 hcl, gpre hH C.kn⟩ rfl (glenR hb) hsz (by show st = _; rw [← hb, gtake]) (lv_room c2) hdg ⟨hce, hsl⟩
    · cases h
  · cases h
theorem so_callI (hM : T mi = (own, nm, cc, mx, rt, [], S)) (hnone : ∀ E, hd mi pc E = none) (hc : gCal T mi' own' nm' cc' mx' none S' y n (n + 1)) (hl : Cond.methodLink own index y ∈ lw_all) (hins : Cond.instanceMethod y ∈ lw_all) (hini : y.name = "<init>") (hdg : decode cc pc = .ok (.invokespecial index, 3)) : SO Z K T hd mi pc (o_callI mi' n (pc + 3)) := by
  refine SO.of fun ls st G x h => ?_
  unfold o_callI at h
  split at h
  · split at h <;> cases h
    rename_i _ b r0 hb hcond
    obtain ⟨c2, c3⟩ := hcond
    intro d r1 r hv k1 k2
    refine VV.call (rt9 := none) 3 hM hnone hv.1 hv.2.1 k1 k2 (fun p e R s m args below meth c H locs cells slots arr C h1 h2 hH hs hlo hsz hce hsl => ⟨#[], ?_⟩)
    exact vx_runI (As := (st.take n).reverse) (rest := r0) ⟨C.1, C.2.1, C.2.2.2.1, C.ow, C.hts⟩ (hc.met (gcatsR c3) (by rw [List.length_cons, glenR hb]) hv) ⟨hc.cb C.hts h1 h2 hl, hini, C.hts _ hins⟩ ⟨gFB, gpre hH C.kn⟩ rfl (glenR hb) hsz (by show st = _; rw [← hb, gtake]) (lv_room c2) hdg ⟨hce, hsl⟩
  · cases h
theorem so_callIN (hM : T mi = (own, nm, cc, mx, rt, [], S)) (hnone : ∀ E, hd mi pc E = none) (hc : gCal T mi' own' nm' cc' mx' none S' y n (n + 1)) {host : String} (hl : Cond.methodLinkNest own index y host ∈ lw_tbl) (hins : Cond.instanceMethod y ∈ lw_all) (hini : y.name = "<init>") (hdg : decode cc pc = .ok (.invokespecial index, 3)) : SO Z K T hd mi pc (o_callI mi' n (pc + 3)) := by
  refine SO.of fun ls st G x h => ?_
  unfold o_callI at h
  split at h
  · split at h <;> cases h
    rename_i _ b r0 hb hcond
    obtain ⟨c2, c3⟩ := hcond
    intro d r1 r hv k1 k2
    refine VV.call (rt9 := none) 3 hM hnone hv.1 hv.2.1 k1 k2 (fun p e R s m args below meth c H locs cells slots arr C h1 h2 hH hs hlo hsz hce hsl => ⟨#[], ?_⟩)
    exact vx_runIN (As := (st.take n).reverse) (rest := r0) ⟨C.1, C.2.1, C.2.2.2.1, C.ow, C.hts⟩ (hc.met (gcatsR c3) (by rw [List.length_cons, glenR hb]) hv) ⟨hc.cn C.hts h1 h2 (C.nw hl rfl), hini, C.hts _ hins⟩ ⟨gFB, gpre hH C.kn⟩ rfl (glenR hb) hsz (by show st = _; rw [← hb, gtake]) (lv_room c2) hdg ⟨hce, hsl⟩
  · cases h
/-- a list's method, by its interface -/
theorem so_callF (hM : T mi = (own, nm, cc, mx, rt, [], S)) (hnone : ∀ E, hd mi pc E = none) (hc : gCal T mi' own' nm' cc' mx' rt' S' y n (n + 1)) {x : MethodName} {count : Nat} (hx : (x, y) ∈ gfw) (hxd : x.cls ≠ "java/lang/invoke/MethodHandle" ∧ x.cls ≠ "java/lang/invoke/VarHandle" ∧ (parseMethodDescriptor x.desc).map (fun d => d.parameters.length) = some n) (hl : Cond.methodLink own index x ∈ lw_all) (hins : Cond.instanceMethod y ∈ lw_all) (hsel : Cond.selects "java/util/ArrayList" x y ∈ lw_all) (hdg : decode cc pc = .ok (.invokeinterface index count, 5)) : SO Z K T hd mi pc (o_callV 12 mi' n (pc + 5)) := by
  refine SO.of fun ls st G x9 h => ?_
  unfold o_callV at h
  split at h
  · split at h
    · split at h <;> cases h
      rename_i _ b r0 hb _ c' hcls hcond
      obtain ⟨rfl, c2, c3⟩ := hcond
      intro d r1 r hv k1 k2
      refine VV.call (rt9 := rt') 5 hM hnone hv.1 hv.2.1 k1 k2 (fun p e R s m args below meth c H locs cells slots arr C h1 h2 hH hs hlo hsz hce hsl => ⟨#[], ?_⟩)
      have hcw : va_CI R s args own "java/util/ArrayList" index x y cc' mx' rt' (ws_ y cc' mx' rt') { frames := FR d, cells := r1.2.2.1 - G.2.1, slots := r1.2.2.2 - G.2.2, locals := LR d } (r1.2.2.1 - G.2.1) (r1.2.2.2 - G.2.2) n := by
        refine va_cwF n C.hts (lw_app (fun w hw => ?_) (lw_meth hc.2.2.2.2.2.2.1)) rfl rfl rfl (C.kn.2.2.1 _ hx) hxd ⟨Nat.le_trans (gFRs d) h1, Nat.le_trans (gLRs hc.2.2.2.2.2.1) h2⟩
        simp only [List.mem_cons, List.not_mem_nil, or_false] at hw
        rcases hw with e | e | e | e
        · rw [e]; exact hl
        · rw [e]; exact hsel
        · rw [e]; exact hins
        · rw [e]; exact hc.2.2.2.2.2.2.2.1
      exact vx_runF (C := "java/util/ArrayList") (As := (st.take n).reverse) (rest := r0) (C.va.1 12 (RJ2, TJ2, 3) rfl).2 ⟨C.1, C.2.1, C.2.2.2.1, C.ow, C.hts⟩ (hc.met (gcatsR c3) (by rw [List.length_cons, glenR hb]) hv) hcw ⟨gFB, hH.recv (q := (RJ2, TJ2, 3)) C.va hcls (by decide) rfl, gpre hH C.kn⟩ rfl (glenR hb) hsz (by show st = _; rw [← hb, gtake]) (lv_room c2) hdg ⟨hce, hsl⟩
    · cases h
  · cases h
/-- Rule.allows: by the constant's own class -/
theorem so_allows (hM : T mi = (own, nm, cc, mx, rt, [], S)) (hnone : ∀ E, hd mi pc E = none) {m0 m1 m2 : Nat} {x : MethodName} {yy : Nat → MethodName} {cs : Nat → ByteArray} (hm : ∀ i, i < 3 → gCal T (if i = 0 then m0 else if i = 1 then m1 else m2) (gRuleN i) "allows" (cs i) 2 (some .boolean) (fun _ => false) (yy i) 1 2) (hxd : x.cls ≠ "java/lang/invoke/MethodHandle" ∧ x.cls ≠ "java/lang/invoke/VarHandle" ∧ (parseMethodDescriptor x.desc).map (fun d => d.parameters.length) = some 1) (hx : x = ⟨x.cls, x.name, x.desc⟩)
    (hl : Cond.methodLink own index x ∈ lw_all) (hsm : Cond.sameMethod x.cls x.cls x.name x.desc ∈ lw_all) (hdec : Cond.declares x ∈ lw_tbl) (hsel : ∀ i, i < 3 → Cond.selects (gRuleN i) x (yy i) ∈ lw_all) (hins : ∀ i, i < 3 → Cond.instanceMethod (yy i) ∈ lw_all) (hdg : decode cc pc = .ok (.invokevirtual index, 3)) : SO Z K T hd mi pc (o_allows K m0 m1 m2 (pc + 3)) := by
  have key : ∀ (i : Nat), i < 3 → ∀ (d : Nat) (ls : gL) (z : Int32) (rest : List Value) (G : gH) (r1 r : gO), gW rest ≤ 8 → VV Z K T d (if i = 0 then m0 else if i = 1 then m1 else m2) 0 (gent (T (if i = 0 then m0 else if i = 1 then m1 else m2)).2.2.2.1 [.ref (K.2 i), .int z]) [] G r1 → (∀ v G1, r1 = (.inl v, G1) → VV Z K T (d + 1) mi (pc + 3) ls (v.toList ++ rest) G1 r) → (∀ E G1, r1 = (.inr E, G1) → gthr hd mi pc E G1 = some r) → VV Z K T (d + 1) mi pc ls (.int z :: .ref (K.2 i) :: rest) G r := by
    intro i hi d ls z rest G r1 r c2 hv k1 k2
    have hc := hm i hi
    refine VV.call (rt9 := (some .boolean)) 3 hM hnone hv.1 hv.2.1 k1 k2 (fun p e R s m args below meth c H locs cells slots arr C h1 h2 hH hs hlo hsz hce hsl => ⟨#[], ?_⟩)
    have hcw : va_CU R s args own (gRuleN i) x.cls index x (yy i) (cs i) 2 (some .boolean) (ws_ (yy i) (cs i) 2 (some .boolean)) { frames := FR d, cells := r1.2.2.1 - G.2.1, slots := r1.2.2.2 - G.2.2, locals := LR d } (r1.2.2.1 - G.2.1) (r1.2.2.2 - G.2.2) 1 := by
      refine va_cwA 1 C.hts (lw_app (fun w hw => ?_) (lw_meth hc.2.2.2.2.2.2.1)) rfl rfl rfl (C.nw hdec rfl) hxd ⟨Nat.le_trans (gFRs d) h1, Nat.le_trans (gLRs hc.2.2.2.2.2.1) h2⟩
      simp only [List.mem_cons, List.not_mem_nil, or_false] at hw
      rcases hw with e | e | e | e | e
      · rw [e]; exact hl
      · rw [e]; exact hsm
      · rw [e]; exact hsel i hi
      · rw [e]; exact hins i hi
      · rw [e]; exact hc.2.2.2.2.2.2.2.1
    have hO := (C.kn.2.2.2.1 i hi).2.2
    exact vx_runU (C := gRuleN i) (As := [.int z]) (rest := rest) ⟨C.1, C.2.1, C.2.2.2.1, C.ow, C.hts⟩ (hc.met (fun v hv => by simp at hv; rcases hv with rfl | rfl <;> rfl) rfl hv) hcw ⟨gFB, va_Orecv (A := gNewA Z) (hO.kept C.old) (gS_of C hH hs hlo), gpre hH C.kn⟩ rfl rfl hsz rfl (lv_room c2) hdg ⟨hce, hsl⟩
  refine SO.of fun ls st G x9 h => ?_
  unfold o_allows at h
  split at h
  · split at h
    · rename_i z a r hr
      split at h
      · cases h
        rename_i h0
        subst h0
        exact fun d r1 r hv k1 k2 => key 0 (by decide) d _ _ _ _ _ _ hr hv k1 k2
      · split at h
        · cases h
          rename_i h0
          subst h0
          exact fun d r1 r hv k1 k2 => key 1 (by decide) d _ _ _ _ _ _ hr hv k1 k2
        · split at h <;> cases h
          rename_i h0
          subst h0
          exact fun d r1 r hv k1 k2 => key 2 (by decide) d _ _ _ _ _ _ hr hv k1 k2
    · cases h
  · cases h
end
