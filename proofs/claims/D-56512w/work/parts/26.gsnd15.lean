/-! SOUNDNESS 15: calls of lambdas that capture nothing -/
set_option maxRecDepth 100000
section
variable {Z : gZ} {K : gK} {T : Nat → gMd}
variable {p : Program} {e : Env} {R : Room} {s : State} {m : MethodId} {args : Array Value} {below : List Frame} {meth : Method} {c : Code} {T0 : State} {locs : List Loc} {cells slots : Nat}
theorem glamS {d : Nat} {r1 : gO} {G : gH} {j : Nat} (hσ : gsg j ∈ lss) {ca : Nat} {mi' : Nat} {nm' : String} {cc' : ByteArray} {S' : Nat → Bool} {y : MethodName} (hc : gCal T mi' "CuttingRoom" nm' cc' 1 (some .char) S' y 1 1) (hy : y = ⟨"CuttingRoom", (gsg j).implName, "(LCuttingRoom$Sheet;)C"⟩) (hst : Cond.static y ∈ lw_all)
    (X : Stand p Z.1 e R s m args below meth c T0 locs cells slots) (hexec : p.tables.exec = Jvm.exec) (hts : ∀ w ∈ lw_all, w.before args s = true) (hKn : Kn Z K s) (hH : HW Z G T0.heap)
    {g : JFrame} (hg : g.method = m) (hsize : g.locals.size = c.maxLocals) {ig : Instr} {len : Nat} (hdg : decode c.code g.pc = .ok (ig, len)) {cK : ClassId} (hsite : gSite j cK (some ca) s) {a on : Nat}
    (hv : VV Z K T d mi' 0 (gent (T mi').2.2.2.1 [.ref on]) [] G r1) (h1 : FR d + 2 ≤ R.frames) (h2 : 2 * g.monitorRoom + (g.stack.map fun v => v.category).sum + 13 + (LR d + 50) ≤ R.locals) (hcells : cells + (r1.2.2.1 - G.2.1) ≤ R.cells) (hslots : slots + (r1.2.2.2 - G.2.2) ≤ R.slots) :
    gLams Z p e R s m args below meth c T0 locs cells slots (r1.2.2.1 - G.2.1) (r1.2.2.2 - G.2.2) len g ⟨cK, 1⟩ #[.ref a, .ref on] r1 := by
  have hmet := hc.met (as := [.ref on]) (by intro v hv; simp at hv; subst hv; rfl) rfl hv
  obtain ⟨m0, k0, kc0, cf0, i0, p0, l0, n1, n2, n3, n4, n5, n6, n7, n8, n9⟩ := hsite.warm X.warmed
  obtain ⟨kx, hkx, hnx⟩ := className_of_methodNamed n1
  cases n2.symm.trans hkx
  have hKT : Kn Z K T0 := Kn.warm X.warmed hKn
  obtain ⟨-, -, -, -, -, -, -, -, -, -, -, -, -, -, -, hO, -⟩ := id hKT
  obtain ⟨k, tk, file, methk, ck, toy, t, hk, hkn, hfile, hpool, hmk, hck, hbytes, hml, hlk, hfl, hretk, hex, htoy, htk, hitf, hlook, hready, hclsR⟩ := l_madeS hσ n2 hnx n7 hO
  have wd : ∀ w ∈ lw_all, ∀ A, w.before A T0 = true := fun w hw A => pay_in hts lw_self w hw A T0 X.warmed
  obtain ⟨mY, hnY⟩ := Cond.code_named (wd _ hc.2.2.2.2.2.2.1 #[])
  obtain ⟨methY, cY, hmY, -, -, -, -, -, -, hsigY⟩ := Cond.code_spec hnY (wd _ hc.2.2.2.2.2.2.1 #[])
  have hstY : methY.isStatic = true := Cond.static_spec hnY hmY (wd _ hst #[])
  have hyd := hc.2.2.2.2.2.2.2.2
  have hclsY : T0.vm.findClass "CuttingRoom" = some mY.cls := by
    have := findClass_of_methodNamed hnY
    rw [hy] at this
    exact this
  cases htoy.symm.trans hclsY
  have ht : t = mY := by
    have h9 := State.methodFound?_of_named hnY ⟨hyd.1, hyd.2.1⟩
    rw [hy] at h9
    simp only [State.methodFound?, htoy, htk, Option.bind_eq_bind, Option.bind_some] at h9
    rw [hlook] at h9
    exact Option.some.inj h9
  subst ht
  obtain ⟨kY, hkY, hnmY⟩ := className_of_methodNamed hnY
  have hinitY : kY.init = .initialized := Cond.initialized_spec (findClass_of_methodNamed hnY) hkY (wd _ hc.2.2.2.2.2.2.2.1 #[])
  have hsp : ∀ z : Method, signaturePolymorphic kY z = false := fun z => by simp [signaturePolymorphic, hnmY, hyd.1, hyd.2.1]
  cases htk.symm.trans hkY
  have hpoly : signaturePolymorphic tk methY = false := hsp _
  have hsigY' : methY.sig.parameters.length = 1 := by
    have e9 := hyd.2.2
    rw [hsigY] at e9
    simpa using e9
  have hpk : T0.plainMethod ⟨cK, 1⟩ := State.plainMethod.of_name (fun k' hk' => by cases hk.symm.trans hk'; rw [hkn]; decide)
  refine gmade X hg hsize hdg (R' := { frames := FR d + 1, locals := LR d + 50, cells := r1.2.2.1 - G.2.1, slots := r1.2.2.2 - G.2.2 }) hmk hck hlk hpk (by show FR d + 1 + 1 ≤ _; omega) (by rw [hml]; show _ + 13 + (LR d + 50) ≤ _; omega) hcells hslots ?_
  intro U hU Y₀
  have hvm : U.vm = T0.vm := by rw [hU]; rfl
  have hheap : U.heap = T0.heap := by rw [hU]; rfl
  have hWU : ∀ V : State, (T0.calling g ⟨cK, 1⟩ #[.ref a, .ref on]).WarmedH V.vm → s.WarmedH V.vm := fun V hV => State.WarmedH.trans X.warmed hV
  have hK : vx_Back Z.1 { frames := FR d + 1, locals := LR d + 50, cells := r1.2.2.1 - G.2.1, slots := r1.2.2.2 - G.2.2 } p e (.java g :: below) (T0.calling g ⟨cK, 1⟩ #[.ref a, .ref on]) #[.ref a, .ref on] y 3 8 (PreOf { frames := FR d + 1, locals := LR d + 50, cells := r1.2.2.1 - G.2.1, slots := r1.2.2.2 - G.2.2 } (r1.2.2.1 - G.2.1) (r1.2.2.2 - G.2.2) (va_Pc [.ref on] (fun U => HW Z G U.heap ∧ Kn Z K U))) (PostOf (QC Z (some .char) r1) (r1.2.2.1 - G.2.1) (r1.2.2.2 - G.2.2) (gNewA Z)) (vx_Post (XC Z r1) (r1.2.2.1 - G.2.1) (r1.2.2.2 - G.2.2) (gNewA Z)) := by
    refine vx_back (bytes := cc') (maxL := 1) (ret := some .char) hmet gFB rfl rfl (Nat.le_refl _) (by show 8 + 12 + LR d ≤ LR d + 50; omega) (fun w hw a' V hV => ?_) List.mem_cons_self (fun a' V hV => ?_)
    · exact pay_in hts (lw_meth hc.2.2.2.2.2.2.1) w hw a' V (hWU V hV)
    · exact pay_in hts lw_self _ hc.2.2.2.2.2.2.2.1 a' V (hWU V hV)
  have hs : U.topJava?.isSome := Y₀.here.top
  have hpref : ∀ target, Steps p.tables e (.java g :: below) (doInvoke e (U.setTop { method := ⟨cK, 1⟩, pc := 1, locals := #[.val (.ref a), .val (.ref on)], stack := [], locked := none }) [] t #[.ref on]).1 target → Steps p.tables e (.java g :: below) (U.setTop (entryFrame ⟨cK, 1⟩ #[.ref a, .ref on] ck.maxLocals)) target := by
    intro target htg
    have hloc : entryFrame ⟨cK, 1⟩ #[.ref a, .ref on] ck.maxLocals = { method := ⟨cK, 1⟩, pc := 0, locals := #[.val (.ref a), .val (.ref on)], stack := [], locked := none } := by rw [hml]; rfl
    rw [hloc]
    obtain ⟨bb, hmem⟩ := memberRef_ask' (e := e) (vm := U.vm) (d := cK) (index := 17) (by rw [hvm]; exact hk) hfile (Or.inl (by rw [hpool]; exact (l_sM _ hσ).1)) (by rw [hpool]; exact (l_sM _ hσ).2.2)
    jvm_step Y₀.here [hexec, hbytes, lcS0, Value.isRef]
    jvm_step Y₀.here [hexec, hbytes, lcS1, invokestatic.wp_ready (e := e) (s := U) (m := t) (k := tk) (meth := methY) (args := [.ref on]) (rest := [])
      (f := { method := ⟨cK, 1⟩, pc := 1, locals := #[.val (.ref a), .val (.ref on)], stack := [.ref on], locked := none }) hs ⟨14, _, _, bb, t.cls, tk, hmem, by rw [hvm]; exact hclsR, by rw [hvm]; exact htk, by simp [hsp]⟩ (by rw [hvm]; exact hready) (by rw [hvm]; exact htk) (by rw [hvm]; exact hmY) hpoly hstY hinitY hsigY'.symm rfl]
    intro acts'
    rw [doInvoke_state]
    exact htg
  rcases hK ⟨cK, 1⟩ methk ck ⟨U, [], 0, 0⟩ { method := ⟨cK, 1⟩, pc := 1, locals := #[.val (.ref a), .val (.ref on)], stack := [], locked := none } (.invokestatic 17) t #[.ref on] Y₀ rfl (by rw [hml]; rfl) (by rw [hbytes]; exact lcS1) (by show 2 * 0 + 0 ≤ 8; omega)
    (by rw [hU]; exact hnY) ⟨Nat.le_of_eq (Nat.zero_add _), Nat.le_of_eq (Nat.zero_add _), rfl, by show HW Z G U.heap; rw [hheap]; exact hH, Kn.warm (s := T0) (U := U) (by rw [hvm]; exact State.WarmedH.refl T0) hKT⟩ with ⟨v, ⟨U', l2, c2, s2⟩, X', ⟨g', mk', t1, L, e1, e2, ⟨v', hr1, hv', hHW, hch⟩, e3, hL, e4, e5⟩, hsteps⟩ | ⟨q, ⟨U', l2, c2, s2⟩, X', ⟨g', mk', t1, L, E, ce, e1, e2, ⟨kx, hk6, hr1, hE, hHW⟩, hce, hcv, hcl, e3, hL, e4, e5⟩, hsteps⟩
  · cases hv'
    obtain ⟨x, rfl, hx⟩ := hch rfl
    dsimp only [Pt.U, Pt.locs, Pt.cells, Pt.slots] at X' e1 e2 e3 e4 e5 hsteps
    rw [Nat.zero_add] at e4 e5
    rw [List.nil_append] at e3
    subst e3 e4 e5
    have hW8 := vx_ret (XC := XC Z r1) (W.zret (p := p) (l := Z.1) (e := e) (below := .java g :: below) (R := { frames := FR d + 1, locals := LR d + 50, cells := r1.2.2.1 - G.2.1, slots := r1.2.2.2 - G.2.2 }) (s := T0.calling g ⟨cK, 1⟩ #[.ref a, .ref on]) (m := ⟨cK, 1⟩) (args := #[.ref a, .ref on]) (meth := methk) (c := ck) (H := U'.heap) (locs := l2) (cells := r1.2.2.1 - G.2.1) (slots := r1.2.2.2 - G.2.2) (Qc := QC Z (some .char) r1) (free := gNewA Z) (ls := #[.val (.ref a), .val (.ref on)]) hexec hbytes hretk hx (fun t' ht' _ => ⟨_, hr1, rfl, by rw [ht', e1]; exact hHW, fun _ => ⟨x, rfl, hx⟩⟩) hL lcS4 hlk)
    obtain ⟨t9, a9, b9⟩ := hW8 U' rfl X'
    exact ⟨t9, hpref _ (hsteps.trans a9), b9⟩
  · dsimp only [Pt.U, Pt.locs, Pt.cells, Pt.slots] at X' e1 e2 e3 e4 e5 hsteps hcl
    rw [Nat.zero_add] at e4 e5
    rw [List.nil_append] at e3
    subst e3 e4 e5
    have hW5 := vx_out (p := p) (l := Z.1) (e := e) (below := .java g :: below) (R := { frames := FR d + 1, locals := LR d + 50, cells := r1.2.2.1 - G.2.1, slots := r1.2.2.2 - G.2.2 }) (s := T0.calling g ⟨cK, 1⟩ #[.ref a, .ref on]) (m := ⟨cK, 1⟩) (args := #[.ref a, .ref on]) (meth := methk) (c := ck) (H := U'.heap) (locs := l2) (cells := r1.2.2.1 - G.2.1) (slots := r1.2.2.2 - G.2.2) (Qc := QC Z (some .char) r1) (XC := XC Z r1) (free := gNewA Z) (ls := #[.val (.ref a), .val (.ref on)]) (rest := []) (pc := 1) (E := E) (ce := ce) (q := q) (mc := r1.2.2.1 - G.2.1) (ms := r1.2.2.2 - G.2.2)
      (fun x hx => by rw [hex] at hx; cases hx) hlk (by rw [e1]; exact hce) hcv (by rw [hvm] at hcl; exact hcl) (fun t' ht' _ => ⟨kx, hk6, hr1, hE, by rw [ht', e1]; exact hHW⟩) hL (Nat.le_refl _) (Nat.le_refl _)
    obtain ⟨t9, a9, b9⟩ := hW5 U' rfl X'
    exact ⟨t9, hpref _ (hsteps.trans a9), b9⟩
end
