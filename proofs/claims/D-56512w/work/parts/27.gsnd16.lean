/-! SOUNDNESS 16: Hindrance.find; lambdas made and stored -/
set_option maxRecDepth 100000
abbrev gfindN : MethodName := ⟨"CuttingRoom$Hindrance", "find", "(LCuttingRoom$Sheet;)C"⟩
theorem gsg_mem (j : Nat) (h : j < 7) : gsg j ∈ lbs ++ lss := by
  match j, h with
  | 0, _ => simp [gsg, lbs]
  | 1, _ => simp [gsg, lbs]
  | 2, _ => simp [gsg, lbs]
  | 3, _ => simp [gsg, lbs]
  | 4, _ => simp [gsg, lbs]
  | 5, _ => simp [gsg, lss]
  | 6, _ => simp [gsg, lss]
  | j + 7, h => exact absurd h (by omega)
theorem gsg_b (j : Nat) (h : j < 5) : gsg j ∈ lbs := by
  match j, h with
  | 0, _ => simp [gsg, lbs]
  | 1, _ => simp [gsg, lbs]
  | 2, _ => simp [gsg, lbs]
  | 3, _ => simp [gsg, lbs]
  | 4, _ => simp [gsg, lbs]
  | j + 5, h => exact absurd h (by omega)
theorem gsg_s (j : Nat) (h : j < 2) : gsg (5 + j) ∈ lss := by
  match j, h with
  | 0, _ => simp [gsg, lss]
  | 1, _ => simp [gsg, lss]
  | j + 2, h => exact absurd h (by omega)
section
variable {Z : gZ} {K : gK} {T : Nat → gMd} {hd : Nat → Nat → Nat → Option (Option Int32)} {mi pc : Nat} {own nm : String} {cc : ByteArray} {mx : Nat} {rt : Option FieldType} {hh : List (Nat × Nat × Nat × Nat)} {S : Nat → Bool}
theorem gfind {p : Program} {e : Env} {R : Room} {s : State} {m : MethodId} {args : Array Value} {below : List Frame} {meth : Method} {c : Code} {H : Heap} {locs : List Loc} {cells slots mc ms : Nat} {arr : Array Slot}
    (C : CXt Z K (own, nm, cc, mx, rt, hh, S) p s m args meth c) {index count : Nat} (hl : Cond.methodLink own index gfindN ∈ lw_all) (hdec : Cond.declares gfindN ∈ lw_tbl) (hdg : decode cc pc = .ok (.invokeinterface index count, 5)) {j : Nat} (hj : j < 7) {cK : ClassId} {one : Option Addr} (hsite : gSite j cK one s)
    {a on : Nat} {rest : List Value} {cell : Cell} (hcell : H[a]? = some cell) (hcc : cell.cls = cK) (hcv : cell.vm = .none) (hmk : ∃ (kK : Class) (methk : Method), s.vm.classes[cK]? = some kK ∧ s.vm.method? ⟨cK, 1⟩ = some methk ∧ methk.accessFlags = 1) {r1 : gO}
    (hlam : ∀ T1 : State, T1.heap = H → Stand p Z.1 e R s m args below meth c T1 locs cells slots → gLams Z p e R s m args below meth c T1 locs cells slots mc ms 5 { F0 m pc arr (.ref on :: .ref a :: rest) with stack := rest } ⟨cK, 1⟩ #[.ref a, .ref on] r1) (q : Array Value) :
    gRun p Z.1 e R s m args below meth c H locs cells slots mc ms 5 (F0 m pc arr (.ref on :: .ref a :: rest)) rest (QC Z (some .char) r1 q) (XC Z r1) (gNewA Z) := by
  obtain ⟨m0, k0, kc0, cf0, i0, p0, l0, n1, n2, n3, n4, n5, n6, n7, n8, n9⟩ := hsite
  obtain ⟨kK, methk, hkK, hmethk, hflk⟩ := hmk
  obtain ⟨-, -, -, -, -, -, -, -, -, -, -, -, -, -, -, -, iI, ik, hI1, hI2, hI3⟩ := C.kn
  obtain ⟨fl1, fl2, fl3, fl4, fl5, fl6⟩ := l_flags _ (gsg_mem j hj)
  obtain ⟨r0, r, hn, hrm, hstR, hsigR⟩ := Cond.declares_spec (va_Nw.use (A := args) rfl (C.nw hdec rfl))
  have hr0 : r0.cls = iI := Option.some.inj ((findClass_of_methodNamed hn).symm.trans hI1)
  obtain ⟨hnameR, hdescR⟩ := name_of_methodNamed hn hrm
  obtain ⟨-, -, -, -, -, -, -, iface', -, -, -, -, found, -, -, -, -, -, hi', -, -, -, -, -, -, hfound', -, -, -, -, -, -, -, -, -, -, hsel⟩ := Lambda.isMade_spec n7
  rw [fl4] at hi'
  cases hI1.symm.trans hi'
  have hfr : found = r0 := by
    have h1 := State.methodFound?_of_named hn (by decide)
    have hI1' : s.vm.findClass gfindN.cls = some iI := hI1
    simp only [State.methodFound?, hI1', hI2, hI3, Option.bind_eq_bind, Option.bind_some] at h1
    rw [fl5, fl6] at hfound'
    rw [hfound'] at h1
    exact Option.some.inj h1
  subst hfr
  obtain ⟨i2, hi2, hasg, hway⟩ := State.lambdaCallable_spec n8
  rw [fl4] at hi2
  cases hI1.symm.trans hi2
  have hsigI : r.sig.parameters.length = 1 := by
    have h9 : parseMethodDescriptor gfindN.desc = some r.sig := hsigR
    have h8 : (parseMethodDescriptor gfindN.desc).map (fun d => d.parameters.length) = some 1 := by decide +kernel
    rw [h9] at h8
    simpa using h8
  intro T0 hT X
  subst hcc
  obtain ⟨vm₁, X₁, hstep₁⟩ := X.invokeinterface C.1 C.ow (C.hts _ hl) hn hrm hstR (by rw [hr0]; exact hI2) hI3 (by decide) (a := a) (cell := cell) (kcell := kK) (by rw [hT]; exact hcell) (fun z h => by rw [hcv] at h; cases h) hkK (by rw [hr0]; exact hasg)
    (m' := ⟨cell.cls, 1⟩) (meth' := methk) (by rw [Launch.admits_selectMethod X.admits]; exact hsel) hmethk (by rw [hnameR, hdescR]; rw [fl5, fl6] at hway; exact hway) (by rw [hflk]; decide) (by simp [Method.isAbstract, hflk, hasFlag, Acc.abstract])
    (g := F0 m pc arr (.ref on :: .ref a :: rest)) rfl (argsL := [.ref on]) (rest := rest) (by rw [hsigI]; rfl) rfl (by rw [C.2.1]; exact hdg)
  rcases hlam (T0.setVm vm₁) hT X₁ with ⟨v, t, T', L, X', hL, e1, e2, hq, hst⟩ | ⟨q0, t, T', L, E, ce, X', hL, e1, e2, hx, hce, hcv', hcl, hst⟩
  · exact Or.inl ⟨v, _, t, T', L, hT, X', hL, e1, e2, hq, fun target h => hstep₁ _ fun acts => by rw [doInvoke_state]; exact hst.trans h⟩
  · exact Or.inr ⟨q0, _, t, T', L, E, ce, hT, X', hL, e1, e2, hx, hce, hcv', vx_cls X₁.warmed hcl, hstep₁ _ fun acts => by rw [doInvoke_state]; exact hst⟩
theorem HW.lam {G : gH} {H : Heap} {a c th : Nat} (h : HW Z G H) (ha : G.1 a = some (.inr (c, [.ref th]))) (hc : ¬ c < 13) : H[a]? = some ({ cls := gZL Z (c - 100), slots := [Value.ref th].toArray, vm := .none } : Cell) := by
  have h1 := (h.2.2.2 a _ ha).2
  unfold gAt at h1
  dsimp only at h1
  rw [if_neg hc] at h1
  exact h1
theorem gSite.mk {j : Nat} {c : ClassId} {one : Option Addr} {s : State} (hj : j < 7) (h : gSite j c one s) (hO : ∀ o ok, s.vm.findClass "java/lang/Object" = some o → s.vm.classes[o]? = some ok → ok.instanceTypes.size = 0) : ∃ (kK : Class) (methk : Method), s.vm.classes[c]? = some kK ∧ s.vm.method? ⟨c, 1⟩ = some methk ∧ methk.accessFlags = 1 := by
  obtain ⟨m0, k0, kc0, cf0, i0, p0, l0, n1, n2, n3, n4, n5, n6, n7, n8, n9⟩ := h
  obtain ⟨kx, hkx, hnx⟩ := className_of_methodNamed n1
  cases n2.symm.trans hkx
  rcases List.mem_append.mp (gsg_mem j hj) with hσ | hσ
  · obtain ⟨k, tk, file, methk, ck, toy, t, f0, hk, -, -, -, hmk, -, -, -, -, hfl, -⟩ := l_madeB hσ n2 hnx n7 hO
    exact ⟨k, methk, hk, hmk, hfl⟩
  · obtain ⟨k, tk, file, methk, ck, toy, t, hk, -, -, -, hmk, -, -, -, -, hfl, -⟩ := l_madeS hσ n2 hnx n7 hO
    exact ⟨k, methk, hk, hmk, hfl⟩
theorem so_find (hM : T mi = (own, nm, cc, mx, rt, [], S)) (hnone : ∀ E, hd mi pc E = none) {lm : Nat → Nat} {cs : Nat → ByteArray} {SS : Nat → Nat → Bool} {yy : Nat → MethodName} {index count : Nat}
    (hb : ∀ j, j < 5 → gCal T (lm j) "CuttingRoom" (gsg j).implName (cs j) 2 (some .char) (SS j) (yy j) 1 2 ∧ yy j = ⟨"CuttingRoom", (gsg j).implName, "(LCuttingRoom$Sheet;)C"⟩ ∧ Cond.instanceMethod (yy j) ∈ lw_all ∧ Cond.selects "CuttingRoom" (yy j) (yy j) ∈ lw_all)
    (hs2 : ∀ j, j < 2 → gCal T (lm (5 + j)) "CuttingRoom" (gsg (5 + j)).implName (cs (5 + j)) 1 (some .char) (SS (5 + j)) (yy (5 + j)) 1 1 ∧ yy (5 + j) = ⟨"CuttingRoom", (gsg (5 + j)).implName, "(LCuttingRoom$Sheet;)C"⟩ ∧ Cond.static (yy (5 + j)) ∈ lw_all)
    (hl : Cond.methodLink own index gfindN ∈ lw_all) (hdec : Cond.declares gfindN ∈ lw_tbl) (hdg : decode cc pc = .ok (.invokeinterface index count, 5)) : SO Z K T hd mi pc (o_find K lm (pc + 5)) := by
  have keyS : ∀ (j : Nat), j < 2 → ∀ (d : Nat) (ls : gL) (on : Nat) (rest : List Value) (G : gH) (r1 r : gO), gW rest ≤ 8 → VV Z K T d (lm (5 + j)) 0 (gent (T (lm (5 + j))).2.2.2.1 [.ref on]) [] G r1 → (∀ v G1, r1 = (.inl v, G1) → VV Z K T (d + 1) mi (pc + 5) ls (v.toList ++ rest) G1 r) → (∀ E G1, r1 = (.inr E, G1) → gthr hd mi pc E G1 = some r) → VV Z K T (d + 1) mi pc ls (.ref on :: .ref (K.2 (4 + j)) :: rest) G r := by
    intro j hj d ls on rest G r1 r c2 hv k1 k2
    obtain ⟨hc, hy, hst⟩ := hs2 j hj
    refine VV.call (rt9 := some .char) 5 hM hnone hv.1 hv.2.1 k1 k2 (fun p e R s m args below meth c H locs cells slots arr C h1 h2 hH hs hlo hsz hce hsl => ⟨#[], ?_⟩)
    obtain ⟨-, -, -, -, -, -, -, -, -, -, -, -, -, -, hk3, hO, -⟩ := id C.kn
    obtain ⟨hsite, cell, hold, hcc, hcv⟩ := hk3 j hj
    have hlt := (Array.getElem?_eq_some_iff.mp hold).1
    refine gfind C hl hdec hdg (by omega : 5 + j < 7) hsite (cell := cell) (by rw [hH.2.2.1 _ hlt]; exact hold) hcc hcv (hsite.mk (by omega) hO) (fun T1 hT1 X1 => ?_) #[]
    unfold FR at h1
    unfold LR at h2
    refine glamS (gsg_s j hj) hc hy hst X1 C.1 C.hts C.kn (by rw [hT1]; exact hH) rfl (hsz.trans C.2.2.2.1.symm) (by rw [C.2.1]; exact hdg) hsite hv (by unfold FR; omega) ?_ hce hsl
    have : (rest.map fun v => v.category).sum ≤ 8 := c2
    show 2 * 0 + (rest.map fun v => v.category).sum + 13 + (LR d + 50) ≤ R.locals
    unfold LR
    omega
  have keyB : ∀ (j : Nat), j < 5 → ∀ (d : Nat) (ls : gL) (on b th : Nat) (rest : List Value) (G : gH) (r1 r : gO), gW rest ≤ 8 → G.1 b = some (.inr (100 + j, [.ref th])) → g_cls G th = some 0 → VV Z K T d (lm j) 0 (gent (T (lm j)).2.2.2.1 [.ref th, .ref on]) [] G r1 → (∀ v G1, r1 = (.inl v, G1) → VV Z K T (d + 1) mi (pc + 5) ls (v.toList ++ rest) G1 r) → (∀ E G1, r1 = (.inr E, G1) → gthr hd mi pc E G1 = some r) → VV Z K T (d + 1) mi pc ls (.ref on :: .ref b :: rest) G r := by
    intro j hj d ls on b th rest G r1 r c2 hG hth hv k1 k2
    obtain ⟨hc, hy, hins, hsel⟩ := hb j hj
    refine VV.call (rt9 := some .char) 5 hM hnone hv.1 hv.2.1 k1 k2 (fun p e R s m args below meth c H locs cells slots arr C h1 h2 hH hs hlo hsz hce hsl => ⟨#[], ?_⟩)
    obtain ⟨-, -, -, -, -, -, -, -, -, -, -, -, -, hk2, -, hO, -⟩ := id C.kn
    have hsite := hk2 j hj
    have hcell := hH.lam hG (by omega)
    rw [show 100 + j - 100 = j by omega] at hcell
    refine gfind C hl hdec hdg (by omega : j < 7) hsite hcell rfl rfl (hsite.mk (by omega) hO) (fun T1 hT1 X1 => ?_) #[]
    unfold FR at h1
    unfold LR at h2
    refine glamB (gsg_b j hj) hc hy hins hsel X1 C.1 C.hts C.kn (by rw [hT1]; exact hH) rfl (hsz.trans C.2.2.2.1.symm) (by rw [C.2.1]; exact hdg) hsite (by rw [hT1]; exact hcell) hth hv (by unfold FR; omega) ?_ hce hsl
    have : (rest.map fun v => v.category).sum ≤ 8 := c2
    show 2 * 0 + (rest.map fun v => v.category).sum + 13 + (LR d + 50) ≤ R.locals
    unfold LR
    omega
  refine SO.of fun ls st G x9 h => ?_
  unfold o_find at h
  split at h
  · split at h
    · rename_i on b r hr
      split at h
      · rename_i c fs hG
        split at h
        · rename_i hcr
          split at h
          · split at h <;> cases h
            rename_i th hth
            exact fun d r1 r hv k1 k2 => keyB (c - 100) (by omega) d _ _ _ _ _ _ _ _ hr (by rw [show 100 + (c - 100) = c by omega]; exact hG) hth hv k1 k2
          · cases h
        · cases h
      · cases h
      · split at h
        · cases h
          rename_i h0
          subst h0
          exact fun d r1 r hv k1 k2 => keyS 0 (by decide) d _ _ _ _ _ _ hr hv k1 k2
        · split at h <;> cases h
          rename_i h0
          subst h0
          exact fun d r1 r hv k1 k2 => keyS 1 (by decide) d _ _ _ _ _ _ hr hv k1 k2
    · cases h
  · cases h
end
