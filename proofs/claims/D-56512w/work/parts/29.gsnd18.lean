/-! SOUNDNESS 18: Rule.allows, its callee entered by its number (no word says that the constants' own classes are initialised) -/
set_option maxRecDepth 100000
theorem gRule_pl (i : Nat) (hi : i < 3) : plainName (gRuleN i) = true := by
  match i, hi with
  | 0, _ => decide
  | 1, _ => decide
  | 2, _ => decide
  | i + 3, h => exact absurd h (by omega)
section
variable {Z : gZ} {K : gK} {T : Nat → gMd} {hd : Nat → Nat → Nat → Option (Option Int32)} {mi pc : Nat} {own nm : String} {cc : ByteArray} {mx : Nat} {rt : Option FieldType} {hh : List (Nat × Nat × Nat × Nat)} {S : Nat → Bool}
theorem so_allowsM (hM : T mi = (own, nm, cc, mx, rt, [], S)) (hnone : ∀ E, hd mi pc E = none) {index m0 m1 m2 : Nat} {x : MethodName} {yy : Nat → MethodName} {cs : Nat → ByteArray} (hm : ∀ i, i < 3 → T (if i = 0 then m0 else if i = 1 then m1 else m2) = (gRuleN i, "allows", cs i, 2, some .boolean, [], fun _ => false) ∧ (yy i).cls = gRuleN i ∧ (yy i).name = "allows" ∧ Cond.code (yy i) (cs i) 2 (some .boolean) ∈ lw_all) (hxd : x.cls ≠ "java/lang/invoke/MethodHandle" ∧ x.cls ≠ "java/lang/invoke/VarHandle" ∧ (parseMethodDescriptor x.desc).map (fun d => d.parameters.length) = some 1) (hx : x = ⟨x.cls, x.name, x.desc⟩)
    (hl : Cond.methodLink own index x ∈ lw_all) (hsm : Cond.sameMethod x.cls x.cls x.name x.desc ∈ lw_all) (hdec : Cond.declares x ∈ lw_tbl) (hsel : ∀ i, i < 3 → Cond.selects (gRuleN i) x (yy i) ∈ lw_all) (hins : ∀ i, i < 3 → Cond.instanceMethod (yy i) ∈ lw_all) (hdg : decode cc pc = .ok (.invokevirtual index, 3)) : SO Z K T hd mi pc (o_allows K m0 m1 m2 (pc + 3)) := by
  have key : ∀ (i : Nat), i < 3 → ∀ (d : Nat) (ls : gL) (z : Int32) (rest : List Value) (G : gH) (r1 r : gO), gW rest ≤ 8 → VV Z K T d (if i = 0 then m0 else if i = 1 then m1 else m2) 0 (gent (T (if i = 0 then m0 else if i = 1 then m1 else m2)).2.2.2.1 [.ref (K.2 i), .int z]) [] G r1 → (∀ v G1, r1 = (.inl v, G1) → VV Z K T (d + 1) mi (pc + 3) ls (v.toList ++ rest) G1 r) → (∀ E G1, r1 = (.inr E, G1) → gthr hd mi pc E G1 = some r) → VV Z K T (d + 1) mi pc ls (.int z :: .ref (K.2 i) :: rest) G r := by
    intro i hi d ls z rest G r1 r c2 hv k1 k2
    obtain ⟨hT, hy1, hy2, hcode⟩ := hm i hi
    have hcw : (rest.map fun v => v.category).sum ≤ 8 := c2
    refine VV.call (rt9 := some .boolean) 3 hM hnone hv.1 hv.2.1 k1 k2 (fun p e R s m args below meth c H locs cells slots arr C h1 h2 hH hs hlo hsz hce hsl => ⟨#[], ?_⟩)
    have hO := (C.kn.2.2.2.1 i hi).2.2
    obtain ⟨cellB, hcB, hoB, hclB⟩ := va_Orecv (A := gNewA Z) (hO.kept C.old) (gS_of C hH hs hlo)
    intro T0 hT0 X
    obtain ⟨r0, r9, hn, hrm, hstR, hsigR⟩ := Cond.declares_spec (va_Nw.use (A := args) rfl (C.nw hdec rfl))
    obtain ⟨cn, ck0, r1', hcn, hck0, hni, hf, hn1⟩ := Cond.sameMethod_found (C.hts _ hsm)
    cases hn.symm.trans hn1
    obtain ⟨mk, methM, hnamed, hmethM, -, habM⟩ := Cond.instanceMethod_spec (C.hts _ (hins i hi))
    obtain ⟨c3, r3, m3, q1, q2, q3, q4, kP, hkP, hkPi⟩ := Cond.selects_spec (C.hts _ (hsel i hi))
    cases hclB.symm.trans q1
    cases hf.symm.trans q2
    cases hnamed.symm.trans q3
    have hselP : selectMethod e.platform s.vm cellB.cls r0 = .method mk := by rw [Launch.admits_selectMethod X.admits]; exact q4
    have hlen : ([Value.int z]).length = r9.sig.parameters.length := by
      have e9 := hxd.2.2
      have h9 : parseMethodDescriptor x.desc = some r9.sig := hsigR
      rw [h9] at e9
      simpa using e9.symm
    obtain ⟨vm₁, X₁, hstep₁⟩ := X.invokevirtualUp C.1 C.ow (C.hts _ hl) (C.hts _ hsm) ⟨hxd.1, hxd.2.1⟩ hn hrm hstR (a := K.2 i) (cell := cellB) (by rw [hT0]; exact hcB)
      (fun z h => by rw [h] at hoB; cases hoB) hselP hmethM habM hkP hkPi (g := F0 m pc arr (.int z :: .ref (K.2 i) :: rest)) rfl (argsL := [.int z]) (rest := rest) hlen rfl (by rw [C.2.1]; exact hdg)
    have hnamed1 := X₁.named hnamed
    have wd : ∀ w ∈ lw_all, ∀ A, w.before A (T0.setVm vm₁) = true := fun w hw A => pay_in C.hts lw_self w hw A (T0.setVm vm₁) X₁.warmed
    obtain ⟨methk, ck, hmk, hck, hbk, hmlk, hrk, hlk, hexk, hsk⟩ := Cond.code_spec hnamed1 (wd _ hcode #[])
    have hfc : (T0.setVm vm₁).vm.findClass (gRuleN i) = some mk.cls := by
      have := findClass_of_methodNamed hnamed1
      rw [hy1] at this
      exact this
    have hinm : methk.name = "allows" := by
      have := (name_of_methodNamed hnamed1 hmk).1
      rw [hy2] at this
      exact this
    have hpl : plainName (gRuleN i) = true := gRule_pl i hi
    obtain ⟨kY, hkY, hnmY⟩ := className_of_methodNamed hnamed1
    have hpk : (T0.setVm vm₁).plainMethod mk := State.plainMethod.of_name (fun k' hk' => by cases hkY.symm.trans hk'; rw [hnmY, hy1]; exact hpl)
    unfold FR at h1
    unfold LR at h2
    have hm9 := gmade (Qc := QC Z (some .boolean) r1) (XC := XC Z r1) (free := gNewA Z) (mc := r1.2.2.1 - G.2.1) (ms := r1.2.2.2 - G.2.2) (a := #[Value.ref (K.2 i), .int z]) X₁ (g := { F0 m pc arr (.int z :: .ref (K.2 i) :: rest) with stack := rest }) rfl (hsz.trans C.2.2.2.1.symm) (by rw [C.2.1]; exact hdg) (R' := { frames := FR d, locals := LR d, cells := r1.2.2.1 - G.2.1, slots := r1.2.2.2 - G.2.2 }) hmk hck hlk hpk
      (by show FR d + 1 ≤ _; unfold FR; omega) (by rw [hmlk]; show 2 * 0 + (rest.map fun v => v.category).sum + 13 + LR d ≤ _; unfold LR; omega) hce hsl (fun U hU Y₀ => by
        have hl := lv_entry [Value.ref (K.2 i), .int z] (n := 2) (Nat.le_refl 2)
        have hvm : U.vm = vm₁ := by rw [hU]; rfl
        have hheap : U.heap = H := by rw [hU]; exact hT0
        rw [hmlk, show (#[Value.ref (K.2 i), .int z]) = [Value.ref (K.2 i), .int z].toArray from rfl, lg_entry_eq]
        generalize (lg_sl [Value.ref (K.2 i), .int z] ++ List.replicate (2 - (lg_sl [Value.ref (K.2 i), .int z]).length) Slot.unset).toArray = arr9 at hl ⊢
        have hcat : ∀ v ∈ [Value.ref (K.2 i), .int z], v.category = 1 := by intro v hv; simp at hv; rcases hv with rfl | rfl <;> rfl
        rw [show (T (if i = 0 then m0 else if i = 1 then m1 else m2)).2.2.2.1 = 2 by rw [hT]] at hv
        refine hv.2.2 p e { frames := FR d, locals := LR d, cells := r1.2.2.1 - G.2.1, slots := r1.2.2.2 - G.2.2 } ((T0.setVm vm₁).calling { F0 m pc arr (.int z :: .ref (K.2 i) :: rest) with stack := rest } mk #[Value.ref (K.2 i), .int z]) mk #[Value.ref (K.2 i), .int z] (.java { F0 m pc arr (.int z :: .ref (K.2 i) :: rest) with stack := rest } :: below) methk ck H [] 0 0 arr9 _ ?_ (Nat.le_refl _) (Nat.le_refl _) ?_ ?_ hH ?_ (fun _ h => by cases h) ?_ ?_ U hheap Y₀
        · rw [hT]
          refine ⟨C.1, hbk, hrk, hmlk, hfc, fun w hw => pay_in C.hts lw_self w hw _ _ X₁.warmed, hlk, ⟨hinm, fun h => absurd h (by show ¬ ("allows" = "<init>"); decide)⟩, ?_, Kn.warm X₁.warmed C.kn, ?_, fun q hq => ?_⟩
          · rw [Array.isEmpty_iff.mp hexk]; rfl
          · show _ ≤ T0.heap.size
            rw [hT0]; exact hH.2.1
          · show T0.heap[q]? = _
            rw [hT0]; exact hH.2.2.1 q hq
        · show 0 + _ ≤ (r1.2.2.1 - G.2.1) + _
          omega
        · show 0 + _ ≤ (r1.2.2.2 - G.2.2) + _
          omega
        · show T0.heap.size ≤ _
          rw [hT0]; exact Nat.le_refl _
        · rw [hT]
          refine ⟨hl.1, hl.2.1, fun k v hk hc => ?_, fun k v hk => ?_⟩
          · have := hcat v (List.mem_of_getElem? (gent_at hk))
            omega
          · have := lv_args_1 [Value.ref (K.2 i), .int z] 0 k v hcat (gent_at hk)
            rw [Nat.zero_add] at this
            exact hl.2.2 _ this
        · rw [hT]
          exact Or.inl rfl)
    rcases hm9 with ⟨v, t, T', L, X', hL, e1, e2, hq, hst⟩ | ⟨q0, t, T', L, E, ce, X', hL, e1, e2, hx9, hce', hcv', hcl, hst⟩
    · exact Or.inl ⟨v, _, t, T', L, hT0, X', hL, e1, e2, hq, fun target h => hstep₁ _ fun acts => by rw [doInvoke_state]; exact hst.trans h⟩
    · exact Or.inr ⟨q0, _, t, T', L, E, ce, hT0, X', hL, e1, e2, hx9, hce', hcv', vx_cls X₁.warmed hcl, hstep₁ _ fun acts => by rw [doInvoke_state]; exact hst⟩
  refine SO.of fun ls st G x9 h => ?_
  unfold o_allows at h
  split at h
  · split at h
    · rename_i z a r hr
      split at h
      · cases h
        rename_i h0
        subst h0
        exact fun d r1 r hv k1 k2 => key 0 (by decide) d _ _ _ _ _ _ hr hv k1 k2
      · split at h
        · cases h
          rename_i h0
          subst h0
          exact fun d r1 r hv k1 k2 => key 1 (by decide) d _ _ _ _ _ _ hr hv k1 k2
        · split at h <;> cases h
          rename_i h0
          subst h0
          exact fun d r1 r hv k1 k2 => key 2 (by decide) d _ _ _ _ _ _ hr hv k1 k2
    · cases h
  · cases h
end
