/-! SOUNDNESS 6: arrays made, references stored, arraycopy, switch, throws -/
set_option maxRecDepth 100000
section
variable {Z : gZ} {K : gK} {T : Nat → gMd} {hd : Nat → Nat → Nat → Option (Option Int32)} {mi pc : Nat} {own nm : String} {cc : ByteArray} {mx : Nat} {rt : Option FieldType} {hh : List (Nat × Nat × Nat × Nat)} {S : Nat → Bool}
theorem so_newi (hM : T mi = (own, nm, cc, mx, rt, hh, S)) (hw : Cond.arrayClass .int ∈ lw_all) (hdg : decode cc pc = .ok (.newarray .int, 2)) : SO Z K T hd mi pc (o_newi 0 (pc + 2)) := by
  refine SO.of fun ls st G x h => ?_
  unfold o_newi at h
  split at h
  · split at h <;> cases h
    rename_i k r hk
    have hk0 : ¬ k < 0 := fun q => hk (Or.inl q)
    have hk1 : k.toNatClampNeg ≤ 100000 := Nat.not_lt.mp fun q => hk (Or.inr q)
    refine fun d q hv => VV.alloc 1 k.toNatClampNeg hM hv rfl rfl (fun _ _ _ s _ args _ _ _ H locs _ _ _ _ C _ _ hce hsl hH hs hlo _ kk => ?_)
    refine va_newaK (atype := .int) C.1 C.2.1 (C.hts _ hw) rfl hdg rfl hk0 rfl ?_ hce hsl hH.1 fun H1 cA e1 z1 o1 hAr hnmA => ?_
    · show _ * componentBytes .int ≤ _
      have : componentBytes .int ≤ 8 := by decide
      exact Nat.le_trans (Nat.mul_le_mul hk1 this) (by decide)
    · have hcA : cA = gZA Z 0 := Option.some.inj (hnmA.symm.trans (show s.vm.findClass ("[" ++ (.int : FieldType).toString) = some (gZA Z 0) from (C.va.2 0 _ rfl).2))
      subst hcA
      exact kk H1 (hH.new _ (by rw [z1, hH.1]) (fun q hq => o1 q (by rw [← hH.1]; exact hq)) ⟨by decide, by rw [hH.1]; exact e1⟩) (by rw [z1, hH.1]; omega)
  · cases h
theorem so_newz (hM : T mi = (own, nm, cc, mx, rt, hh, S)) (hw : Cond.arrayClass .boolean ∈ lw_all) (hdg : decode cc pc = .ok (.newarray .boolean, 2)) : SO Z K T hd mi pc (o_newi 1 (pc + 2)) := by
  refine SO.of fun ls st G x h => ?_
  unfold o_newi at h
  split at h
  · split at h <;> cases h
    rename_i k r hk
    have hk0 : ¬ k < 0 := fun q => hk (Or.inl q)
    have hk1 : k.toNatClampNeg ≤ 100000 := Nat.not_lt.mp fun q => hk (Or.inr q)
    refine fun d q hv => VV.alloc 1 k.toNatClampNeg hM hv rfl rfl (fun _ _ _ s _ args _ _ _ H locs _ _ _ _ C _ _ hce hsl hH hs hlo _ kk => ?_)
    refine va_newaK (atype := .boolean) C.1 C.2.1 (C.hts _ hw) rfl hdg rfl hk0 rfl ?_ hce hsl hH.1 fun H1 cA e1 z1 o1 hAr hnmA => ?_
    · show _ * componentBytes .boolean ≤ _
      have : componentBytes .boolean ≤ 8 := by decide
      exact Nat.le_trans (Nat.mul_le_mul hk1 this) (by decide)
    · have hcA : cA = gZA Z 1 := Option.some.inj (hnmA.symm.trans (show s.vm.findClass ("[" ++ (.boolean : FieldType).toString) = some (gZA Z 1) from (C.va.2 1 _ rfl).2))
      subst hcA
      exact kk H1 (hH.new _ (by rw [z1, hH.1]) (fun q hq => o1 q (by rw [← hH.1]; exact hq)) ⟨by decide, by rw [hH.1]; exact e1⟩) (by rw [z1, hH.1]; omega)
  · cases h
theorem so_newc (hM : T mi = (own, nm, cc, mx, rt, hh, S)) (hw : Cond.arrayClass .char ∈ lw_all) (hdg : decode cc pc = .ok (.newarray .char, 2)) : SO Z K T hd mi pc (o_newi 2 (pc + 2)) := by
  refine SO.of fun ls st G x h => ?_
  unfold o_newi at h
  split at h
  · split at h <;> cases h
    rename_i k r hk
    have hk0 : ¬ k < 0 := fun q => hk (Or.inl q)
    have hk1 : k.toNatClampNeg ≤ 100000 := Nat.not_lt.mp fun q => hk (Or.inr q)
    refine fun d q hv => VV.alloc 1 k.toNatClampNeg hM hv rfl rfl (fun _ _ _ s _ args _ _ _ H locs _ _ _ _ C _ _ hce hsl hH hs hlo _ kk => ?_)
    refine va_newaK (atype := .char) C.1 C.2.1 (C.hts _ hw) rfl hdg rfl hk0 rfl ?_ hce hsl hH.1 fun H1 cA e1 z1 o1 hAr hnmA => ?_
    · show _ * componentBytes .char ≤ _
      have : componentBytes .char ≤ 8 := by decide
      exact Nat.le_trans (Nat.mul_le_mul hk1 this) (by decide)
    · have hcA : cA = gZA Z 2 := Option.some.inj (hnmA.symm.trans (show s.vm.findClass ("[" ++ (.char : FieldType).toString) = some (gZA Z 2) from (C.va.2 2 _ rfl).2))
      subst hcA
      exact kk H1 (hH.new _ (by rw [z1, hH.1]) (fun q hq => o1 q (by rw [← hH.1]; exact hq)) ⟨by decide, by rw [hH.1]; exact e1⟩) (by rw [z1, hH.1]; omega)
  · cases h
theorem so_newl (hM : T mi = (own, nm, cc, mx, rt, hh, S)) (hw : Cond.arrayClass .long ∈ lw_all) (hdg : decode cc pc = .ok (.newarray .long, 2)) : SO Z K T hd mi pc (o_newl 3 (pc + 2)) := by
  refine SO.of fun ls st G x h => ?_
  unfold o_newl at h
  split at h
  · split at h <;> cases h
    rename_i k r hk
    have hk0 : ¬ k < 0 := fun q => hk (Or.inl q)
    have hk1 : k.toNatClampNeg ≤ 100000 := Nat.not_lt.mp fun q => hk (Or.inr q)
    refine fun d q hv => VV.alloc 1 k.toNatClampNeg hM hv rfl rfl (fun _ _ _ s _ args _ _ _ H locs _ _ _ _ C _ _ hce hsl hH hs hlo _ kk => ?_)
    refine va_newaK (atype := .long) C.1 C.2.1 (C.hts _ hw) rfl hdg rfl hk0 rfl ?_ hce hsl hH.1 fun H1 cA e1 z1 o1 hAr hnmA => ?_
    · show _ * componentBytes .long ≤ _
      have : componentBytes .long ≤ 8 := by decide
      exact Nat.le_trans (Nat.mul_le_mul hk1 this) (by decide)
    · have hcA : cA = gZA Z 3 := Option.some.inj (hnmA.symm.trans (show s.vm.findClass ("[" ++ (.long : FieldType).toString) = some (gZA Z 3) from (C.va.2 3 _ rfl).2))
      subst hcA
      exact kk H1 (hH.new _ (by rw [z1, hH.1]) (fun q hq => o1 q (by rw [← hH.1]; exact hq)) ⟨by decide, by rw [hH.1]; exact e1⟩) (by rw [z1, hH.1]; omega)
  · cases h
theorem so_newd (hM : T mi = (own, nm, cc, mx, rt, hh, S)) (hw : Cond.arrayClass .double ∈ lw_all) (hdg : decode cc pc = .ok (.newarray .double, 2)) : SO Z K T hd mi pc (o_newd 4 (pc + 2)) := by
  refine SO.of fun ls st G x h => ?_
  unfold o_newd at h
  split at h
  · split at h <;> cases h
    rename_i k r hk
    have hk0 : ¬ k < 0 := fun q => hk (Or.inl q)
    have hk1 : k.toNatClampNeg ≤ 100000 := Nat.not_lt.mp fun q => hk (Or.inr q)
    refine fun d q hv => VV.alloc 1 k.toNatClampNeg hM hv rfl rfl (fun _ _ _ s _ args _ _ _ H locs _ _ _ _ C _ _ hce hsl hH hs hlo _ kk => ?_)
    refine va_newaK (atype := .double) C.1 C.2.1 (C.hts _ hw) rfl hdg rfl hk0 rfl ?_ hce hsl hH.1 fun H1 cA e1 z1 o1 hAr hnmA => ?_
    · show _ * componentBytes .double ≤ _
      have : componentBytes .double ≤ 8 := by decide
      exact Nat.le_trans (Nat.mul_le_mul hk1 this) (by decide)
    · have hcA : cA = gZA Z 4 := Option.some.inj (hnmA.symm.trans (show s.vm.findClass ("[" ++ (.double : FieldType).toString) = some (gZA Z 4) from (C.va.2 4 _ rfl).2))
      subst hcA
      exact kk H1 (hH.new _ (by rw [z1, hH.1]) (fun q hq => o1 q (by rw [← hH.1]; exact hq)) ⟨by decide, by rw [hH.1]; exact e1⟩) (by rw [z1, hH.1]; omega)
  · cases h
theorem so_newqo (hM : T mi = (own, nm, cc, mx, rt, hh, S)) {index : Nat} (hw : Cond.classLink own index "java/lang/Object" ∈ lw_all) (hw2 : Cond.arrayOver (.object "java/lang/Object") ∈ lw_tbl) (hdg : decode cc pc = .ok (.anewarray index, 3)) : SO Z K T hd mi pc (o_newq 5 (pc + 3)) := by
  refine SO.of fun ls st G x h => ?_
  unfold o_newq at h
  split at h
  · split at h <;> cases h
    rename_i k r hk
    have hk0 : ¬ k < 0 := fun q => hk (Or.inl q)
    have hk1 : k.toNatClampNeg ≤ 100000 := Nat.not_lt.mp fun q => hk (Or.inr q)
    refine fun d q hv => VV.alloc 1 k.toNatClampNeg hM hv rfl rfl (fun _ _ _ s _ args _ _ _ H locs _ _ _ _ C _ _ hce hsl hH hs hlo _ kk => ?_)
    refine W.anew (C := "java/lang/Object") C.1 C.2.1 C.ow (C.hts _ hw) (va_AO.use (C.nw hw2 rfl)) rfl hdg rfl hk0 (by omega) hce hsl fun cA kA comp f1 f2 f3 f4 => ?_
    obtain ⟨kB, compB, g1, g2, g3, g4⟩ := (C.va.2 5 _ rfl).2
    have hcA : cA = gZA Z 5 := Option.some.inj (f1.symm.trans g4)
    subst hcA
    generalize hH1 : H.push ({ cls := gZA Z 5, slots := Array.replicate k.toNatClampNeg .null, vm := .none } : Cell) = H1
    have z1 : H1.size = H.size + 1 := by rw [← hH1, Array.size_push]
    have e1 : H1[H.size]? = some (arrV (gZA Z 5) k.toNatClampNeg (fun _ => .null)) := by rw [← hH1, Array.getElem?_push_size, ← arrV_new]
    have o1 : ∀ q : Nat, q < H.size → H1[q]? = H[q]? := fun q hq => by rw [← hH1, Array.getElem?_push, if_neg (Nat.ne_of_lt hq)]
    have := kk H1 (hH.new _ z1 o1 ⟨by decide, e1⟩) (by omega)
    rw [← hH.1] at this
    exact this
  · cases h
theorem so_newqh (hM : T mi = (own, nm, cc, mx, rt, hh, S)) {index : Nat} (hw : Cond.classLink own index "CuttingRoom$Hindrance" ∈ lw_all) (hw2 : Cond.arrayOver (.object "CuttingRoom$Hindrance") ∈ lw_tbl) (hdg : decode cc pc = .ok (.anewarray index, 3)) : SO Z K T hd mi pc (o_newq 6 (pc + 3)) := by
  refine SO.of fun ls st G x h => ?_
  unfold o_newq at h
  split at h
  · split at h <;> cases h
    rename_i k r hk
    have hk0 : ¬ k < 0 := fun q => hk (Or.inl q)
    have hk1 : k.toNatClampNeg ≤ 100000 := Nat.not_lt.mp fun q => hk (Or.inr q)
    refine fun d q hv => VV.alloc 1 k.toNatClampNeg hM hv rfl rfl (fun _ _ _ s _ args _ _ _ H locs _ _ _ _ C _ _ hce hsl hH hs hlo _ kk => ?_)
    refine W.anew (C := "CuttingRoom$Hindrance") C.1 C.2.1 C.ow (C.hts _ hw) (va_AO.use (C.nw hw2 rfl)) rfl hdg rfl hk0 (by omega) hce hsl fun cA kA comp f1 f2 f3 f4 => ?_
    obtain ⟨kB, compB, g1, g2, g3, g4⟩ := (C.va.2 6 _ rfl).2
    have hcA : cA = gZA Z 6 := Option.some.inj (f1.symm.trans g4)
    subst hcA
    generalize hH1 : H.push ({ cls := gZA Z 6, slots := Array.replicate k.toNatClampNeg .null, vm := .none } : Cell) = H1
    have z1 : H1.size = H.size + 1 := by rw [← hH1, Array.size_push]
    have e1 : H1[H.size]? = some (arrV (gZA Z 6) k.toNatClampNeg (fun _ => .null)) := by rw [← hH1, Array.getElem?_push_size, ← arrV_new]
    have o1 : ∀ q : Nat, q < H.size → H1[q]? = H[q]? := fun q hq => by rw [← hH1, Array.getElem?_push, if_neg (Nat.ne_of_lt hq)]
    have := kk H1 (hH.new _ z1 o1 ⟨by decide, e1⟩) (by omega)
    rw [← hH.1] at this
    exact this
  · cases h
theorem so_newqv (hM : T mi = (own, nm, cc, mx, rt, hh, S)) {index : Nat} (hw : Cond.classLink own index "CuttingRoom$Variant" ∈ lw_all) (hw2 : Cond.arrayOver (.object "CuttingRoom$Variant") ∈ lw_tbl) (hdg : decode cc pc = .ok (.anewarray index, 3)) : SO Z K T hd mi pc (o_newq 7 (pc + 3)) := by
  refine SO.of fun ls st G x h => ?_
  unfold o_newq at h
  split at h
  · split at h <;> cases h
    rename_i k r hk
    have hk0 : ¬ k < 0 := fun q => hk (Or.inl q)
    have hk1 : k.toNatClampNeg ≤ 100000 := Nat.not_lt.mp fun q => hk (Or.inr q)
    refine fun d q hv => VV.alloc 1 k.toNatClampNeg hM hv rfl rfl (fun _ _ _ s _ args _ _ _ H locs _ _ _ _ C _ _ hce hsl hH hs hlo _ kk => ?_)
    refine W.anew (C := "CuttingRoom$Variant") C.1 C.2.1 C.ow (C.hts _ hw) (va_AO.use (C.nw hw2 rfl)) rfl hdg rfl hk0 (by omega) hce hsl fun cA kA comp f1 f2 f3 f4 => ?_
    obtain ⟨kB, compB, g1, g2, g3, g4⟩ := (C.va.2 7 _ rfl).2
    have hcA : cA = gZA Z 7 := Option.some.inj (f1.symm.trans g4)
    subst hcA
    generalize hH1 : H.push ({ cls := gZA Z 7, slots := Array.replicate k.toNatClampNeg .null, vm := .none } : Cell) = H1
    have z1 : H1.size = H.size + 1 := by rw [← hH1, Array.size_push]
    have e1 : H1[H.size]? = some (arrV (gZA Z 7) k.toNatClampNeg (fun _ => .null)) := by rw [← hH1, Array.getElem?_push_size, ← arrV_new]
    have o1 : ∀ q : Nat, q < H.size → H1[q]? = H[q]? := fun q hq => by rw [← hH1, Array.getElem?_push, if_neg (Nat.ne_of_lt hq)]
    have := kk H1 (hH.new _ z1 o1 ⟨by decide, e1⟩) (by omega)
    rw [← hH.1] at this
    exact this
  · cases h
theorem gcastO {c : Nat} {q : vw_C} (h : gcl[c]? = some q) : Cond.castable q.1 "java/lang/Object" ∈ lw_tbl := by
  match c, h with
  | 0, h => cases h; exact q1835
  | 1, h => cases h; exact q1837
  | 2, h => cases h; exact q1838
  | 3, h => cases h; exact q1839
  | 4, h => cases h; exact q1846
  | 5, h => cases h; exact q1847
  | 6, h => cases h; exact q1834
  | 7, h => cases h; exact q1850
  | 8, h => cases h; exact q1852
  | 9, h => cases h; exact q1853
  | 10, h => cases h; exact q1854
  | 11, h => cases h; exact q1855
  | 12, h => cases h; exact q1836
  | c + 13, h => exact absurd (List.getElem?_eq_some_iff.mp h).1 (by simp)
theorem gcl_at {c : Nat} (h : c < 13) : ∃ q, gcl[c]? = some q := ⟨_, List.getElem?_eq_getElem (by simpa using h)⟩
/-- a reference stored whose class may stand there -/
theorem gw_aast {p : Program} {l : Launch} {e : Env} {R : Room} {s : State} {m : MethodId} {args : Array Value} {below : List Frame} {meth : Method} {c : Code} {H : Heap} {locs : List Loc} {cells slots : Nat} {Q : State → Prop} {cc : ByteArray} {pc a v t N : Nat} {arr : Array Slot} {rest : List Value} {f : Nat → Option Nat} {i : Int32} {E : String} {cv : Cell}
    (hexec : p.tables.exec = Jvm.exec) (hb : c.code = cc) (hK : va_K (gZD Z) gcl (gtys Z) s) (ht : (gtys Z)[t]? = some (gZA Z t, .object E)) (ha : H[a]? = some (vp_cell (gZA Z t) (N, .inr (.inr (.inr (.inr f)))))) (hin : ¬ (i < 0 ∨ N ≤ i.toNatClampNeg))
    (hv : H[v]? = some cv) (hcv : cv.vm = .none) (hkv : ∃ kv, s.vm.classes[cv.cls]? = some kv) (hasg : ∀ comp, s.vm.findClass E = some comp → s.vm.assignable cv.cls comp = true) (hdg : decode cc pc = .ok (.aastore, 1))
    (kk : ∀ (H1 : Heap) (j : Nat), H1[a]? = some (vp_cell (gZA Z t) (N, .inr (.inr (.inr (.inr (va_up f i.toNatClampNeg (some v))))))) → H1.size = H.size → (∀ q : Nat, q ≠ a → H1[q]? = H[q]?) → W p l e R s m args below meth c H1 (locs ++ [⟨a, j⟩]) cells slots Q (F0 m (pc + 1) arr rest)) : W p l e R s m args below meth c H locs cells slots Q (F0 m pc arr (.ref v :: .int i :: .ref a :: rest)) := by
  have hlt : i.toNatClampNeg < N := Nat.not_le.mp fun q => hin (Or.inr q)
  have h0 : ¬ i < 0 := fun q => hin (Or.inl q)
  obtain ⟨kA, comp, k1, k2, k3, -⟩ := (hK.2 t _ ht).2
  obtain ⟨kE, hkE, -⟩ := Vm.findClass_spec k3
  obtain ⟨kv, hkv⟩ := hkv
  refine W.aast hexec hb ha (fun q h => by cases h) (fun h => by cases h) k1 k2 rfl hkE ⟨h0, by show _ < (arrV _ _ _).slots.size; rw [arrV_size]; exact hlt⟩ hv (fun q h => by rw [hcv] at h; cases h) hkv (hasg comp k3) rfl rfl hdg fun H1 e z oq => ?_
  refine kk H1 _ ?_ z oq
  rw [e, vp_cell_q, vp_cell_q, arrV_store]
  congr 2
  funext q
  by_cases hq : q = i.toNatClampNeg
  · subst hq
    simp [updV, va_up, va_rf]
  · simp [updV, va_up, hq]
theorem gAt.cell {a c : Nat} {fs : List Value} {H : Heap} {q : vw_C} {s : State} (hK : va_K (gZD Z) gcl (gtys Z) s) (h : va_at (gZD Z) gcl (a, .inr (c, fs)) H) (hc : gcl[c]? = some q) : ∃ cv : Cell, H[a]? = some cv ∧ cv.vm = .none ∧ s.vm.findClass q.1 = some cv.cls ∧ ∃ kv, s.vm.classes[cv.cls]? = some kv := by
  obtain ⟨r, h1, cell, q1, q2, q3, -⟩ := h
  have hcls := (hK.1 c q hc).2
  obtain ⟨kC, hkC, -⟩ := hcls.2
  exact ⟨cell, q1, q3, by rw [q2]; exact hcls.1, kC, by rw [q2]; exact hkC⟩
/-- objects of any of our classes into an array of objects -/
theorem so_aasto (hM : T mi = (own, nm, cc, mx, rt, hh, S)) (hdg : decode cc pc = .ok (.aastore, 1)) : SO Z K T hd mi pc (o_aast 5 100 (pc + 1)) := by
  refine SO.of fun ls st G x h => ?_
  unfold o_aast at h
  split at h
  · split at h
    · split at h
      · split at h <;> cases h
        rename_i v i a r _ c' hcls hc _ G9 hv
        obtain ⟨N, f, h1, h2, rfl⟩ := g_qs_some hv
        obtain ⟨fs, hfs⟩ := g_cls_some hcls
        refine fun d q hv => VV.mem hM hv rfl (fun _ _ _ s _ args _ _ _ H locs _ _ _ _ C _ _ hH hs hlo _ kk => ?_)
        have hc13 : c' < 13 := by omega
        obtain ⟨q0, hq0⟩ := gcl_at hc13
        obtain ⟨cv, e1, e2, e3, e4⟩ := gAt.cell C.va (hH.obj hfs hc13) hq0
        refine gw_aast (t := 5) C.1 C.2.1 C.va rfl (hH.2.2.2 a _ h1).2.2 h2 e1 e2 e4 (fun comp hcomp => ?_) hdg (fun H1 j e z oq => kk H1 _ (hH.set h1 z oq ⟨by decide, e⟩) z (glocs hlo (hH.2.2.2 a _ h1).1))
        obtain ⟨c0, t1, f1, f2, f3⟩ := Cond.castable_spec (va_Nw.use (A := args) rfl (C.nw (gcastO hq0) rfl))
        cases e3.symm.trans f1
        cases hcomp.symm.trans f2
        exact f3
      · cases h
    · cases h
  · split at h <;> cases h
    rename_i i a r _ G9 hv
    obtain ⟨N, f, h1, h2, rfl⟩ := g_qs_some hv
    refine fun d q hv => VV.mem hM hv rfl (fun _ _ _ s _ args _ _ _ H locs _ _ _ _ C _ _ hH hs hlo _ kk => ?_)
    refine va_WaastN (C := "java/lang/Object") C.1 C.2.1 (hH.2.2.2 a _ h1).2.2 ((C.va.2 5 _ rfl).1 N (fun j => va_rf (f j))) (fun h => by cases h) (by show ¬ (i < 0 ∨ (arrV _ _ _).slots.size ≤ _); rw [arrV_size]; exact h2) rfl rfl hdg fun H1 e z oq => ?_
    refine kk H1 _ (hH.set h1 z oq ⟨by decide, ?_⟩) z (glocs hlo (hH.2.2.2 a _ h1).1)
    rw [e, vp_cell_q, vp_cell_q, arrV_store]
    congr 2
    funext q
    by_cases hq : q = i.toNatClampNeg
    · subst hq
      simp [updV, va_up, va_rf]
    · simp [updV, va_up, hq]
  · cases h
/-- variants into their array -/
theorem so_aastv (hM : T mi = (own, nm, cc, mx, rt, hh, S)) (hdg : decode cc pc = .ok (.aastore, 1)) : SO Z K T hd mi pc (o_aast 7 6 (pc + 1)) := by
  refine SO.of fun ls st G x h => ?_
  unfold o_aast at h
  split at h
  · split at h
    · split at h
      · split at h <;> cases h
        rename_i v i a r _ c' hcls hc _ G9 hv
        obtain ⟨N, f, h1, h2, rfl⟩ := g_qs_some hv
        obtain ⟨fs, hfs⟩ := g_cls_some hcls
        have hc6 : c' = 6 := by omega
        subst hc6
        refine fun d q hv => VV.mem hM hv rfl (fun _ _ _ s _ args _ _ _ H locs _ _ _ _ C _ _ hH hs hlo _ kk => ?_)
        obtain ⟨cv, e1, e2, e3, e4⟩ := gAt.cell C.va (hH.obj hfs (by decide)) (q := (RX7, TX7, 3)) rfl
        refine gw_aast (t := 7) C.1 C.2.1 C.va rfl (hH.2.2.2 a _ h1).2.2 h2 e1 e2 e4 (fun comp hcomp => ?_) hdg (fun H1 j e z oq => kk H1 _ (hH.set h1 z oq ⟨by decide, e⟩) z (glocs hlo (hH.2.2.2 a _ h1).1))
        cases hcomp.symm.trans e3
        have hAt := (C.va.1 6 (RX7, TX7, 3) rfl).2
        have he : (gZD Z).1 6 = cv.cls := Option.some.inj (hAt.1.symm.trans e3)
        rw [he] at hAt
        exact va_assign hAt
      · cases h
    · cases h
  · split at h <;> cases h
    rename_i i a r _ G9 hv
    obtain ⟨N, f, h1, h2, rfl⟩ := g_qs_some hv
    refine fun d q hv => VV.mem hM hv rfl (fun _ _ _ s _ args _ _ _ H locs _ _ _ _ C _ _ hH hs hlo _ kk => ?_)
    refine va_WaastN (C := "CuttingRoom$Variant") C.1 C.2.1 (hH.2.2.2 a _ h1).2.2 ((C.va.2 7 _ rfl).1 N (fun j => va_rf (f j))) (fun h => by cases h) (by show ¬ (i < 0 ∨ (arrV _ _ _).slots.size ≤ _); rw [arrV_size]; exact h2) rfl rfl hdg fun H1 e z oq => ?_
    refine kk H1 _ (hH.set h1 z oq ⟨by decide, ?_⟩) z (glocs hlo (hH.2.2.2 a _ h1).1)
    rw [e, vp_cell_q, vp_cell_q, arrV_store]
    congr 2
    funext q
    by_cases hq : q = i.toNatClampNeg
    · subst hq
      simp [updV, va_up, va_rf]
    · simp [updV, va_up, hq]
  · cases h
theorem so_acast (hM : T mi = (own, nm, cc, mx, rt, hh, S)) {index : Nat} (hw : Cond.classLink own index "[Ljava/lang/Object;" ∈ lw_all) (hdg : decode cc pc = .ok (.checkcast index, 3)) : SO Z K T hd mi pc (o_acast 5 (pc + 3)) := by
  refine SO.of fun ls st G x h => ?_
  unfold o_acast at h
  split at h
  · split at h
    · split at h <;> cases h
      rename_i a r _ t x9 h1 h2
      subst h2
      refine fun d q hv => VV.same hM hv (fun _ _ _ s _ args _ _ _ H locs _ _ _ _ C _ _ hH hs hlo hl kk => ?_)
      exact va_castA C.1 C.2.1 C.ow (C.hts _ hw) (hH.arr h1) 0 rfl (va_nmO (C.va.2 5 _ rfl).2 rfl) hdg (kk _ hl)
    · cases h
  · cases h
theorem so_switch (hM : T mi = (own, nm, cc, mx, rt, hh, S)) {dflt hi : Int} {offs : Array Int} {len : Nat} {tg : List Nat} {d0 : Nat} (hhi : hi = (tg.length : Int) - 1) (hlen : tg.length ≤ 1000) (hdf : (pc : Int) + dflt = (d0 : Int)) (ho : ∀ k, k < tg.length → ∃ off, offs[k]? = some off ∧ (pc : Int) + off = ((tg.getD k d0 : Nat) : Int)) (hdg : decode cc pc = .ok (.tableswitch dflt 0 hi offs, len)) : SO Z K T hd mi pc (o_switch tg d0) := by
  refine SO.of fun ls st G x h => ?_
  unfold o_switch at h
  split at h <;> cases h
  rename_i y r
  refine fun d q hv => VV.same hM hv (fun _ _ _ s _ args _ _ _ H locs _ _ _ _ C _ _ hH hs hlo hl kk => ?_)
  have k := kk _ hl
  by_cases h0 : y < 0
  · rw [if_pos h0] at k
    exact lv_tableOut C.1 C.2.1 hdg (Or.inl (by simpa using Int32.lt_iff_toInt_lt.mp h0)) hdf k
  · rw [if_neg h0] at k
    have hy0 : (0 : Int) ≤ y.toInt := by simpa using Int32.le_iff_toInt_le.mp (Int32.not_lt.mp h0)
    have hy : y.toInt = (y.toNatClampNeg : Int) := by
      show y.toInt = ((y.toInt.toNat : Nat) : Int)
      omega
    by_cases h1 : y.toNatClampNeg < tg.length
    · obtain ⟨off, e1, e2⟩ := ho _ h1
      exact lv_tableIn C.1 C.2.1 hdg (by omega) (by omega) (by rw [show (y.toInt - 0).toNat = y.toNatClampNeg by omega]; exact e1) e2 k
    · rw [List.getD_eq_getElem?_getD, List.getElem?_eq_none (by omega)] at k
      exact lv_tableOut C.1 C.2.1 hdg (Or.inr (by omega)) hdf k
end
