/-! SOUNDNESS 7: grids, arraycopy, getClass, throws -/
set_option maxRecDepth 100000
section
variable {Z : gZ} {K : gK} {T : Nat → gMd} {hd : Nat → Nat → Nat → Option (Option Int32)} {mi pc : Nat} {own nm : String} {cc : ByteArray} {mx : Nat} {rt : Option FieldType} {hh : List (Nat × Nat × Nat × Nat)} {S : Nat → Bool}
theorem gnwA {t : FieldType} : gnwKind (.arrayOver (.array t)) = true := rfl
theorem gAO_use {t : FieldType} {A : Array Value} {U : State} (h : va_Nw (.arrayOver (.array t)) U) : (Cond.arrayOver (.array t)).before A U = true := by
  unfold va_Nw Cond.before Cond.holds at h
  unfold Cond.before Cond.holds
  simp only [Cond.value] at h ⊢
  exact h
theorem gouter (cA : ClassId) (N h0 : Nat) : ∀ i, i ≤ N → Jvm.Free.Multi.outerC cA N h0 i = vp_cell cA (N, gQ (fun j => if j < i then some (h0 + 1 + j) else none))
  | 0, _ => by
    show ({ cls := cA, slots := Array.replicate N .null, vm := .none } : Cell) = _
    rw [arrV_new, vp_cell_q]
    rfl
  | i + 1, h => by
    show (Jvm.Free.Multi.outerC cA N h0 i).setSlot i (.ref (h0 + 1 + i)) = _
    rw [gouter cA N h0 i (by omega), vp_cell_q, vp_cell_q, arrV_store]
    congr 1
    funext j
    by_cases hj : j = i
    · subst hj
      simp [updV, va_rf]
    · simp only [updV, if_neg hj]
      by_cases h1 : j < i
      · rw [if_pos h1, if_pos (by omega)]
      · rw [if_neg h1, if_neg (by omega)]
theorem g_rows_next (t k : Nat) : ∀ (m : Nat) (G : gH), (g_rows t k m G).2.1 = G.2.1 + m ∧ (g_rows t k m G).2.2 = G.2.2 + m * k
  | 0, G => ⟨rfl, by simp [g_rows]⟩
  | m + 1, G => by
    obtain ⟨h1, h2⟩ := g_rows_next t k m G
    refine ⟨?_, ?_⟩
    · show (g_rows t k m G).2.1 + 1 = _
      rw [h1]; omega
    · show (g_rows t k m G).2.2 + k = _
      rw [h2, Nat.succ_mul]; omega
theorem g_rows_mem (t k : Nat) : ∀ (m : Nat) (G : gH) (a : Nat), (g_rows t k m G).1 a = if G.2.1 ≤ a ∧ a < G.2.1 + m then some (.inl (t, k, .inl (fun _ => 0))) else G.1 a
  | 0, G, a => by
    rw [if_neg (by omega)]
    rfl
  | m + 1, G, a => by
    show (if a = (g_rows t k m G).2.1 then _ else (g_rows t k m G).1 a) = _
    rw [(g_rows_next t k m G).1, g_rows_mem t k m G a]
    by_cases h : a = G.2.1 + m
    · rw [if_pos h, if_pos (by omega)]
    · rw [if_neg h]
      by_cases h2 : G.2.1 ≤ a ∧ a < G.2.1 + m
      · rw [if_pos h2, if_pos (by omega)]
      · rw [if_neg h2, if_neg (by omega)]
/-- a heap that grew by cells that lie as the ghost says -/
theorem HW.grow {G G' : gH} {H H1 : Heap} (h : HW Z G H) (z : H1.size = G'.2.1) (hle : H.size ≤ H1.size) (oq : ∀ q : Nat, q < H.size → H1[q]? = H[q]?) (hm : ∀ a, a < G.2.1 → G'.1 a = G.1 a) (hn : ∀ a e, G.2.1 ≤ a → G'.1 a = some e → gAt Z a e H1) : HW Z G' H1 := by
  obtain ⟨h1, h2, h3, h4⟩ := h
  refine ⟨z, by omega, fun q hq => ?_, fun b e' hb' => ?_⟩
  · rw [oq q (by omega)]
    exact h3 q hq
  · by_cases hab : b < G.2.1
    · rw [hm b hab] at hb'
      have q := (h4 b e' hb').2
      exact ⟨(h4 b e' hb').1, q.kept (oq b q.lt)⟩
    · exact ⟨by omega, hn b e' (by omega) hb'⟩
theorem so_multi (hM : T mi = (own, nm, cc, mx, rt, hh, S)) {index tq t m k : Nat} {ty : FieldType} (htq : (gtys Z)[tq]? = some (gZA Z tq, .array ty)) (ht : (gtys Z)[t]? = some (gZA Z t, ty)) (htq10 : tq < 10) (ht10 : t < 10) (hdv : defaultValue ty = .int 0) (hcb : componentBytes ty ≤ 8) (hfd : fits ty (defaultValue ty) = true) (hty : ∀ (s : State), va_RA s (gZA Z t) ty → s.vm.findClass ("[" ++ ty.toString) = some (gZA Z t)) (hst : (FieldType.array ty).toString = "[" ++ ty.toString) (hm : m ≤ 1000) (hk : k ≤ 1000)
    (hw : Cond.classLink own index ("[" ++ (FieldType.array ty).toString) ∈ lw_all) (hw2 : Cond.arrayOver (.array ty) ∈ lw_tbl) (hw3 : Cond.arrayClass ty ∈ lw_all) (hdg : decode cc pc = .ok (.multianewarray index 2, 4)) : SO Z K T hd mi pc (o_multi tq t m k (pc + 4)) := by
  refine SO.of fun ls st G x h => ?_
  unfold o_multi at h
  split at h
  · split at h <;> cases h
    rename_i k' m' r hkm
    obtain ⟨rfl, rfl⟩ := hkm
    have c1 : (nI m).toNatClampNeg = m := nI_clamp (by omega)
    have c2 : (nI k).toNatClampNeg = k := nI_clamp (by omega)
    generalize hG' : g_rows t k m (gnew G (.inl (tq, m, gQ (fun j => if j < m then some (G.2.1 + 1 + j) else none))) m) = G'
    have n1 : G'.2.1 = G.2.1 + (1 + m) := by rw [← hG', (g_rows_next _ _ _ _).1]; simp only [gnew]; omega
    have n2 : G'.2.2 = G.2.2 + (m + m * k) := by rw [← hG', (g_rows_next _ _ _ _).2]; simp only [gnew]; omega
    refine fun d q hv => VV.alloc (1 + m) (m + m * k) hM hv n1 n2 (fun _ _ _ s m0 args _ _ _ H locs cells slots arr _ C _ _ hce hsl hH hs hlo _ kk => ?_)
    intro T0 hT X
    obtain ⟨vm₁, cA, comp, hW, hfA, hfC, hO, hI, X1, step⟩ := X.multianewarray2F C.1 (ty := ty) (g := F0 m0 pc arr (.int (nI k) :: .int (nI m) :: r)) C.ow (C.hts _ hw) (gAO_use (C.nw hw2 gnwA)) (C.hts _ hw3) rfl (by rw [C.2.1]; exact hdg) (n := nI m) (k := nI k) (rest := r) rfl
      (nI_pos (by omega)) (nI_pos (by omega)) (by rw [c1]; omega) (by rw [c2]; exact Nat.le_trans (Nat.mul_le_mul hk hcb) (by decide)) (by rw [c2]; omega) hfd (by rw [hdv]; rfl) (by rw [c1]; exact hce) (by rw [c1, c2]; exact hsl)
    rw [c1, c2] at X1 step
    have hcA : cA = gZA Z tq := Option.some.inj (hfA.symm.trans (C.va.2 tq _ htq).2)
    have hcC : comp = gZA Z t := Option.some.inj (hfC.symm.trans (by rw [hst]; exact hty s (C.va.2 t _ ht).2))
    subst hcA
    subst hcC
    generalize hF : Jvm.Free.Multi.fill (T0.setVm vm₁) (gZA Z tq) (gZA Z t) m k (defaultValue ty) m = F at X1 step
    obtain ⟨f1, f2, f3, f4⟩ := Jvm.Free.Multi.fill_facts (T0.setVm vm₁) (gZA Z tq) (gZA Z t) m k (defaultValue ty) m
    rw [hF] at f1 f2
    have hT1 : (T0.setVm vm₁).heap = H := hT
    rw [hT1] at f1 f2
    have hHs := hH.1
    have hHW : HW Z G' F.heap := by
      refine hH.grow (by rw [f1, n1, hHs]; omega) (by omega) (fun q hq => ?_) (fun a ha => ?_) (fun a e ha he => ?_)
      · rw [← hF, Jvm.Free.Multi.fill_old (T0.setVm vm₁) _ _ _ _ _ (by rw [hT1]; exact hq), hT1]
      · rw [← hG', g_rows_mem, if_neg (by simp only [gnew]; omega)]
        simp only [gnew, if_neg (Nat.ne_of_lt ha)]
      · rw [← hG', g_rows_mem] at he
        split at he
        · rename_i hr
          cases he
          simp only [gnew] at hr
          refine ⟨ht10, ?_⟩
          have := Jvm.Free.Multi.fill_inner (T0.setVm vm₁) (gZA Z tq) (gZA Z t) m k (defaultValue ty) m (a - G.2.1 - 1) (by omega)
          rw [hF, hT1, hHs, show G.2.1 + 1 + (a - G.2.1 - 1) = a by omega] at this
          rw [this, vp_cell_i, ← arrV_new, hdv]
          rfl
        · rename_i hr
          simp only [gnew] at hr he
          split at he
          · rename_i ha2
            cases he
            subst ha2
            refine ⟨htq10, ?_⟩
            rw [← hHs, f2, gouter _ _ _ _ (Nat.le_refl _)]
          · rename_i ha2
            exfalso
            have := (hH.2.2.2 a e he).2.lt
            omega
    obtain ⟨t9, a9, b9⟩ := kk F.heap hHW (by omega) F rfl (by
      have e1 : cells + 1 + m = cells + (1 + m) := by omega
      have e2 : slots + m + m * k = slots + (m + m * k) := by omega
      rw [e1, e2] at X1
      exact X1)
    refine ⟨t9, step t9 ?_, b9⟩
    rw [show T0.heap.size = G.2.1 by rw [hT]; exact hHs]
    exact a9
  · cases h
theorem so_copy (hM : T mi = (own, nm, cc, mx, rt, hh, S)) {index : Nat} (hw : Cond.methodLink own index arraycopyName ∈ lw_all) (hw2 : Cond.native arraycopyName ∈ lw_all) (hw3 : Cond.static arraycopyName ∈ lw_all) (hw4 : Cond.initialized "java/lang/System" ∈ lw_all) (hdg : decode cc pc = .ok (.invokestatic index, 3)) : SO Z K T hd mi pc (o_copy (pc + 3)) := by
  refine SO.of fun ls st G x h => ?_
  unfold o_copy at h
  split at h
  · split at h
    · split at h <;> cases h
      rename_i n dp a sp a0 r _ _ t0 n0 f t1 n1 g ha0 ha1 hcond
      obtain ⟨rfl, rfl, h1, h2, h3, h4, h5, h6, h7⟩ := hcond
      refine fun d q hv => VV.mem hM hv rfl (fun p e R s m args below meth c H locs cells slots arr Q C hfr hlr hH hs hlo hsz kk => ?_)
      have nn : ∀ z : Int32, ¬ z < 0 → z.toInt = (z.toNatClampNeg : Int) := by
        intro z hz
        have hz0 : (0 : Int) ≤ z.toInt := by
          have := Int32.not_lt.mp hz
          simpa using Int32.le_iff_toInt_le.mp this
        show z.toInt = ((z.toInt.toNat : Nat) : Int)
        omega
      have hc0 := (hH.2.2.2 _ _ ha0).2.2
      have hc1 := (hH.2.2.2 _ _ ha1).2.2
      obtain ⟨-, k1, hk1, cm1, hkk1⟩ := (C.va.2 5 _ rfl).1 n1 (fun j => va_rf (g j))
      intro T0 hT X
      obtain ⟨vm', X', step⟩ := X.arraycopy C.1 C.ow (C.hts _ hw) (C.hts _ hw2) (C.hts _ hw3) (C.hts _ hw4) (src := a0) (dst := a) (cs := vp_cell (gZA Z 5) (n0, .inr (.inr (.inr (.inr f))))) (cd := vp_cell (gZA Z 5) (n1, .inr (.inr (.inr (.inr g))))) (srcPos := sp) (destPos := dp) (n := n) (by rw [hT]; exact hc0) (by rw [hT]; exact hc1)
        (fun _ h => by cases h) (fun _ h => by cases h) (fun h => by cases h) (fun h => by cases h) hk1 hk1 hkk1 hkk1 rfl h1 h2 h3
        (by rw [nn sp h1, nn n h3]; show ¬ _ > ((arrV (gZA Z 5) n0 (fun j => va_rf (f j))).slots.size : Int); rw [arrV_size]; omega)
        (by rw [nn dp h2, nn n h3]; show ¬ _ > ((arrV (gZA Z 5) n1 (fun j => va_rf (g j))).slots.size : Int); rw [arrV_size]; omega)
        (fun vm₁ hal i hi => by
          have e : (vp_cell (gZA Z 5) (n0, .inr (.inr (.inr (.inr f))))).slots.getD (sp.toNatClampNeg + i) .null = va_rf (f (sp.toNatClampNeg + i)) := by
            show (arrV (gZA Z 5) n0 (fun j => va_rf (f j))).slots.getD _ _ = _
            rw [Array.getD_eq_getD_getElem?, arrV_read _ _ (by omega)]
            rfl
          rw [e]
          have h8 := List.all_eq_true.mp h7 i (List.mem_range.mpr hi)
          cases hy : f (sp.toNatClampNeg + i) with
          | none => exact ⟨rfl, trivial⟩
          | some y =>
            rw [hy] at h8
            dsimp only at h8
            obtain ⟨c9, hcl, hc13⟩ : ∃ c9, g_cls G y = some c9 ∧ c9 < 13 := by
              cases hcl : g_cls G y with
              | none => rw [hcl] at h8; cases h8
              | some c9 =>
                rw [hcl] at h8
                exact ⟨c9, rfl, of_decide_eq_true h8⟩
            obtain ⟨fs, hfs⟩ := g_cls_some hcl
            obtain ⟨q0, hq0⟩ := gcl_at hc13
            obtain ⟨cellV, g1, g2, g3, kC, hkC⟩ := gAt.cell C.va (hH.obj hfs hc13) hq0
            obtain ⟨kA, comp, r1, r2, r3, -⟩ := (C.va.2 5 _ rfl).2
            cases hk1.symm.trans r1
            cases hkk1.symm.trans r2
            obtain ⟨kE, hkE, -⟩ := Vm.findClass_spec r3
            obtain ⟨kC', hkC', -⟩ := hal.2.2 _ _ hkC
            obtain ⟨kE', hkE', -⟩ := hal.2.2 _ _ hkE
            refine ⟨rfl, cellV, (show T0.heap[y]? = some cellV by rw [hT]; exact g1), (fun q h => by rw [h] at g2; cases g2), ⟨kC', hkC'⟩, ?_, ?_⟩
            · exact ⟨kE', hkE'⟩
            · show vm₁.assignable _ _ = true
              rw [hal.assignable]
              obtain ⟨c0, t1, f1, f2, f3⟩ := Cond.castable_spec (va_Nw.use (A := args) rfl (C.nw (gcastO hq0) rfl))
              cases g3.symm.trans f1
              cases r3.symm.trans f2
              exact f3)
        (g := F0 m pc arr (.int n :: .int dp :: .ref a :: .int sp :: .ref a0 :: r)) rfl (by show arr.size = _; rw [C.2.2.2.1]; exact hsz) (rest := r) rfl (by rw [C.2.1]; exact hdg) (by unfold FR at hfr; omega) (by
          unfold LR at hlr
          have hw : nativeFrameWords "java/lang/System" "arraycopy" 5 ≤ 100 := by decide
          show 2 * 0 + _ + _ ≤ _
          have : (r.map fun v => v.category).sum ≤ 8 := h6
          omega)
      have e1 : copied (vp_cell (gZA Z 5) (n0, .inr (.inr (.inr (.inr f))))) (vp_cell (gZA Z 5) (n1, .inr (.inr (.inr (.inr g))))) sp dp n = vp_cell (gZA Z 5) (n1, .inr (.inr (.inr (.inr (va_cpy f g sp.toNatClampNeg dp.toNatClampNeg n.toNatClampNeg))))) := by
        rw [vp_cell_q, vp_cell_q, vp_cell_q]
        exact va_copied (fun z => va_rf z) (gZA Z 5) (gZA Z 5) f g h4
      rw [e1] at X' step
      have hl : a < H.size := (Array.getElem?_eq_some_iff.mp hc1).1
      have hheap : ((T0.setVm vm').setCell a (vp_cell (gZA Z 5) (n1, .inr (.inr (.inr (.inr (va_cpy f g sp.toNatClampNeg dp.toNatClampNeg n.toNatClampNeg))))))).heap = H.setIfInBounds a (vp_cell (gZA Z 5) (n1, .inr (.inr (.inr (.inr (va_cpy f g sp.toNatClampNeg dp.toNatClampNeg n.toNatClampNeg)))))) := by rw [← hT]; rfl
      have oq : ∀ q : Nat, q ≠ a → (H.setIfInBounds a (vp_cell (gZA Z 5) (n1, .inr (.inr (.inr (.inr (va_cpy f g sp.toNatClampNeg dp.toNatClampNeg n.toNatClampNeg)))))))[q]? = H[q]? := fun q hq => by simp [Array.getElem?_setIfInBounds, Ne.symm hq]
      have hz : (H.setIfInBounds a (vp_cell (gZA Z 5) (n1, .inr (.inr (.inr (.inr (va_cpy f g sp.toNatClampNeg dp.toNatClampNeg n.toNatClampNeg))))))).size = H.size := by simp
      have hba := (hH.2.2.2 a _ ha1).1
      obtain ⟨t, a1, b1⟩ := kk _ _ (hH.set ha1 hz oq ⟨by decide, (show (H.setIfInBounds a _)[a]? = some _ by simp [Array.getElem?_setIfInBounds, hl])⟩) hz (fun z hq => by
        rcases List.mem_append.mp hq with h | h
        · exact hlo z h
        · obtain ⟨w, -, hw⟩ := List.mem_map.mp h
          rw [← hw]
          exact hba) _ hheap X'
      exact ⟨t, step t a1, b1⟩
    · cases h
  · cases h
theorem so_ldcM (hM : T mi = (own, nm, cc, mx, rt, hh, S)) {index : Nat} (hw : Cond.classLink own index "[Ljava/lang/Object;" ∈ lw_all) (hdg : decode cc pc = .ok (.ldc index, 2)) : SO Z K T hd mi pc (o_push (.ref (K.2 6)) (pc + 2)) := by
  refine SO.of fun ls st G x h => ?_
  cases h
  refine fun d q hv => VV.same hM hv (fun _ _ _ s _ args _ _ _ H locs _ _ _ _ C _ _ hH hs hlo hl kk => ?_)
  obtain ⟨-, -, -, -, -, -, -, -, -, -, k11, -⟩ := C.kn
  exact va_ldcM C.1 C.2.1 C.ow (C.hts _ hw) k11 hdg (kk _ hl)
end
