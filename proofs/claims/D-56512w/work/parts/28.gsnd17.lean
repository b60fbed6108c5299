/-! SOUNDNESS 17: lambdas made, stored -/
set_option maxRecDepth 100000
section
theorem li19 {α : Type} {x : Option CpInfo} {f : Nat → Nat → Option α} {r : α} (h : Lambda.shapeOf?.match_19 (fun _ => Option α) x f (fun _ => none) = some r) : ∃ b nt, x = some (.invokeDynamic b nt) ∧ f b nt = some r := by
  split at h
  · exact ⟨_, _, rfl, h⟩
  · cases h
theorem li17 {α : Type} {x : Option CpInfo} {f : Nat → Option α} {r : α} (h : Lambda.shapeOf?.match_17 (fun _ => Option α) x f (fun _ => none) = some r) : ∃ y, f y = some r := by
  split at h
  · exact ⟨_, h⟩
  · cases h
theorem li15 {α : Type} {x : Array Nat} {f : Nat → Nat → Nat → Option α} {r : α} (h : Lambda.shapeOf?.match_15 (fun _ => Option α) x f (fun _ => none) = some r) : ∃ a0 a1 a2, f a0 a1 a2 = some r := by
  rcases x with ⟨L⟩
  match L, h with
  | [], h => cases h
  | [_], h => cases h
  | [_, _], h => cases h
  | [a, b, c], h => exact ⟨a, b, c, h⟩
  | _ :: _ :: _ :: _ :: _, h => cases h
theorem li9 {α : Type} {x : Option CpInfo} {f : Nat → Option α} {r : α} (h : Lambda.shapeOf?.match_9 (fun _ => Option α) x f (fun _ => none) = some r) : ∃ y, f y = some r := by
  split at h
  · exact ⟨_, h⟩
  · cases h
theorem li12 {α : Type} {x : Option CpInfo} {f : Nat → Nat → Option α} {r : α} (h : Lambda.shapeOf?.match_12 (fun _ => Option α) x f (fun _ => none) = some r) : ∃ y z, f y z = some r := by
  split at h
  · exact ⟨_, _, h⟩
  · cases h
theorem li6 {α : Type} {x : Option FieldType} {f : String → Option α} {r : α} (h : Lambda.shapeOf?.match_6 (fun _ => Option α) x f (fun _ => none) = some r) : ∃ y, f y = some r := by
  split at h
  · exact ⟨_, h⟩
  · cases h
theorem lsite {cf : ClassFile} {index : Nat} {σ : Lambda.Shape} (h : Lambda.shapeOf? cf index = some σ) :
    ∃ (b nt : Nat) (desc : String) (site : MethodDescriptor), cf.constantPool[index]? = some (.invokeDynamic b nt) ∧ cf.constantPool.nameAndType? nt = some (σ.name, desc) ∧ parseMethodDescriptor desc = some site ∧ site.parameters = σ.captured := by
  unfold Lambda.shapeOf? at h
  obtain ⟨b, nt, hc, h⟩ := li19 h
  obtain ⟨entries, -, h⟩ := Option.bind_eq_some_iff.mp h
  obtain ⟨bm, -, h⟩ := Option.bind_eq_some_iff.mp h
  obtain ⟨r, h⟩ := li17 h
  obtain ⟨_, -, h⟩ := Option.bind_eq_some_iff.mp h
  obtain ⟨a0, a1, a2, h⟩ := li15 h
  obtain ⟨d0, h⟩ := li9 h
  obtain ⟨kind, r1, h⟩ := li12 h
  obtain ⟨d2, h⟩ := li9 h
  obtain ⟨⟨name, desc⟩, hnt, h⟩ := Option.bind_eq_some_iff.mp h
  obtain ⟨site, hsite, h⟩ := Option.bind_eq_some_iff.mp h
  obtain ⟨iface, h⟩ := li6 h
  obtain ⟨⟨implClass, implName, implDesc, implItf⟩, -, h⟩ := Option.bind_eq_some_iff.mp h
  obtain ⟨x1, -, h⟩ := Option.bind_eq_some_iff.mp h
  obtain ⟨x2, -, h⟩ := Option.bind_eq_some_iff.mp h
  obtain ⟨x3, -, h⟩ := Option.bind_eq_some_iff.mp h
  obtain ⟨x4, -, h⟩ := Option.bind_eq_some_iff.mp h
  obtain ⟨x5, -, h⟩ := Option.bind_eq_some_iff.mp h
  cases h
  exact ⟨b, nt, desc, site, hc, hnt, hsite, rfl⟩
end
section
variable {Z : gZ} {K : gK} {T : Nat → gMd} {hd : Nat → Nat → Nat → Option (Option Int32)} {mi pc : Nat} {own nm : String} {cc : ByteArray} {mx : Nat} {rt : Option FieldType} {hh : List (Nat × Nat × Nat × Nat)} {S : Nat → Bool}
/-- a lambda that captures this -/
theorem so_indy (hM : T mi = ("CuttingRoom", "<init>", cc, mx, rt, hh, S)) {j : Nat} (hj : j < 5) (hpc : pc = gpcL j) (hdg : decode cc pc = .ok (.invokedynamic (gixL j), 5)) : SO Z K T hd mi pc (o_indy j (pc + 5)) := by
  refine SO.of fun ls st G x h => ?_
  unfold o_indy at h
  split at h
  · split at h <;> cases h
    rename_i th r hw
    refine fun d q hv => VV.alloc 1 1 hM hv rfl rfl (fun p e R s m args below meth c H locs cells slots arr Q C h1 h2 hce hsl hH hs hlo hsz kk => ?_)
    obtain ⟨-, -, -, -, -, -, -, -, -, -, -, -, -, hk2, -, hO, -⟩ := id C.kn
    obtain ⟨m0, k0, kc0, cf0, i0, p0, l0, n1, n2, n3, n4, n5, n6, n7, n8, rfl⟩ := hk2 j hj
    have hm0 := C.2.2.2.2.2.2.2.1.2 rfl rfl
    cases hm0.symm.trans n1
    obtain ⟨kx, hkx, hnx⟩ := className_of_methodNamed n1
    cases n2.symm.trans hkx
    obtain ⟨k, tk, file, methk, ck, toy, t, f0, hk, hkn, hfile, hpool, hmk, hck, hbytes, hml, hlk, hfl, hretk, hex, htoy, htk, hitf, hlook, hready, hclsR, hfR, hfs, hfslot, hty, hkind⟩ := l_madeB (gsg_b j hj) n2 hnx n7 hO
    obtain ⟨bsm, nt, desc, site, g1, g2, g3, g4⟩ := lsite n5
    have hcap : (gsg j).captured = [.object "CuttingRoom"] := by
      have : ∀ σ ∈ lbs, σ.captured = [.object "CuttingRoom"] := by decide
      exact this _ (gsg_b j hj)
    intro T0 hT X
    have hslotsE : ((k.instanceTypes.toList.zip [Value.ref th]).map fun (t, v) => narrow t v) = [Value.ref th] := by
      rw [hty]
      simp [narrow]
    subst hpc
    unfold LR at h2
    have hw9 : (r.map fun v => v.category).sum ≤ 8 := hw
    obtain ⟨X₁, st1⟩ := X.lambdaMakes C.1 (g := F0 m (gpcL j) arr (.ref th :: r)) rfl (hsz.trans C.2.2.2.1.symm) (by rw [C.2.1]; exact hdg) (vals := [.ref th]) (rest := r) n2 n6 n4 g1 g2 (parseLong_of_parse g3) (by rw [g4, hcap]; rfl) rfl hk
      (by rw [X.admits.platform]; show 2 * 0 + (1 + (r.map fun v => v.category).sum) + 3072 ≤ R.locals; omega) hce (by rw [hslotsE]; exact hsl)
      (fun i v hv => by
        rw [hslotsE] at hv
        match i, hv with
        | 0, hv => simp at hv; subst hv; simp [State.fitsSlot, State.slotType?, hk, hkind, hty, fits, Value.isRef]
        | i + 1, hv => simp at hv)
    rw [hslotsE] at X₁ st1
    have hnew := State.heap_pushCell_size T0 ({ cls := gZL Z j, slots := [Value.ref th].toArray, vm := .none } : Cell)
    have hold : ∀ q : Nat, q < T0.heap.size → (T0.pushCell ({ cls := gZL Z j, slots := [Value.ref th].toArray, vm := .none } : Cell)).heap[q]? = T0.heap[q]? := fun q hq => by simp [State.pushCell, Array.getElem?_push, Nat.ne_of_lt hq]
    have hz : (T0.pushCell ({ cls := gZL Z j, slots := [Value.ref th].toArray, vm := .none } : Cell)).heap.size = T0.heap.size + 1 := by simp [State.pushCell]
    generalize T0.pushCell ({ cls := gZL Z j, slots := [Value.ref th].toArray, vm := .none } : Cell) = T1 at X₁ st1 hnew hold hz
    rw [hT] at hnew hold hz st1
    obtain ⟨t9, a9, b9⟩ := kk T1.heap (hH.new 1 hz hold (by
      unfold gAt
      dsimp only
      rw [if_neg (by omega), show 100 + j - 100 = j by omega]
      exact hnew)) (by omega) T1 rfl X₁
    refine ⟨t9, st1 _ ?_, b9⟩
    rw [hH.1]
    exact a9
  · cases h
/-- a lambda that captures nothing: the site's object -/
theorem so_pushL (hM : T mi = ("CuttingRoom", "<init>", cc, mx, rt, hh, S)) {j : Nat} (hj : j < 2) (hpc : pc = gpcL (5 + j)) {index : Nat} (hdg : decode cc pc = .ok (.invokedynamic index, 5)) : SO Z K T hd mi pc (o_pushL (.ref (K.2 (4 + j))) (pc + 5)) := by
  refine SO.of fun ls st G x h => ?_
  unfold o_pushL at h
  split at h <;> cases h
  rename_i hw
  refine fun d q hv => VV.same hM hv (fun p e R s m args below meth c H locs cells slots arr Q C h1 h2 hH hs hlo hl kk => ?_)
  obtain ⟨-, -, -, -, -, -, -, -, -, -, -, -, -, -, hk3, hO, -⟩ := id C.kn
  obtain ⟨⟨m0, k0, kc0, cf0, i0, p0, l0, n1, n2, n3, n4, n5, n6, n7, n8, rfl⟩, -⟩ := hk3 j hj
  have hm0 := C.2.2.2.2.2.2.2.1.2 rfl rfl
  cases hm0.symm.trans n1
  intro T0 hT X
  subst hpc
  obtain ⟨t9, a9, b9⟩ := kk arr hl T0 hT X
  unfold LR at h2
  have hw9 : (st.map fun v => v.category).sum ≤ 8 := hw
  refine ⟨t9, X.lambdaConstant C.1 (g := F0 m (gpcL (5 + j)) arr st) rfl (hl.1.trans C.2.2.2.1.symm) (by rw [C.2.1]; exact hdg) n2 n6 (by rw [X.admits.platform]; show 2 * 0 + (st.map fun v => v.category).sum + 3072 ≤ R.locals; omega) a9, b9⟩
theorem gsg_iface (j : Nat) (h : j < 7) : (gsg j).iface = "CuttingRoom$Hindrance" := (l_flags _ (gsg_mem j h)).2.2.2.1
theorem gSite.asg {j : Nat} {c : ClassId} {one : Option Addr} {s : State} (hj : j < 7) (h : gSite j c one s) : ∃ i, s.vm.findClass "CuttingRoom$Hindrance" = some i ∧ s.vm.assignable c i = true := by
  obtain ⟨m0, k0, kc0, cf0, i0, p0, l0, n1, n2, n3, n4, n5, n6, n7, n8, n9⟩ := h
  obtain ⟨i, h1, h2, -⟩ := State.lambdaCallable_spec n8
  rw [gsg_iface j hj] at h1
  exact ⟨i, h1, h2⟩
/-- lambdas into the array of them -/
theorem so_aastH (hM : T mi = (own, nm, cc, mx, rt, hh, S)) (hdg : decode cc pc = .ok (.aastore, 1)) : SO Z K T hd mi pc (o_aastH K 6 (pc + 1)) := by
  refine SO.of fun ls st G x h => ?_
  unfold o_aastH at h
  split at h
  · split at h
    · split at h <;> cases h
      rename_i v i a r hlam _ G9 hv
      obtain ⟨N, f, h1, h2, rfl⟩ := g_qs_some hv
      refine fun d q hv => VV.mem hM hv rfl (fun _ _ _ s _ args _ _ _ H locs _ _ _ _ C _ _ hH hs hlo _ kk => ?_)
      obtain ⟨-, -, -, -, -, -, -, -, -, -, -, -, -, hk2, hk3, hO, -⟩ := id C.kn
      have key : ∃ cv : Cell, H[v]? = some cv ∧ cv.vm = .none ∧ (∃ kC, s.vm.classes[cv.cls]? = some kC) ∧ ∃ i, s.vm.findClass "CuttingRoom$Hindrance" = some i ∧ s.vm.assignable cv.cls i = true := by
        unfold g_isLam at hlam
        split at hlam
        · rename_i c' hcls
          simp only [Bool.and_eq_true, decide_eq_true_eq] at hlam
          obtain ⟨fs, hfs⟩ := g_cls_some hcls
          have h9 := (hH.2.2.2 v _ hfs).2
          unfold gAt at h9
          dsimp only at h9
          rw [if_neg (by omega)] at h9
          have hs9 := hk2 (c' - 100) (by omega)
          obtain ⟨kK, methk, hkK, -⟩ := hs9.mk (by omega) hO
          exact ⟨_, h9, rfl, ⟨kK, hkK⟩, gSite.asg (j := c' - 100) (by omega) hs9⟩
        · simp only [Bool.and_eq_true, Bool.or_eq_true, decide_eq_true_eq] at hlam
          have key2 : ∀ j, j < 2 → v = K.2 (4 + j) → ∃ cv : Cell, H[v]? = some cv ∧ cv.vm = .none ∧ (∃ kC, s.vm.classes[cv.cls]? = some kC) ∧ ∃ i, s.vm.findClass "CuttingRoom$Hindrance" = some i ∧ s.vm.assignable cv.cls i = true := by
            rintro j hj rfl
            obtain ⟨hs9, cell, hold, hcc, hcv⟩ := hk3 j hj
            have hlt := (Array.getElem?_eq_some_iff.mp hold).1
            obtain ⟨kK, methk, hkK, -⟩ := hs9.mk (by omega) hO
            exact ⟨_, by rw [hH.2.2.1 _ hlt]; exact hold, hcv, ⟨kK, by rw [hcc]; exact hkK⟩, by rw [hcc]; exact gSite.asg (j := 5 + j) (by omega) hs9⟩
          rcases hlam.2 with q | q
          · exact key2 0 (by decide) q
          · exact key2 1 (by decide) q
      obtain ⟨cv, e1, e2, e4, ii, e5, e6⟩ := key
      refine gw_aast (t := 6) C.1 C.2.1 C.va rfl (hH.2.2.2 a _ h1).2.2 h2 e1 e2 e4 (fun comp hcomp => ?_) hdg (fun H1 j e z oq => kk H1 _ (hH.set h1 z oq ⟨by decide, e⟩) z (glocs hlo (hH.2.2.2 a _ h1).1))
      cases hcomp.symm.trans e5
      exact e6
    · cases h
  · cases h
end
