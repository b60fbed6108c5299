/-! SOUNDNESS 3: instructions on locals, stack, numbers; branches; ends (printed by mksnd3.py) -/
set_option maxRecDepth 100000
section
variable {Z : gZ} {K : gK} {T : Nat → gMd} {hd : Nat → Nat → Nat → Option (Option Int32)} {mi pc : Nat} {own nm : String} {cc : ByteArray} {mx : Nat} {rt : Option FieldType} {hh : List (Nat × Nat × Nat × Nat)} {S : Nat → Bool}
def gSO (Z : gZ) (K : gK) (T : Nat → gMd) (hd : Nat → Nat → Nat → Option (Option Int32)) (mi pc : Nat) (ls : gL) (st : List Value) (G : gH) (x : gR) : Prop := match x with
  | .inl (pc', ls', st', G') => ∀ d r, VV Z K T d mi pc' ls' st' G' r → VV Z K T d mi pc ls st G r
  | .inr (.inl (mi', as, pc', ls', rest, G')) => ∀ d r1 r, VV Z K T d mi' 0 (gent (T mi').2.2.2.1 as) [] G' r1 → (∀ v G1, r1 = (.inl v, G1) → VV Z K T (d + 1) mi pc' ls' (v.toList ++ rest) G1 r) → (∀ E G1, r1 = (.inr E, G1) → gthr hd mi pc E G1 = some r) → VV Z K T (d + 1) mi pc ls st G r
  | .inr (.inr r) => ∀ d, VV Z K T d mi pc ls st G r
theorem SO.of {f : gS} (h : ∀ (ls : gL) (st : List Value) (G : gH) (x : gR), f ls st G = some x → gSO Z K T hd mi pc ls st G x) : SO Z K T hd mi pc f := by
  intro ls st G
  cases e : f ls st G with
  | none => trivial
  | some x =>
    have := h ls st G x e
    obtain ⟨pc', ls', st', G'⟩ | ⟨mi', as, pc', ls', st', G'⟩ | x := x <;> exact this
theorem so_none : SO Z K T hd mi pc o_none := fun _ _ _ => trivial
theorem so_iconst (hM : T mi = (own, nm, cc, mx, rt, hh, S)) {n : Int} {v : Int32} (hn : Int32.ofInt n = v) (hdg : decode cc pc = .ok (.iconst n, 1)) : SO Z K T hd mi pc (o_push (.int v) (pc + 1)) := by
  refine SO.of fun ls st G x h => ?_
  cases h
  exact fun d q hv => VV.same hM hv (fun _ _ _ _ _ _ _ _ _ _ _ _ _ _ _ C _ _ _ _ _ hl k => lv_iconst C.1 C.2.1 hdg hn (k _ hl))
theorem so_bipush (hM : T mi = (own, nm, cc, mx, rt, hh, S)) {n : Int} {v : Int32} (hn : (Int8.ofInt n).toInt32 = v) (hdg : decode cc pc = .ok (.bipush n, 2)) : SO Z K T hd mi pc (o_push (.int v) (pc + 2)) := by
  refine SO.of fun ls st G x h => ?_
  cases h
  exact fun d q hv => VV.same hM hv (fun _ _ _ _ _ _ _ _ _ _ _ _ _ _ _ C _ _ _ _ _ hl k => lv_bipush C.1 C.2.1 hdg hn (k _ hl))
theorem so_sipush (hM : T mi = (own, nm, cc, mx, rt, hh, S)) {n : Int} {v : Int32} (hn : (Int16.ofInt n).toInt32 = v) (hdg : decode cc pc = .ok (.sipush n, 3)) : SO Z K T hd mi pc (o_push (.int v) (pc + 3)) := by
  refine SO.of fun ls st G x h => ?_
  cases h
  exact fun d q hv => VV.same hM hv (fun _ _ _ _ _ _ _ _ _ _ _ _ _ _ _ C _ _ _ _ _ hl k => lv_sipush C.1 C.2.1 hdg hn (k _ hl))
theorem so_lconst (hM : T mi = (own, nm, cc, mx, rt, hh, S)) {n : Fin 2} {v : Int64} (hn : Int64.ofNat (n : Nat) = v) (hdg : decode cc pc = .ok (.lconst n, 1)) : SO Z K T hd mi pc (o_push (.long v) (pc + 1)) := by
  refine SO.of fun ls st G x h => ?_
  cases h
  exact fun d q hv => VV.same hM hv (fun _ _ _ _ _ _ _ _ _ _ _ _ _ _ _ C _ _ _ _ _ hl k => lv_lconst C.1 C.2.1 hdg hn (k _ hl))
theorem so_fconst0 (hM : T mi = (own, nm, cc, mx, rt, hh, S)) (hdg : decode cc pc = .ok (.fconst 0, 1)) : SO Z K T hd mi pc (o_push (.float 0) (pc + 1)) := by
  refine SO.of fun ls st G x h => ?_
  cases h
  exact fun d q hv => VV.same hM hv (fun _ _ _ _ _ _ _ _ _ _ _ _ _ _ _ C _ _ _ _ _ hl k => lv_fconst0 C.1 C.2.1 hdg (k _ hl))
theorem so_dconst0 (hM : T mi = (own, nm, cc, mx, rt, hh, S)) (hdg : decode cc pc = .ok (.dconst 0, 1)) : SO Z K T hd mi pc (o_push (.double 0) (pc + 1)) := by
  refine SO.of fun ls st G x h => ?_
  cases h
  exact fun d q hv => VV.same hM hv (fun _ _ _ _ _ _ _ _ _ _ _ _ _ _ _ C _ _ _ _ _ hl k => lv_dconst0 C.1 C.2.1 hdg (k _ hl))
theorem so_null (hM : T mi = (own, nm, cc, mx, rt, hh, S)) (hdg : decode cc pc = .ok (.aconst_null, 1)) : SO Z K T hd mi pc (o_push .null (pc + 1)) := by
  refine SO.of fun ls st G x h => ?_
  cases h
  exact fun d q hv => VV.same hM hv (fun _ _ _ _ _ _ _ _ _ _ _ _ _ _ _ C _ _ _ _ _ hl k => lv_null C.1 C.2.1 hdg (k _ hl))
theorem so_ldc (hM : T mi = (own, nm, cc, mx, rt, hh, S)) {index : Nat} {v : Int32} (hw : Cond.constant own index v ∈ lw_all) (hdg : decode cc pc = .ok (.ldc index, 2)) : SO Z K T hd mi pc (o_push (.int v) (pc + 2)) := by
  refine SO.of fun ls st G x h => ?_
  cases h
  exact fun d q hv => VV.same hM hv (fun _ _ _ _ _ _ _ _ _ _ _ _ _ _ _ C _ _ _ _ _ hl k => lv_ldc C.1 C.2.1 C.2.2.2.2.1 (C.2.2.2.2.2.1 _ hw) hdg (k _ hl))
theorem so_ldcw (hM : T mi = (own, nm, cc, mx, rt, hh, S)) {index : Nat} {v : Int32} (hw : Cond.constant own index v ∈ lw_all) (hdg : decode cc pc = .ok (.ldc_w index, 3)) : SO Z K T hd mi pc (o_push (.int v) (pc + 3)) := by
  refine SO.of fun ls st G x h => ?_
  cases h
  exact fun d q hv => VV.same hM hv (fun _ _ _ _ _ _ _ _ _ _ _ _ _ _ _ C _ _ _ _ _ hl k => lv_ldcw C.1 C.2.1 C.2.2.2.2.1 (C.2.2.2.2.2.1 _ hw) hdg (k _ hl))
theorem so_goto (hM : T mi = (own, nm, cc, mx, rt, hh, S)) {off : Int} {t : Nat} (ht : (pc : Int) + off = (t : Int)) (hdg : decode cc pc = .ok (.goto off, 3)) : SO Z K T hd mi pc (o_goto t) := by
  refine SO.of fun ls st G x h => ?_
  cases h
  exact fun d q hv => VV.same hM hv (fun _ _ _ _ _ _ _ _ _ _ _ _ _ _ _ C _ _ _ _ _ hl k => lv_goto C.1 C.2.1 hdg ht (k _ hl))
theorem so_iload_n (hM : T mi = (own, nm, cc, mx, rt, hh, S)) {k4 : Fin 4} (hdg : decode cc pc = .ok (.iload_n k4, 1)) : SO Z K T hd mi pc (o_iload (k4 : Nat) (pc + 1)) := by
  refine SO.of fun ls st G x h => ?_
  unfold o_iload at h
  split at h <;> cases h
  rename_i hk
  exact fun d q hv => VV.same hM hv (fun _ _ _ _ _ _ _ _ _ _ _ _ _ _ _ C _ _ _ _ _ hl k => lv_iload_n C.1 C.2.1 hdg rfl (hl.2.2.2 _ _ hk) (k _ hl))
theorem so_iload (hM : T mi = (own, nm, cc, mx, rt, hh, S)) {i : Nat} (hdg : decode cc pc = .ok (.iload i, 2)) : SO Z K T hd mi pc (o_iload i (pc + 2)) := by
  refine SO.of fun ls st G x h => ?_
  unfold o_iload at h
  split at h <;> cases h
  rename_i hk
  exact fun d q hv => VV.same hM hv (fun _ _ _ _ _ _ _ _ _ _ _ _ _ _ _ C _ _ _ _ _ hl k => lv_iload C.1 C.2.1 hdg (hl.2.2.2 _ _ hk) (k _ hl))
theorem so_lload_n (hM : T mi = (own, nm, cc, mx, rt, hh, S)) {k4 : Fin 4} (hdg : decode cc pc = .ok (.lload_n k4, 1)) : SO Z K T hd mi pc (o_lload (k4 : Nat) (pc + 1)) := by
  refine SO.of fun ls st G x h => ?_
  unfold o_lload at h
  split at h <;> cases h
  rename_i hk
  exact fun d q hv => VV.same hM hv (fun _ _ _ _ _ _ _ _ _ _ _ _ _ _ _ C _ _ _ _ _ hl k => lv_lload_n C.1 C.2.1 hdg rfl (hl.2.2.2 _ _ hk) (k _ hl))
theorem so_lload (hM : T mi = (own, nm, cc, mx, rt, hh, S)) {i : Nat} (hdg : decode cc pc = .ok (.lload i, 2)) : SO Z K T hd mi pc (o_lload i (pc + 2)) := by
  refine SO.of fun ls st G x h => ?_
  unfold o_lload at h
  split at h <;> cases h
  rename_i hk
  exact fun d q hv => VV.same hM hv (fun _ _ _ _ _ _ _ _ _ _ _ _ _ _ _ C _ _ _ _ _ hl k => lv_lload C.1 C.2.1 hdg (hl.2.2.2 _ _ hk) (k _ hl))
theorem so_fload_n (hM : T mi = (own, nm, cc, mx, rt, hh, S)) {k4 : Fin 4} (hdg : decode cc pc = .ok (.fload_n k4, 1)) : SO Z K T hd mi pc (o_fload (k4 : Nat) (pc + 1)) := by
  refine SO.of fun ls st G x h => ?_
  unfold o_fload at h
  split at h <;> cases h
  rename_i hk
  exact fun d q hv => VV.same hM hv (fun _ _ _ _ _ _ _ _ _ _ _ _ _ _ _ C _ _ _ _ _ hl k => lv_fload_n C.1 C.2.1 hdg rfl (hl.2.2.2 _ _ hk) (k _ hl))
theorem so_fload (hM : T mi = (own, nm, cc, mx, rt, hh, S)) {i : Nat} (hdg : decode cc pc = .ok (.fload i, 2)) : SO Z K T hd mi pc (o_fload i (pc + 2)) := by
  refine SO.of fun ls st G x h => ?_
  unfold o_fload at h
  split at h <;> cases h
  rename_i hk
  exact fun d q hv => VV.same hM hv (fun _ _ _ _ _ _ _ _ _ _ _ _ _ _ _ C _ _ _ _ _ hl k => lv_fload C.1 C.2.1 hdg (hl.2.2.2 _ _ hk) (k _ hl))
theorem so_dload_n (hM : T mi = (own, nm, cc, mx, rt, hh, S)) {k4 : Fin 4} (hdg : decode cc pc = .ok (.dload_n k4, 1)) : SO Z K T hd mi pc (o_dload (k4 : Nat) (pc + 1)) := by
  refine SO.of fun ls st G x h => ?_
  unfold o_dload at h
  split at h <;> cases h
  rename_i hk
  exact fun d q hv => VV.same hM hv (fun _ _ _ _ _ _ _ _ _ _ _ _ _ _ _ C _ _ _ _ _ hl k => lv_dload_n C.1 C.2.1 hdg rfl (hl.2.2.2 _ _ hk) (k _ hl))
theorem so_dload (hM : T mi = (own, nm, cc, mx, rt, hh, S)) {i : Nat} (hdg : decode cc pc = .ok (.dload i, 2)) : SO Z K T hd mi pc (o_dload i (pc + 2)) := by
  refine SO.of fun ls st G x h => ?_
  unfold o_dload at h
  split at h <;> cases h
  rename_i hk
  exact fun d q hv => VV.same hM hv (fun _ _ _ _ _ _ _ _ _ _ _ _ _ _ _ C _ _ _ _ _ hl k => lv_dload C.1 C.2.1 hdg (hl.2.2.2 _ _ hk) (k _ hl))
theorem so_aload_n (hM : T mi = (own, nm, cc, mx, rt, hh, S)) {k4 : Fin 4} (hdg : decode cc pc = .ok (.aload_n k4, 1)) : SO Z K T hd mi pc (o_aload (k4 : Nat) (pc + 1)) := by
  refine SO.of fun ls st G x h => ?_
  unfold o_aload at h
  split at h <;> cases h
  · rename_i hk
    exact fun d q hv => VV.same hM hv (fun _ _ _ _ _ _ _ _ _ _ _ _ _ _ _ C _ _ _ _ _ hl k => lv_aload_n C.1 C.2.1 hdg rfl (hl.2.2.2 _ _ hk) (k _ hl))
  · rename_i hk
    exact fun d q hv => VV.same hM hv (fun _ _ _ _ _ _ _ _ _ _ _ _ _ _ _ C _ _ _ _ _ hl k => lv_aload_nN C.1 C.2.1 hdg rfl (hl.2.2.2 _ _ hk) (k _ hl))
theorem so_aload (hM : T mi = (own, nm, cc, mx, rt, hh, S)) {i : Nat} (hdg : decode cc pc = .ok (.aload i, 2)) : SO Z K T hd mi pc (o_aload i (pc + 2)) := by
  refine SO.of fun ls st G x h => ?_
  unfold o_aload at h
  split at h <;> cases h
  · rename_i hk
    exact fun d q hv => VV.same hM hv (fun _ _ _ _ _ _ _ _ _ _ _ _ _ _ _ C _ _ _ _ _ hl k => lv_aload C.1 C.2.1 hdg (hl.2.2.2 _ _ hk) (k _ hl))
  · rename_i hk
    exact fun d q hv => VV.same hM hv (fun _ _ _ _ _ _ _ _ _ _ _ _ _ _ _ C _ _ _ _ _ hl k => lv_aloadN C.1 C.2.1 hdg (hl.2.2.2 _ _ hk) (k _ hl))
theorem so_istore_n (hM : T mi = (own, nm, cc, mx, rt, hh, S)) {k4 : Fin 4} {i : Nat} (hk : (k4 : Nat) = i) (hi : i < mx) (hS : ∀ j, j + 1 = i → S j = false) (hdg : decode cc pc = .ok (.istore_n k4, 1)) : SO Z K T hd mi pc (o_istore i (pc + 1)) := by
  refine SO.of fun ls st G x h => ?_
  unfold o_istore at h
  split at h <;> cases h
  exact fun d q hv => VV.same hM hv (fun _ _ _ _ _ _ _ _ _ _ _ _ _ _ _ C _ _ _ _ _ hl k => lv_istore_n C.1 C.2.1 hdg hk hl.has hi rfl (fun arr2 h2 => k _ (glv.set hl.2.2.1 hS rfl h2)))
theorem so_istore (hM : T mi = (own, nm, cc, mx, rt, hh, S)) {i : Nat} (hi : i < mx) (hS : ∀ j, j + 1 = i → S j = false) (hdg : decode cc pc = .ok (.istore i, 2)) : SO Z K T hd mi pc (o_istore i (pc + 2)) := by
  refine SO.of fun ls st G x h => ?_
  unfold o_istore at h
  split at h <;> cases h
  exact fun d q hv => VV.same hM hv (fun _ _ _ _ _ _ _ _ _ _ _ _ _ _ _ C _ _ _ _ _ hl k => lv_istore C.1 C.2.1 hdg hl.has hi rfl (fun arr2 h2 => k _ (glv.set hl.2.2.1 hS rfl h2)))
theorem so_fstore_n (hM : T mi = (own, nm, cc, mx, rt, hh, S)) {k4 : Fin 4} {i : Nat} (hk : (k4 : Nat) = i) (hi : i < mx) (hS : ∀ j, j + 1 = i → S j = false) (hdg : decode cc pc = .ok (.fstore_n k4, 1)) : SO Z K T hd mi pc (o_fstore i (pc + 1)) := by
  refine SO.of fun ls st G x h => ?_
  unfold o_fstore at h
  split at h <;> cases h
  exact fun d q hv => VV.same hM hv (fun _ _ _ _ _ _ _ _ _ _ _ _ _ _ _ C _ _ _ _ _ hl k => lv_fstore_n C.1 C.2.1 hdg hk hl.has hi rfl (fun arr2 h2 => k _ (glv.set hl.2.2.1 hS rfl h2)))
theorem so_fstore (hM : T mi = (own, nm, cc, mx, rt, hh, S)) {i : Nat} (hi : i < mx) (hS : ∀ j, j + 1 = i → S j = false) (hdg : decode cc pc = .ok (.fstore i, 2)) : SO Z K T hd mi pc (o_fstore i (pc + 2)) := by
  refine SO.of fun ls st G x h => ?_
  unfold o_fstore at h
  split at h <;> cases h
  exact fun d q hv => VV.same hM hv (fun _ _ _ _ _ _ _ _ _ _ _ _ _ _ _ C _ _ _ _ _ hl k => lv_fstore C.1 C.2.1 hdg hl.has hi rfl (fun arr2 h2 => k _ (glv.set hl.2.2.1 hS rfl h2)))
theorem so_astore_n (hM : T mi = (own, nm, cc, mx, rt, hh, S)) {k4 : Fin 4} {i : Nat} (hk : (k4 : Nat) = i) (hi : i < mx) (hS : ∀ j, j + 1 = i → S j = false) (hdg : decode cc pc = .ok (.astore_n k4, 1)) : SO Z K T hd mi pc (o_astore i (pc + 1)) := by
  refine SO.of fun ls st G x h => ?_
  unfold o_astore at h
  split at h <;> cases h
  · exact fun d q hv => VV.same hM hv (fun _ _ _ _ _ _ _ _ _ _ _ _ _ _ _ C _ _ _ _ _ hl k => lv_astore_n C.1 C.2.1 hdg hk hl.has hi rfl (fun arr2 h2 => k _ (glv.set hl.2.2.1 hS rfl h2)))
  · exact fun d q hv => VV.same hM hv (fun _ _ _ _ _ _ _ _ _ _ _ _ _ _ _ C _ _ _ _ _ hl k => lv_astore_nN C.1 C.2.1 hdg hk hl.has hi rfl (fun arr2 h2 => k _ (glv.set hl.2.2.1 hS rfl h2)))
theorem so_astore (hM : T mi = (own, nm, cc, mx, rt, hh, S)) {i : Nat} (hi : i < mx) (hS : ∀ j, j + 1 = i → S j = false) (hdg : decode cc pc = .ok (.astore i, 2)) : SO Z K T hd mi pc (o_astore i (pc + 2)) := by
  refine SO.of fun ls st G x h => ?_
  unfold o_astore at h
  split at h <;> cases h
  · exact fun d q hv => VV.same hM hv (fun _ _ _ _ _ _ _ _ _ _ _ _ _ _ _ C _ _ _ _ _ hl k => lv_astore C.1 C.2.1 hdg hl.has hi rfl (fun arr2 h2 => k _ (glv.set hl.2.2.1 hS rfl h2)))
  · exact fun d q hv => VV.same hM hv (fun _ _ _ _ _ _ _ _ _ _ _ _ _ _ _ C _ _ _ _ _ hl k => lv_astoreN C.1 C.2.1 hdg hl.has hi rfl (fun arr2 h2 => k _ (glv.set hl.2.2.1 hS rfl h2)))
theorem so_lstore_n (hM : T mi = (own, nm, cc, mx, rt, hh, S)) {k4 : Fin 4} {i : Nat} (hk : (k4 : Nat) = i) (hi : i + 1 < mx) (hS : ∀ j, j + 1 = i → S j = false) (hSi : S i = true) (hdg : decode cc pc = .ok (.lstore_n k4, 1)) : SO Z K T hd mi pc (o_lstore i (pc + 1)) := by
  refine SO.of fun ls st G x h => ?_
  unfold o_lstore at h
  split at h <;> cases h
  exact fun d q hv => VV.same hM hv (fun _ _ _ _ _ _ _ _ _ _ _ _ _ _ _ C _ _ _ _ _ hl k => lv_lstore_n C.1 C.2.1 hdg hk hl.has hi rfl (fun arr2 h2 => k _ (glv.set2 hl.2.2.1 hS hSi h2)))
theorem so_lstore (hM : T mi = (own, nm, cc, mx, rt, hh, S)) {i : Nat} (hi : i + 1 < mx) (hS : ∀ j, j + 1 = i → S j = false) (hSi : S i = true) (hdg : decode cc pc = .ok (.lstore i, 2)) : SO Z K T hd mi pc (o_lstore i (pc + 2)) := by
  refine SO.of fun ls st G x h => ?_
  unfold o_lstore at h
  split at h <;> cases h
  exact fun d q hv => VV.same hM hv (fun _ _ _ _ _ _ _ _ _ _ _ _ _ _ _ C _ _ _ _ _ hl k => lv_lstore C.1 C.2.1 hdg hl.has hi rfl (fun arr2 h2 => k _ (glv.set2 hl.2.2.1 hS hSi h2)))
theorem so_dstore_n (hM : T mi = (own, nm, cc, mx, rt, hh, S)) {k4 : Fin 4} {i : Nat} (hk : (k4 : Nat) = i) (hi : i + 1 < mx) (hS : ∀ j, j + 1 = i → S j = false) (hSi : S i = true) (hdg : decode cc pc = .ok (.dstore_n k4, 1)) : SO Z K T hd mi pc (o_dstore i (pc + 1)) := by
  refine SO.of fun ls st G x h => ?_
  unfold o_dstore at h
  split at h <;> cases h
  exact fun d q hv => VV.same hM hv (fun _ _ _ _ _ _ _ _ _ _ _ _ _ _ _ C _ _ _ _ _ hl k => lv_dstore_n C.1 C.2.1 hdg hk hl.has hi rfl (fun arr2 h2 => k _ (glv.set2 hl.2.2.1 hS hSi h2)))
theorem so_dstore (hM : T mi = (own, nm, cc, mx, rt, hh, S)) {i : Nat} (hi : i + 1 < mx) (hS : ∀ j, j + 1 = i → S j = false) (hSi : S i = true) (hdg : decode cc pc = .ok (.dstore i, 2)) : SO Z K T hd mi pc (o_dstore i (pc + 2)) := by
  refine SO.of fun ls st G x h => ?_
  unfold o_dstore at h
  split at h <;> cases h
  exact fun d q hv => VV.same hM hv (fun _ _ _ _ _ _ _ _ _ _ _ _ _ _ _ C _ _ _ _ _ hl k => lv_dstore C.1 C.2.1 hdg hl.has hi rfl (fun arr2 h2 => k _ (glv.set2 hl.2.2.1 hS hSi h2)))
theorem so_iinc (hM : T mi = (own, nm, cc, mx, rt, hh, S)) {i : Nat} {n : Int} {c : Int32} (hn : Int32.ofInt n = c) (hi : i < mx) (hS : ∀ j, j + 1 = i → S j = false) (hdg : decode cc pc = .ok (.iinc i n, 3)) : SO Z K T hd mi pc (o_iinc i c (pc + 3)) := by
  refine SO.of fun ls st G x h => ?_
  unfold o_iinc at h
  split at h <;> cases h
  rename_i hk
  obtain ⟨k9, hk9⟩ := List.getElem?_of_mem (gas_mem.mpr hk)
  exact fun d q hv => VV.same hM hv (fun _ _ _ _ _ _ _ _ _ _ _ _ _ _ _ C _ _ _ _ _ hl k => lv_iinc C.1 C.2.1 hdg hl.has hk9 (by rw [hn]) hi rfl (fun arr2 h2 => k _ (glv.set hl.2.2.1 hS rfl h2)))
theorem so_iadd (hM : T mi = (own, nm, cc, mx, rt, hh, S)) (hdg : decode cc pc = .ok (.iadd, 1)) : SO Z K T hd mi pc (o_iadd (pc + 1)) := by
  refine SO.of fun ls st G x h => ?_
  unfold o_iadd at h
  split at h <;> cases h
  exact fun d q hv => VV.same hM hv (fun _ _ _ _ _ _ _ _ _ _ _ _ _ _ _ C _ _ _ _ _ hl k => lv_iadd C.1 C.2.1 hdg (k _ hl))
theorem so_isub (hM : T mi = (own, nm, cc, mx, rt, hh, S)) (hdg : decode cc pc = .ok (.isub, 1)) : SO Z K T hd mi pc (o_isub (pc + 1)) := by
  refine SO.of fun ls st G x h => ?_
  unfold o_isub at h
  split at h <;> cases h
  exact fun d q hv => VV.same hM hv (fun _ _ _ _ _ _ _ _ _ _ _ _ _ _ _ C _ _ _ _ _ hl k => lv_isub C.1 C.2.1 hdg (k _ hl))
theorem so_imul (hM : T mi = (own, nm, cc, mx, rt, hh, S)) (hdg : decode cc pc = .ok (.imul, 1)) : SO Z K T hd mi pc (o_imul (pc + 1)) := by
  refine SO.of fun ls st G x h => ?_
  unfold o_imul at h
  split at h <;> cases h
  exact fun d q hv => VV.same hM hv (fun _ _ _ _ _ _ _ _ _ _ _ _ _ _ _ C _ _ _ _ _ hl k => lv_imul C.1 C.2.1 hdg (k _ hl))
theorem so_iand (hM : T mi = (own, nm, cc, mx, rt, hh, S)) (hdg : decode cc pc = .ok (.iand, 1)) : SO Z K T hd mi pc (o_iand (pc + 1)) := by
  refine SO.of fun ls st G x h => ?_
  unfold o_iand at h
  split at h <;> cases h
  exact fun d q hv => VV.same hM hv (fun _ _ _ _ _ _ _ _ _ _ _ _ _ _ _ C _ _ _ _ _ hl k => lv_iand C.1 C.2.1 hdg (k _ hl))
theorem so_ior (hM : T mi = (own, nm, cc, mx, rt, hh, S)) (hdg : decode cc pc = .ok (.ior, 1)) : SO Z K T hd mi pc (o_ior (pc + 1)) := by
  refine SO.of fun ls st G x h => ?_
  unfold o_ior at h
  split at h <;> cases h
  exact fun d q hv => VV.same hM hv (fun _ _ _ _ _ _ _ _ _ _ _ _ _ _ _ C _ _ _ _ _ hl k => lv_ior C.1 C.2.1 hdg (k _ hl))
theorem so_ixor (hM : T mi = (own, nm, cc, mx, rt, hh, S)) (hdg : decode cc pc = .ok (.ixor, 1)) : SO Z K T hd mi pc (o_ixor (pc + 1)) := by
  refine SO.of fun ls st G x h => ?_
  unfold o_ixor at h
  split at h <;> cases h
  exact fun d q hv => VV.same hM hv (fun _ _ _ _ _ _ _ _ _ _ _ _ _ _ _ C _ _ _ _ _ hl k => lv_ixor C.1 C.2.1 hdg (k _ hl))
theorem so_ishl (hM : T mi = (own, nm, cc, mx, rt, hh, S)) (hdg : decode cc pc = .ok (.ishl, 1)) : SO Z K T hd mi pc (o_ishl (pc + 1)) := by
  refine SO.of fun ls st G x h => ?_
  unfold o_ishl at h
  split at h <;> cases h
  exact fun d q hv => VV.same hM hv (fun _ _ _ _ _ _ _ _ _ _ _ _ _ _ _ C _ _ _ _ _ hl k => lv_ishl C.1 C.2.1 hdg (k _ hl))
theorem so_ishr (hM : T mi = (own, nm, cc, mx, rt, hh, S)) (hdg : decode cc pc = .ok (.ishr, 1)) : SO Z K T hd mi pc (o_ishr (pc + 1)) := by
  refine SO.of fun ls st G x h => ?_
  unfold o_ishr at h
  split at h <;> cases h
  exact fun d q hv => VV.same hM hv (fun _ _ _ _ _ _ _ _ _ _ _ _ _ _ _ C _ _ _ _ _ hl k => lv_ishr C.1 C.2.1 hdg (k _ hl))
theorem so_ladd (hM : T mi = (own, nm, cc, mx, rt, hh, S)) (hdg : decode cc pc = .ok (.ladd, 1)) : SO Z K T hd mi pc (o_ladd (pc + 1)) := by
  refine SO.of fun ls st G x h => ?_
  unfold o_ladd at h
  split at h <;> cases h
  exact fun d q hv => VV.same hM hv (fun _ _ _ _ _ _ _ _ _ _ _ _ _ _ _ C _ _ _ _ _ hl k => lv_ladd C.1 C.2.1 hdg (k _ hl))
theorem so_lmul (hM : T mi = (own, nm, cc, mx, rt, hh, S)) (hdg : decode cc pc = .ok (.lmul, 1)) : SO Z K T hd mi pc (o_lmul (pc + 1)) := by
  refine SO.of fun ls st G x h => ?_
  unfold o_lmul at h
  split at h <;> cases h
  exact fun d q hv => VV.same hM hv (fun _ _ _ _ _ _ _ _ _ _ _ _ _ _ _ C _ _ _ _ _ hl k => lv_lmul C.1 C.2.1 hdg (k _ hl))
theorem so_idiv (hM : T mi = (own, nm, cc, mx, rt, hh, S)) (hdg : decode cc pc = .ok (.idiv, 1)) : SO Z K T hd mi pc (o_idiv (pc + 1)) := by
  refine SO.of fun ls st G x h => ?_
  unfold o_idiv at h
  split at h
  · split at h <;> cases h
    rename_i hne
    exact fun d q hv => VV.same hM hv (fun _ _ _ _ _ _ _ _ _ _ _ _ _ _ _ C _ _ _ _ _ hl k => lv_idiv C.1 C.2.1 hdg hne (k _ hl))
  · cases h
theorem so_irem (hM : T mi = (own, nm, cc, mx, rt, hh, S)) (hdg : decode cc pc = .ok (.irem, 1)) : SO Z K T hd mi pc (o_irem (pc + 1)) := by
  refine SO.of fun ls st G x h => ?_
  unfold o_irem at h
  split at h
  · split at h <;> cases h
    rename_i hne
    exact fun d q hv => VV.same hM hv (fun _ _ _ _ _ _ _ _ _ _ _ _ _ _ _ C _ _ _ _ _ hl k => lv_irem C.1 C.2.1 hdg hne (k _ hl))
  · cases h
theorem so_lcmp (hM : T mi = (own, nm, cc, mx, rt, hh, S)) (hdg : decode cc pc = .ok (.lcmp, 1)) : SO Z K T hd mi pc (o_lcmp (pc + 1)) := by
  refine SO.of fun ls st G x h => ?_
  unfold o_lcmp at h
  split at h <;> cases h
  exact fun d q hv => VV.same hM hv (fun _ _ _ _ _ _ _ _ _ _ _ _ _ _ _ C _ _ _ _ _ hl k => W.lcmp C.1 C.2.1 hdg (k _ hl))
theorem so_i2l (hM : T mi = (own, nm, cc, mx, rt, hh, S)) (hdg : decode cc pc = .ok (.i2l, 1)) : SO Z K T hd mi pc (o_i2l (pc + 1)) := by
  refine SO.of fun ls st G x h => ?_
  unfold o_i2l at h
  split at h <;> cases h
  exact fun d q hv => VV.same hM hv (fun _ _ _ _ _ _ _ _ _ _ _ _ _ _ _ C _ _ _ _ _ hl k => lv_i2l C.1 C.2.1 hdg rfl (k _ hl))
theorem so_i2c (hM : T mi = (own, nm, cc, mx, rt, hh, S)) (hdg : decode cc pc = .ok (.i2c, 1)) : SO Z K T hd mi pc (o_i2c (pc + 1)) := by
  refine SO.of fun ls st G x h => ?_
  unfold o_i2c at h
  split at h <;> cases h
  exact fun d q hv => VV.same hM hv (fun _ _ _ _ _ _ _ _ _ _ _ _ _ _ _ C _ _ _ _ _ hl k => lv_i2c C.1 C.2.1 hdg rfl (k _ hl))
theorem so_i2f (hM : T mi = (own, nm, cc, mx, rt, hh, S)) (hdg : decode cc pc = .ok (.i2f, 1)) : SO Z K T hd mi pc (o_i2f (pc + 1)) := by
  refine SO.of fun ls st G x h => ?_
  unfold o_i2f at h
  split at h <;> cases h
  exact fun d q hv => VV.same hM hv (fun _ _ _ _ _ _ _ _ _ _ _ _ _ _ _ C _ _ _ _ _ hl k => lv_i2f C.1 C.2.1 hdg (k _ hl))
theorem so_i2d (hM : T mi = (own, nm, cc, mx, rt, hh, S)) (hdg : decode cc pc = .ok (.i2d, 1)) : SO Z K T hd mi pc (o_i2d (pc + 1)) := by
  refine SO.of fun ls st G x h => ?_
  unfold o_i2d at h
  split at h <;> cases h
  exact fun d q hv => VV.same hM hv (fun _ _ _ _ _ _ _ _ _ _ _ _ _ _ _ C _ _ _ _ _ hl k => lv_i2d C.1 C.2.1 hdg (k _ hl))
theorem so_f2d (hM : T mi = (own, nm, cc, mx, rt, hh, S)) (hdg : decode cc pc = .ok (.f2d, 1)) : SO Z K T hd mi pc (o_f2d (pc + 1)) := by
  refine SO.of fun ls st G x h => ?_
  unfold o_f2d at h
  split at h
  · split at h <;> cases h
    rename_i hne
    exact fun d q hv => VV.same hM hv (fun _ _ _ _ _ _ _ _ _ _ _ _ _ _ _ C _ _ _ _ _ hl k => lv_f2d C.1 C.2.1 hdg hne (k _ hl))
  · cases h
theorem so_fdiv (hM : T mi = (own, nm, cc, mx, rt, hh, S)) (hdg : decode cc pc = .ok (.fdiv, 1)) : SO Z K T hd mi pc (o_fdiv (pc + 1)) := by
  refine SO.of fun ls st G x h => ?_
  unfold o_fdiv at h
  split at h
  · split at h <;> cases h
    rename_i hne
    exact fun d q hv => VV.same hM hv (fun _ _ _ _ _ _ _ _ _ _ _ _ _ _ _ C _ _ _ _ _ hl k => lv_fdiv C.1 C.2.1 hdg hne (k _ hl))
  · cases h
theorem so_ddiv (hM : T mi = (own, nm, cc, mx, rt, hh, S)) (hdg : decode cc pc = .ok (.ddiv, 1)) : SO Z K T hd mi pc (o_ddiv (pc + 1)) := by
  refine SO.of fun ls st G x h => ?_
  unfold o_ddiv at h
  split at h
  · split at h <;> cases h
    rename_i hne
    exact fun d q hv => VV.same hM hv (fun _ _ _ _ _ _ _ _ _ _ _ _ _ _ _ C _ _ _ _ _ hl k => lv_ddiv C.1 C.2.1 hdg hne (k _ hl))
  · cases h
theorem so_fcmp (hM : T mi = (own, nm, cc, mx, rt, hh, S)) {op : CmpOp} (hdg : decode cc pc = .ok (.fcmp op, 1)) : SO Z K T hd mi pc (o_fcmp op (pc + 1)) := by
  refine SO.of fun ls st G x h => ?_
  unfold o_fcmp at h
  split at h <;> cases h
  exact fun d q hv => VV.same hM hv (fun _ _ _ _ _ _ _ _ _ _ _ _ _ _ _ C _ _ _ _ _ hl k => lv_fcmp C.1 C.2.1 hdg (k _ hl))
theorem so_dcmp (hM : T mi = (own, nm, cc, mx, rt, hh, S)) {op : CmpOp} (hdg : decode cc pc = .ok (.dcmp op, 1)) : SO Z K T hd mi pc (o_dcmp op (pc + 1)) := by
  refine SO.of fun ls st G x h => ?_
  unfold o_dcmp at h
  split at h <;> cases h
  exact fun d q hv => VV.same hM hv (fun _ _ _ _ _ _ _ _ _ _ _ _ _ _ _ C _ _ _ _ _ hl k => lv_dcmp C.1 C.2.1 hdg (k _ hl))
theorem so_dup (hM : T mi = (own, nm, cc, mx, rt, hh, S)) (hdg : decode cc pc = .ok (.dup, 1)) : SO Z K T hd mi pc (o_dup (pc + 1)) := by
  refine SO.of fun ls st G x h => ?_
  unfold o_dup at h
  split at h <;> cases h
  · exact fun d q hv => VV.same hM hv (fun _ _ _ _ _ _ _ _ _ _ _ _ _ _ _ C _ _ _ _ _ hl k => lv_dup C.1 C.2.1 hdg rfl (k _ hl))
  · exact fun d q hv => VV.same hM hv (fun _ _ _ _ _ _ _ _ _ _ _ _ _ _ _ C _ _ _ _ _ hl k => lv_dup C.1 C.2.1 hdg rfl (k _ hl))
theorem so_pop (hM : T mi = (own, nm, cc, mx, rt, hh, S)) (hdg : decode cc pc = .ok (.pop, 1)) : SO Z K T hd mi pc (o_pop (pc + 1)) := by
  refine SO.of fun ls st G x h => ?_
  unfold o_pop at h
  split at h <;> cases h
  · exact fun d q hv => VV.same hM hv (fun _ _ _ _ _ _ _ _ _ _ _ _ _ _ _ C _ _ _ _ _ hl k => lv_pop C.1 C.2.1 hdg rfl (k _ hl))
  · exact fun d q hv => VV.same hM hv (fun _ _ _ _ _ _ _ _ _ _ _ _ _ _ _ C _ _ _ _ _ hl k => lv_pop C.1 C.2.1 hdg rfl (k _ hl))
theorem so_dup2 (hM : T mi = (own, nm, cc, mx, rt, hh, S)) (hdg : decode cc pc = .ok (.dup2, 1)) : SO Z K T hd mi pc (o_dup2 (pc + 1)) := by
  refine SO.of fun ls st G x h => ?_
  unfold o_dup2 at h
  split at h <;> cases h
  exact fun d q hv => VV.same hM hv (fun _ _ _ _ _ _ _ _ _ _ _ _ _ _ _ C _ _ _ _ _ hl k => lv_dup2_11 C.1 C.2.1 hdg rfl rfl (k _ hl))
theorem so_dup_x1 (hM : T mi = (own, nm, cc, mx, rt, hh, S)) (hdg : decode cc pc = .ok (.dup_x1, 1)) : SO Z K T hd mi pc (o_dup_x1 (pc + 1)) := by
  refine SO.of fun ls st G x h => ?_
  unfold o_dup_x1 at h
  split at h <;> cases h
  · exact fun d q hv => VV.same hM hv (fun _ _ _ _ _ _ _ _ _ _ _ _ _ _ _ C _ _ _ _ _ hl k => lv_dup_x1 C.1 C.2.1 hdg rfl rfl (k _ hl))
  · exact fun d q hv => VV.same hM hv (fun _ _ _ _ _ _ _ _ _ _ _ _ _ _ _ C _ _ _ _ _ hl k => lv_dup_x1 C.1 C.2.1 hdg rfl rfl (k _ hl))
theorem so_ifeq (hM : T mi = (own, nm, cc, mx, rt, hh, S)) {off : Int} {t : Nat} (ht : (pc : Int) + off = (t : Int)) (hdg : decode cc pc = .ok (.ifCond .eq off, 3)) : SO Z K T hd mi pc (o_ifeq t (pc + 3)) := by
  refine SO.of fun ls st G x h => ?_
  unfold o_ifeq at h
  split at h
  · split at h <;> cases h
    · rename_i hc
      exact fun d q hv => VV.same hM hv (fun _ _ _ _ _ _ _ _ _ _ _ _ _ _ _ C _ _ _ _ _ hl k => lv_if_eq C.1 C.2.1 hdg ht (fun _ => k _ hl) (fun z => absurd hc z))
    · rename_i hc
      exact fun d q hv => VV.same hM hv (fun _ _ _ _ _ _ _ _ _ _ _ _ _ _ _ C _ _ _ _ _ hl k => lv_if_eq C.1 C.2.1 hdg ht (fun z => absurd z hc) (fun _ => k _ hl))
  · cases h
theorem so_ifne (hM : T mi = (own, nm, cc, mx, rt, hh, S)) {off : Int} {t : Nat} (ht : (pc : Int) + off = (t : Int)) (hdg : decode cc pc = .ok (.ifCond .ne off, 3)) : SO Z K T hd mi pc (o_ifne t (pc + 3)) := by
  refine SO.of fun ls st G x h => ?_
  unfold o_ifne at h
  split at h
  · split at h <;> cases h
    · rename_i hc
      exact fun d q hv => VV.same hM hv (fun _ _ _ _ _ _ _ _ _ _ _ _ _ _ _ C _ _ _ _ _ hl k => lv_if_ne C.1 C.2.1 hdg ht (fun z => absurd hc z) (fun _ => k _ hl))
    · rename_i hc
      exact fun d q hv => VV.same hM hv (fun _ _ _ _ _ _ _ _ _ _ _ _ _ _ _ C _ _ _ _ _ hl k => lv_if_ne C.1 C.2.1 hdg ht (fun _ => k _ hl) (fun z => absurd z hc))
  · cases h
theorem so_iflt (hM : T mi = (own, nm, cc, mx, rt, hh, S)) {off : Int} {t : Nat} (ht : (pc : Int) + off = (t : Int)) (hdg : decode cc pc = .ok (.ifCond .lt off, 3)) : SO Z K T hd mi pc (o_iflt t (pc + 3)) := by
  refine SO.of fun ls st G x h => ?_
  unfold o_iflt at h
  split at h
  · split at h <;> cases h
    · rename_i hc
      exact fun d q hv => VV.same hM hv (fun _ _ _ _ _ _ _ _ _ _ _ _ _ _ _ C _ _ _ _ _ hl k => lv_if_lt C.1 C.2.1 hdg ht (fun _ => k _ hl) (fun z => absurd hc z))
    · rename_i hc
      exact fun d q hv => VV.same hM hv (fun _ _ _ _ _ _ _ _ _ _ _ _ _ _ _ C _ _ _ _ _ hl k => lv_if_lt C.1 C.2.1 hdg ht (fun z => absurd z hc) (fun _ => k _ hl))
  · cases h
theorem so_ifge (hM : T mi = (own, nm, cc, mx, rt, hh, S)) {off : Int} {t : Nat} (ht : (pc : Int) + off = (t : Int)) (hdg : decode cc pc = .ok (.ifCond .ge off, 3)) : SO Z K T hd mi pc (o_ifge t (pc + 3)) := by
  refine SO.of fun ls st G x h => ?_
  unfold o_ifge at h
  split at h
  · split at h <;> cases h
    · rename_i hc
      exact fun d q hv => VV.same hM hv (fun _ _ _ _ _ _ _ _ _ _ _ _ _ _ _ C _ _ _ _ _ hl k => lv_if_ge C.1 C.2.1 hdg ht (fun _ => k _ hl) (fun z => absurd hc z))
    · rename_i hc
      exact fun d q hv => VV.same hM hv (fun _ _ _ _ _ _ _ _ _ _ _ _ _ _ _ C _ _ _ _ _ hl k => lv_if_ge C.1 C.2.1 hdg ht (fun z => absurd z hc) (fun _ => k _ hl))
  · cases h
theorem so_ifgt (hM : T mi = (own, nm, cc, mx, rt, hh, S)) {off : Int} {t : Nat} (ht : (pc : Int) + off = (t : Int)) (hdg : decode cc pc = .ok (.ifCond .gt off, 3)) : SO Z K T hd mi pc (o_ifgt t (pc + 3)) := by
  refine SO.of fun ls st G x h => ?_
  unfold o_ifgt at h
  split at h
  · split at h <;> cases h
    · rename_i hc
      exact fun d q hv => VV.same hM hv (fun _ _ _ _ _ _ _ _ _ _ _ _ _ _ _ C _ _ _ _ _ hl k => lv_if_gt C.1 C.2.1 hdg ht (fun _ => k _ hl) (fun z => absurd hc z))
    · rename_i hc
      exact fun d q hv => VV.same hM hv (fun _ _ _ _ _ _ _ _ _ _ _ _ _ _ _ C _ _ _ _ _ hl k => lv_if_gt C.1 C.2.1 hdg ht (fun z => absurd z hc) (fun _ => k _ hl))
  · cases h
theorem so_ifle (hM : T mi = (own, nm, cc, mx, rt, hh, S)) {off : Int} {t : Nat} (ht : (pc : Int) + off = (t : Int)) (hdg : decode cc pc = .ok (.ifCond .le off, 3)) : SO Z K T hd mi pc (o_ifle t (pc + 3)) := by
  refine SO.of fun ls st G x h => ?_
  unfold o_ifle at h
  split at h
  · split at h <;> cases h
    · rename_i hc
      exact fun d q hv => VV.same hM hv (fun _ _ _ _ _ _ _ _ _ _ _ _ _ _ _ C _ _ _ _ _ hl k => lv_if_le C.1 C.2.1 hdg ht (fun _ => k _ hl) (fun z => absurd hc z))
    · rename_i hc
      exact fun d q hv => VV.same hM hv (fun _ _ _ _ _ _ _ _ _ _ _ _ _ _ _ C _ _ _ _ _ hl k => lv_if_le C.1 C.2.1 hdg ht (fun z => absurd z hc) (fun _ => k _ hl))
  · cases h
theorem so_cmpeq (hM : T mi = (own, nm, cc, mx, rt, hh, S)) {off : Int} {t : Nat} (ht : (pc : Int) + off = (t : Int)) (hdg : decode cc pc = .ok (.if_icmp .eq off, 3)) : SO Z K T hd mi pc (o_cmpeq t (pc + 3)) := by
  refine SO.of fun ls st G x h => ?_
  unfold o_cmpeq at h
  split at h
  · split at h <;> cases h
    · rename_i hc
      exact fun d q hv => VV.same hM hv (fun _ _ _ _ _ _ _ _ _ _ _ _ _ _ _ C _ _ _ _ _ hl k => lv_icmp_eq C.1 C.2.1 hdg ht (fun _ => k _ hl) (fun z => absurd hc z))
    · rename_i hc
      exact fun d q hv => VV.same hM hv (fun _ _ _ _ _ _ _ _ _ _ _ _ _ _ _ C _ _ _ _ _ hl k => lv_icmp_eq C.1 C.2.1 hdg ht (fun z => absurd z hc) (fun _ => k _ hl))
  · cases h
theorem so_cmpne (hM : T mi = (own, nm, cc, mx, rt, hh, S)) {off : Int} {t : Nat} (ht : (pc : Int) + off = (t : Int)) (hdg : decode cc pc = .ok (.if_icmp .ne off, 3)) : SO Z K T hd mi pc (o_cmpne t (pc + 3)) := by
  refine SO.of fun ls st G x h => ?_
  unfold o_cmpne at h
  split at h
  · split at h <;> cases h
    · rename_i hc
      exact fun d q hv => VV.same hM hv (fun _ _ _ _ _ _ _ _ _ _ _ _ _ _ _ C _ _ _ _ _ hl k => lv_icmp_ne C.1 C.2.1 hdg ht (fun z => absurd hc z) (fun _ => k _ hl))
    · rename_i hc
      exact fun d q hv => VV.same hM hv (fun _ _ _ _ _ _ _ _ _ _ _ _ _ _ _ C _ _ _ _ _ hl k => lv_icmp_ne C.1 C.2.1 hdg ht (fun _ => k _ hl) (fun z => absurd z hc))
  · cases h
theorem so_cmplt (hM : T mi = (own, nm, cc, mx, rt, hh, S)) {off : Int} {t : Nat} (ht : (pc : Int) + off = (t : Int)) (hdg : decode cc pc = .ok (.if_icmp .lt off, 3)) : SO Z K T hd mi pc (o_cmplt t (pc + 3)) := by
  refine SO.of fun ls st G x h => ?_
  unfold o_cmplt at h
  split at h
  · split at h <;> cases h
    · rename_i hc
      exact fun d q hv => VV.same hM hv (fun _ _ _ _ _ _ _ _ _ _ _ _ _ _ _ C _ _ _ _ _ hl k => lv_icmp_lt C.1 C.2.1 hdg ht (fun _ => k _ hl) (fun z => absurd hc z))
    · rename_i hc
      exact fun d q hv => VV.same hM hv (fun _ _ _ _ _ _ _ _ _ _ _ _ _ _ _ C _ _ _ _ _ hl k => lv_icmp_lt C.1 C.2.1 hdg ht (fun z => absurd z hc) (fun _ => k _ hl))
  · cases h
theorem so_cmpge (hM : T mi = (own, nm, cc, mx, rt, hh, S)) {off : Int} {t : Nat} (ht : (pc : Int) + off = (t : Int)) (hdg : decode cc pc = .ok (.if_icmp .ge off, 3)) : SO Z K T hd mi pc (o_cmpge t (pc + 3)) := by
  refine SO.of fun ls st G x h => ?_
  unfold o_cmpge at h
  split at h
  · split at h <;> cases h
    · rename_i hc
      exact fun d q hv => VV.same hM hv (fun _ _ _ _ _ _ _ _ _ _ _ _ _ _ _ C _ _ _ _ _ hl k => lv_icmp_ge C.1 C.2.1 hdg ht (fun _ => k _ hl) (fun z => absurd hc z))
    · rename_i hc
      exact fun d q hv => VV.same hM hv (fun _ _ _ _ _ _ _ _ _ _ _ _ _ _ _ C _ _ _ _ _ hl k => lv_icmp_ge C.1 C.2.1 hdg ht (fun z => absurd z hc) (fun _ => k _ hl))
  · cases h
theorem so_cmpgt (hM : T mi = (own, nm, cc, mx, rt, hh, S)) {off : Int} {t : Nat} (ht : (pc : Int) + off = (t : Int)) (hdg : decode cc pc = .ok (.if_icmp .gt off, 3)) : SO Z K T hd mi pc (o_cmpgt t (pc + 3)) := by
  refine SO.of fun ls st G x h => ?_
  unfold o_cmpgt at h
  split at h
  · split at h <;> cases h
    · rename_i hc
      exact fun d q hv => VV.same hM hv (fun _ _ _ _ _ _ _ _ _ _ _ _ _ _ _ C _ _ _ _ _ hl k => lv_icmp_gt C.1 C.2.1 hdg ht (fun _ => k _ hl) (fun z => absurd hc z))
    · rename_i hc
      exact fun d q hv => VV.same hM hv (fun _ _ _ _ _ _ _ _ _ _ _ _ _ _ _ C _ _ _ _ _ hl k => lv_icmp_gt C.1 C.2.1 hdg ht (fun z => absurd z hc) (fun _ => k _ hl))
  · cases h
theorem so_cmple (hM : T mi = (own, nm, cc, mx, rt, hh, S)) {off : Int} {t : Nat} (ht : (pc : Int) + off = (t : Int)) (hdg : decode cc pc = .ok (.if_icmp .le off, 3)) : SO Z K T hd mi pc (o_cmple t (pc + 3)) := by
  refine SO.of fun ls st G x h => ?_
  unfold o_cmple at h
  split at h
  · split at h <;> cases h
    · rename_i hc
      exact fun d q hv => VV.same hM hv (fun _ _ _ _ _ _ _ _ _ _ _ _ _ _ _ C _ _ _ _ _ hl k => lv_icmp_le C.1 C.2.1 hdg ht (fun _ => k _ hl) (fun z => absurd hc z))
    · rename_i hc
      exact fun d q hv => VV.same hM hv (fun _ _ _ _ _ _ _ _ _ _ _ _ _ _ _ C _ _ _ _ _ hl k => lv_icmp_le C.1 C.2.1 hdg ht (fun z => absurd z hc) (fun _ => k _ hl))
  · cases h
theorem so_acmpne (hM : T mi = (own, nm, cc, mx, rt, hh, S)) {off : Int} {t : Nat} (ht : (pc : Int) + off = (t : Int)) (hdg : decode cc pc = .ok (.if_acmp .ne off, 3)) : SO Z K T hd mi pc (o_acmpne t (pc + 3)) := by
  refine SO.of fun ls st G x h => ?_
  unfold o_acmpne at h
  split at h
  · split at h <;> cases h
    · rename_i b a r hc
      exact fun d q hv => VV.same hM hv (fun _ _ _ _ _ _ _ _ _ _ _ _ _ _ _ C _ _ _ _ _ hl k => lv_acmp_ne (rx := some a) (ry := some b) C.1 C.2.1 hdg ht (fun z => absurd (congrArg some hc) z) (fun _ => k _ hl))
    · rename_i b a r hc
      exact fun d q hv => VV.same hM hv (fun _ _ _ _ _ _ _ _ _ _ _ _ _ _ _ C _ _ _ _ _ hl k => lv_acmp_ne (rx := some a) (ry := some b) C.1 C.2.1 hdg ht (fun _ => k _ hl) (fun z => absurd z (fun z => hc (Option.some.inj z))))
  · cases h
    rename_i a r
    exact fun d q hv => VV.same hM hv (fun _ _ _ _ _ _ _ _ _ _ _ _ _ _ _ C _ _ _ _ _ hl k => lv_acmp_ne (rx := some a) (ry := none) C.1 C.2.1 hdg ht (fun _ => k _ hl) (fun z => absurd z (fun z => by cases z)))
  · cases h
    rename_i b r
    exact fun d q hv => VV.same hM hv (fun _ _ _ _ _ _ _ _ _ _ _ _ _ _ _ C _ _ _ _ _ hl k => lv_acmp_ne (rx := none) (ry := some b) C.1 C.2.1 hdg ht (fun _ => k _ hl) (fun z => absurd z (fun z => by cases z)))
  · cases h
    exact fun d q hv => VV.same hM hv (fun _ _ _ _ _ _ _ _ _ _ _ _ _ _ _ C _ _ _ _ _ hl k => lv_acmp_ne (rx := none) (ry := none) C.1 C.2.1 hdg ht (fun z => absurd rfl z) (fun _ => k _ hl))
  · cases h
theorem so_acmpeq (hM : T mi = (own, nm, cc, mx, rt, hh, S)) {off : Int} {t : Nat} (ht : (pc : Int) + off = (t : Int)) (hdg : decode cc pc = .ok (.if_acmp .eq off, 3)) : SO Z K T hd mi pc (o_acmpeq t (pc + 3)) := by
  refine SO.of fun ls st G x h => ?_
  unfold o_acmpeq at h
  split at h
  · split at h <;> cases h
    · rename_i b a r hc
      exact fun d q hv => VV.same hM hv (fun _ _ _ _ _ _ _ _ _ _ _ _ _ _ _ C _ _ _ _ _ hl k => lv_acmp_eq (rx := some a) (ry := some b) C.1 C.2.1 hdg ht (fun _ => k _ hl) (fun z => absurd (congrArg some hc) z))
    · rename_i b a r hc
      exact fun d q hv => VV.same hM hv (fun _ _ _ _ _ _ _ _ _ _ _ _ _ _ _ C _ _ _ _ _ hl k => lv_acmp_eq (rx := some a) (ry := some b) C.1 C.2.1 hdg ht (fun z => absurd z (fun z => hc (Option.some.inj z))) (fun _ => k _ hl))
  · cases h
    rename_i a r
    exact fun d q hv => VV.same hM hv (fun _ _ _ _ _ _ _ _ _ _ _ _ _ _ _ C _ _ _ _ _ hl k => lv_acmp_eq (rx := some a) (ry := none) C.1 C.2.1 hdg ht (fun z => absurd z (fun z => by cases z)) (fun _ => k _ hl))
  · cases h
    rename_i b r
    exact fun d q hv => VV.same hM hv (fun _ _ _ _ _ _ _ _ _ _ _ _ _ _ _ C _ _ _ _ _ hl k => lv_acmp_eq (rx := none) (ry := some b) C.1 C.2.1 hdg ht (fun z => absurd z (fun z => by cases z)) (fun _ => k _ hl))
  · cases h
    exact fun d q hv => VV.same hM hv (fun _ _ _ _ _ _ _ _ _ _ _ _ _ _ _ C _ _ _ _ _ hl k => lv_acmp_eq (rx := none) (ry := none) C.1 C.2.1 hdg ht (fun _ => k _ hl) (fun z => absurd rfl z))
  · cases h
theorem so_ifnonnull (hM : T mi = (own, nm, cc, mx, rt, hh, S)) {off : Int} {t : Nat} (ht : (pc : Int) + off = (t : Int)) (hdg : decode cc pc = .ok (.ifnonnull off, 3)) : SO Z K T hd mi pc (o_ifnonnull t (pc + 3)) := by
  refine SO.of fun ls st G x h => ?_
  unfold o_ifnonnull at h
  split at h <;> cases h
  · exact fun d q hv => VV.same hM hv (fun _ _ _ _ _ _ _ _ _ _ _ _ _ _ _ C _ _ _ _ _ hl k => lv_ifnonnull C.1 C.2.1 hdg ht (k _ hl))
  · exact fun d q hv => VV.same hM hv (fun _ _ _ _ _ _ _ _ _ _ _ _ _ _ _ C _ _ _ _ _ hl k => lv_ifnonnullN C.1 C.2.1 hdg (k _ hl))
theorem VV.fin {d : Nat} {ls : gL} {st : List Value} {v : Option Value} {G : gH} (hM : T mi = (own, nm, cc, mx, rt, hh, S)) (hnm : nm ≠ "law") (hch : rt = some .char → ∃ x, v = some (.int x) ∧ narrow .char (.int x) = .int x)
    (h : ∀ (p : Program) (e : Env) (R : Room) (s : State) (m : MethodId) (args : Array Value) (below : List Frame) (meth : Method) (c : Code) (H : Heap) (locs : List Loc) (arr : Array Slot),
      CXt Z K (own, nm, cc, mx, rt, hh, S) p s m args meth c → (∀ t : State, t.heap = H → s.WarmedH t.vm → QC Z rt (.inl v, G) args s (.returned v) t) → (∀ z ∈ locs, gNewA Z z.base) →
      W p Z.1 e R s m args below meth c H locs R.cells R.slots (MQ below (QC Z rt (.inl v, G)) args s R.cells R.slots (gNewA Z)) (F0 m pc arr st)) : VV Z K T d mi pc ls st G (.inl v, G) := by
  refine ⟨Nat.le_refl _, Nat.le_refl _, ?_⟩
  intro p e R s m args below meth c H locs cells slots arr Q C h1 h2 h3 h4 h5 h6 h7 h8 h9
  rw [hM] at C h8 h9
  dsimp only at h3 h4
  refine W.widen (k := R.cells) (n := R.slots) (by omega) (by omega) ?_
  rcases h9 with rfl | ⟨-, -, -, -, -, -, hn, -⟩
  · exact vx_ret (h p e R s m args below meth c H locs arr C (fun t ht _ => ⟨v, rfl, rfl, by rw [ht]; exact h5, hch⟩) h7)
  · exact absurd hn hnm
theorem so_iret (hM : T mi = (own, nm, cc, mx, rt, hh, S)) (hnm : nm ≠ "law") (hrt : rt = some .int) (hdg : decode cc pc = .ok (.ireturn, 1)) : SO Z K T hd mi pc (o_iret) := by
  refine SO.of fun ls st G x h => ?_
  unfold o_iret at h
  split at h <;> cases h
  exact fun d => VV.fin hM hnm (fun e1 => by rw [hrt] at e1; cases e1) (fun _ _ _ _ _ _ _ _ _ _ _ _ C hq hf => W.iret C.1 C.2.1 (C.2.2.1.trans hrt) hq hf hdg C.2.2.2.2.2.2.1)
theorem so_lret (hM : T mi = (own, nm, cc, mx, rt, hh, S)) (hnm : nm ≠ "law") (hrt : rt = some .long) (hdg : decode cc pc = .ok (.lreturn, 1)) : SO Z K T hd mi pc (o_lret) := by
  refine SO.of fun ls st G x h => ?_
  unfold o_lret at h
  split at h <;> cases h
  exact fun d => VV.fin hM hnm (fun e1 => by rw [hrt] at e1; cases e1) (fun _ _ _ _ _ _ _ _ _ _ _ _ C hq hf => W.lret C.1 C.2.1 (C.2.2.1.trans hrt) hq hf hdg C.2.2.2.2.2.2.1)
theorem so_fret (hM : T mi = (own, nm, cc, mx, rt, hh, S)) (hnm : nm ≠ "law") (hrt : rt = some .float) (hdg : decode cc pc = .ok (.freturn, 1)) : SO Z K T hd mi pc (o_fret) := by
  refine SO.of fun ls st G x h => ?_
  unfold o_fret at h
  split at h <;> cases h
  exact fun d => VV.fin hM hnm (fun e1 => by rw [hrt] at e1; cases e1) (fun _ _ _ _ _ _ _ _ _ _ _ _ C hq hf => W.fret C.1 C.2.1 (C.2.2.1.trans hrt) hq hf hdg C.2.2.2.2.2.2.1)
theorem so_dret (hM : T mi = (own, nm, cc, mx, rt, hh, S)) (hnm : nm ≠ "law") (hrt : rt = some .double) (hdg : decode cc pc = .ok (.dreturn, 1)) : SO Z K T hd mi pc (o_dret) := by
  refine SO.of fun ls st G x h => ?_
  unfold o_dret at h
  split at h <;> cases h
  exact fun d => VV.fin hM hnm (fun e1 => by rw [hrt] at e1; cases e1) (fun _ _ _ _ _ _ _ _ _ _ _ _ C hq hf => W.dret C.1 C.2.1 (C.2.2.1.trans hrt) hq hf hdg C.2.2.2.2.2.2.1)
theorem so_vret (hM : T mi = (own, nm, cc, mx, rt, hh, S)) (hnm : nm ≠ "law") (hrt : rt = none) (hdg : decode cc pc = .ok (.return_, 1)) : SO Z K T hd mi pc (o_vret) := by
  refine SO.of fun ls st G x h => ?_
  unfold o_vret at h
  split at h <;> cases h
  exact fun d => VV.fin hM hnm (fun e1 => by rw [hrt] at e1; cases e1) (fun _ _ _ _ _ _ _ _ _ _ _ _ C hq hf => W.vret C.1 C.2.1 (C.2.2.1.trans hrt) hq hf hdg C.2.2.2.2.2.2.1)
theorem so_zret (hM : T mi = (own, nm, cc, mx, rt, hh, S)) (hnm : nm ≠ "law") {ty : FieldType} (hrt : rt = some ty) (hdg : decode cc pc = .ok (.ireturn, 1)) : SO Z K T hd mi pc (o_zret ty) := by
  refine SO.of fun ls st G x h => ?_
  unfold o_zret at h
  split at h
  · split at h <;> cases h
    rename_i hn
    exact fun d => VV.fin hM hnm (fun e1 => by rw [hrt] at e1; cases e1; exact ⟨_, rfl, hn⟩) (fun _ _ _ _ _ _ _ _ _ _ _ _ C hq hf => W.zret C.1 C.2.1 (C.2.2.1.trans hrt) hn hq hf hdg C.2.2.2.2.2.2.1)
  · cases h
theorem so_aret (hM : T mi = (own, nm, cc, mx, rt, hh, S)) (hnm : nm ≠ "law") {ty : FieldType} (hrt : rt = some ty) (hty : (∃ n, ty = .object n) ∨ ∃ t, ty = .array t) (hdg : decode cc pc = .ok (.areturn, 1)) : SO Z K T hd mi pc (o_aret) := by
  refine SO.of fun ls st G x h => ?_
  unfold o_aret at h
  split at h <;> cases h
  · rename_i a
    exact fun d => VV.fin hM hnm (fun e1 => by rw [hrt] at e1; cases e1; rcases hty with ⟨_, q⟩ | ⟨_, q⟩ <;> cases q) (fun _ _ _ _ _ _ _ _ _ _ _ _ C hq hf => W.aret C.1 C.2.1 (C.2.2.1.trans hrt) hty (Or.inr ⟨a, rfl⟩) hq hf hdg C.2.2.2.2.2.2.1)
  · exact fun d => VV.fin hM hnm (fun e1 => by rw [hrt] at e1; cases e1; rcases hty with ⟨_, q⟩ | ⟨_, q⟩ <;> cases q) (fun _ _ _ _ _ _ _ _ _ _ _ _ C hq hf => W.aret C.1 C.2.1 (C.2.2.1.trans hrt) hty (Or.inl rfl) hq hf hdg C.2.2.2.2.2.2.1)
/-- the law's own end: a truth value; at the claim's end it is 1 -/
theorem so_lawret (hM : T mi = (own, nm, cc, mx, rt, hh, S)) (hdg : decode cc pc = .ok (.ireturn, 1)) (hrt : rt = some .boolean) : SO Z K T hd mi pc (o_zret .boolean) := by
  refine SO.of fun ls st G x h => ?_
  unfold o_zret at h
  split at h
  · split at h <;> cases h
    rename_i w hn
    intro d
    refine ⟨Nat.le_refl _, Nat.le_refl _, ?_⟩
    intro p e R s m args below meth c H locs cells slots arr Q C h1 h2 h3 h4 h5 h6 h7 h8 h9
    rw [hM] at C h8 h9
    dsimp only at h3 h4
    refine W.widen (k := R.cells) (n := R.slots) (by omega) (by omega) ?_
    rcases h9 with rfl | ⟨e1, e2, rfl, ⟨b, rfl⟩, hsz, hr, -, rfl⟩
    · exact vx_ret (W.zret C.1 C.2.1 (C.2.2.1.trans hrt) hn (fun t ht _ => ⟨_, rfl, rfl, by rw [ht]; exact h5, fun e1 => by rw [hrt] at e1; cases e1⟩) h7 hdg C.2.2.2.2.2.2.1)
    · dsimp only at hr
      cases hr
      refine va_forget (fun q hq => by rw [hsz]; exact h7 q hq) ?_
      dsimp only at e1 e2
      exact lw_ret C.1 (C.2.1.trans e1) (C.2.2.1.trans e2) C.2.2.2.2.2.2.1 (by rw [← e1]; exact hdg)
  · cases h
end
