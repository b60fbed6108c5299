/-! SOUNDNESS 5: arrays, constants, casts (printed by mksnd5.py) -/
set_option maxRecDepth 100000
section
variable {Z : gZ} {K : gK} {T : Nat → gMd} {hd : Nat → Nat → Nat → Option (Option Int32)} {mi pc : Nat} {own nm : String} {cc : ByteArray} {mx : Nat} {rt : Option FieldType} {hh : List (Nat × Nat × Nat × Nat)} {S : Nat → Bool}
theorem gtys_at {t : Nat} (h : t < 10) : ∃ ty, (gtys Z)[t]? = some (gZA Z t, ty) := by
  match t, h with
  | 0, _ => exact ⟨_, rfl⟩
  | 1, _ => exact ⟨_, rfl⟩
  | 2, _ => exact ⟨_, rfl⟩
  | 3, _ => exact ⟨_, rfl⟩
  | 4, _ => exact ⟨_, rfl⟩
  | 5, _ => exact ⟨_, rfl⟩
  | 6, _ => exact ⟨_, rfl⟩
  | 7, _ => exact ⟨_, rfl⟩
  | 8, _ => exact ⟨_, rfl⟩
  | 9, _ => exact ⟨_, rfl⟩
  | t + 10, h => exact absurd h (by omega)
theorem g_ia_some {G : gH} {a t : Nat} {i : Int32} {x : Int32} (h : g_ia G a t i = some x) : ∃ (N : Nat) (f : Nat → Int32), G.1 a = some (.inl (t, N, .inl f)) ∧ ¬ (i < 0 ∨ N ≤ i.toNatClampNeg) ∧ x = f i.toNatClampNeg := by
  unfold g_ia at h
  split at h
  · split at h
    · rename_i t' N f h1 h2
      obtain ⟨rfl, h3⟩ := h2
      cases h
      exact ⟨N, f, h1, h3, rfl⟩
    · cases h
  · cases h
theorem g_la_some {G : gH} {a t : Nat} {i : Int32} {x : Int64} (h : g_la G a t i = some x) : ∃ (N : Nat) (f : Nat → Int64), G.1 a = some (.inl (t, N, .inr (.inl f))) ∧ ¬ (i < 0 ∨ N ≤ i.toNatClampNeg) ∧ x = f i.toNatClampNeg := by
  unfold g_la at h
  split at h
  · split at h
    · rename_i t' N f h1 h2
      obtain ⟨rfl, h3⟩ := h2
      cases h
      exact ⟨N, f, h1, h3, rfl⟩
    · cases h
  · cases h
theorem g_da_some {G : gH} {a t : Nat} {i : Int32} {x : UInt64} (h : g_da G a t i = some x) : ∃ (N : Nat) (f : Nat → UInt64), G.1 a = some (.inl (t, N, .inr (.inr (.inr (.inl f))))) ∧ ¬ (i < 0 ∨ N ≤ i.toNatClampNeg) ∧ x = f i.toNatClampNeg := by
  unfold g_da at h
  split at h
  · split at h
    · rename_i t' N f h1 h2
      obtain ⟨rfl, h3⟩ := h2
      cases h
      exact ⟨N, f, h1, h3, rfl⟩
    · cases h
  · cases h
theorem g_qa_some {G : gH} {a t : Nat} {i : Int32} {x : Option Nat} (h : g_qa G a t i = some x) : ∃ (N : Nat) (f : Nat → Option Nat), G.1 a = some (.inl (t, N, .inr (.inr (.inr (.inr f))))) ∧ ¬ (i < 0 ∨ N ≤ i.toNatClampNeg) ∧ x = f i.toNatClampNeg := by
  unfold g_qa at h
  split at h
  · split at h
    · rename_i t' N f h1 h2
      obtain ⟨rfl, h3⟩ := h2
      cases h
      exact ⟨N, f, h1, h3, rfl⟩
    · cases h
  · cases h
theorem g_is_some {G G' : gH} {a t : Nat} {i : Int32} {x : Int32} (h : g_is G a t i x = some G') : ∃ (N : Nat) (f : Nat → Int32), G.1 a = some (.inl (t, N, .inl f)) ∧ ¬ (i < 0 ∨ N ≤ i.toNatClampNeg) ∧ G' = gset G a (.inl (t, N, .inl (upd f i.toNatClampNeg x))) := by
  unfold g_is at h
  split at h
  · split at h
    · rename_i t' N f h1 h2
      obtain ⟨rfl, h3⟩ := h2
      cases h
      exact ⟨N, f, h1, h3, rfl⟩
    · cases h
  · cases h
theorem g_lst_some {G G' : gH} {a t : Nat} {i : Int32} {x : Int64} (h : g_lst G a t i x = some G') : ∃ (N : Nat) (f : Nat → Int64), G.1 a = some (.inl (t, N, .inr (.inl f))) ∧ ¬ (i < 0 ∨ N ≤ i.toNatClampNeg) ∧ G' = gset G a (.inl (t, N, gLo (vp_updL f i.toNatClampNeg x))) := by
  unfold g_lst at h
  split at h
  · split at h
    · rename_i t' N f h1 h2
      obtain ⟨rfl, h3⟩ := h2
      cases h
      exact ⟨N, f, h1, h3, rfl⟩
    · cases h
  · cases h
theorem g_ds_some {G G' : gH} {a t : Nat} {i : Int32} {x : UInt64} (h : g_ds G a t i x = some G') : ∃ (N : Nat) (f : Nat → UInt64), G.1 a = some (.inl (t, N, .inr (.inr (.inr (.inl f))))) ∧ ¬ (i < 0 ∨ N ≤ i.toNatClampNeg) ∧ G' = gset G a (.inl (t, N, gDo (vf_upd f i.toNatClampNeg x))) := by
  unfold g_ds at h
  split at h
  · split at h
    · rename_i t' N f h1 h2
      obtain ⟨rfl, h3⟩ := h2
      cases h
      exact ⟨N, f, h1, h3, rfl⟩
    · cases h
  · cases h
theorem g_qs_some {G G' : gH} {a t : Nat} {i : Int32} {x : Option Nat} (h : g_qs G a t i x = some G') : ∃ (N : Nat) (f : Nat → Option Nat), G.1 a = some (.inl (t, N, .inr (.inr (.inr (.inr f))))) ∧ ¬ (i < 0 ∨ N ≤ i.toNatClampNeg) ∧ G' = gset G a (.inl (t, N, gQ (va_up f i.toNatClampNeg x))) := by
  unfold g_qs at h
  split at h
  · split at h
    · rename_i t' N f h1 h2
      obtain ⟨rfl, h3⟩ := h2
      cases h
      exact ⟨N, f, h1, h3, rfl⟩
    · cases h
  · cases h
theorem so_iald (hM : T mi = (own, nm, cc, mx, rt, hh, S)) (hdg : decode cc pc = .ok (.iaload, 1)) : SO Z K T hd mi pc (o_iald 0 (pc + 1)) := by
  refine SO.of fun ls st G x h => ?_
  unfold o_iald at h
  split at h
  · split at h <;> cases h
    rename_i i a r _ v hv
    obtain ⟨N, f, h1, h2, rfl⟩ := g_ia_some hv
    exact fun d q hv => VV.same hM hv (fun _ _ _ s _ args _ _ _ H locs _ _ _ _ C _ _ hH hs hlo hl kk => va_iald C.1 C.2.1 C.va (hH.arr h1) 0 0 rfl rfl h2 hdg (kk _ hl))
  · cases h
theorem so_zald (hM : T mi = (own, nm, cc, mx, rt, hh, S)) (hdg : decode cc pc = .ok (.baload, 1)) : SO Z K T hd mi pc (o_iald 1 (pc + 1)) := by
  refine SO.of fun ls st G x h => ?_
  unfold o_iald at h
  split at h
  · split at h <;> cases h
    rename_i i a r _ v hv
    obtain ⟨N, f, h1, h2, rfl⟩ := g_ia_some hv
    exact fun d q hv => VV.same hM hv (fun _ _ _ s _ args _ _ _ H locs _ _ _ _ C _ _ hH hs hlo hl kk => va_zald C.1 C.2.1 C.va (hH.arr h1) 0 1 rfl rfl h2 hdg (kk _ hl))
  · cases h
theorem so_cald (hM : T mi = (own, nm, cc, mx, rt, hh, S)) (hdg : decode cc pc = .ok (.caload, 1)) : SO Z K T hd mi pc (o_iald 2 (pc + 1)) := by
  refine SO.of fun ls st G x h => ?_
  unfold o_iald at h
  split at h
  · split at h <;> cases h
    rename_i i a r _ v hv
    obtain ⟨N, f, h1, h2, rfl⟩ := g_ia_some hv
    exact fun d q hv => VV.same hM hv (fun _ _ _ s _ args _ _ _ H locs _ _ _ _ C _ _ hH hs hlo hl kk => va_cald C.1 C.2.1 C.va (hH.arr h1) 0 2 rfl rfl h2 hdg (kk _ hl))
  · cases h
theorem so_lald (hM : T mi = (own, nm, cc, mx, rt, hh, S)) (hdg : decode cc pc = .ok (.laload, 1)) : SO Z K T hd mi pc (o_lald (pc + 1)) := by
  refine SO.of fun ls st G x h => ?_
  unfold o_lald at h
  split at h
  · split at h <;> cases h
    rename_i i a r _ v hv
    obtain ⟨N, f, h1, h2, rfl⟩ := g_la_some hv
    exact fun d q hv => VV.same hM hv (fun _ _ _ s _ args _ _ _ H locs _ _ _ _ C _ _ hH hs hlo hl kk => va_lald C.1 C.2.1 C.va (hH.arr h1) 0 3 rfl rfl h2 hdg (kk _ hl))
  · cases h
theorem so_dald (hM : T mi = (own, nm, cc, mx, rt, hh, S)) (hdg : decode cc pc = .ok (.daload, 1)) : SO Z K T hd mi pc (o_dald (pc + 1)) := by
  refine SO.of fun ls st G x h => ?_
  unfold o_dald at h
  split at h
  · split at h <;> cases h
    rename_i i a r _ v hv
    obtain ⟨N, f, h1, h2, rfl⟩ := g_da_some hv
    exact fun d q hv => VV.same hM hv (fun _ _ _ s _ args _ _ _ H locs _ _ _ _ C _ _ hH hs hlo hl kk => va_dald C.1 C.2.1 C.va (hH.arr h1) 0 4 rfl rfl h2 hdg (kk _ hl))
  · cases h
theorem so_aaldo (hM : T mi = (own, nm, cc, mx, rt, hh, S)) (hdg : decode cc pc = .ok (.aaload, 1)) : SO Z K T hd mi pc (o_aald 5 (pc + 1)) := by
  refine SO.of fun ls st G x h => ?_
  unfold o_aald at h
  split at h
  · split at h <;> cases h
    rename_i i a r _ v hv
    obtain ⟨N, f, h1, h2, rfl⟩ := g_qa_some hv
    exact fun d q hv => VV.same hM hv (fun _ _ _ s _ args _ _ _ H locs _ _ _ _ C _ _ hH hs hlo hl kk => va_aldq C.1 C.2.1 C.va (hH.arr h1) 0 5 rfl rfl h2 hdg (kk _ hl))
  · cases h
theorem so_aaldh (hM : T mi = (own, nm, cc, mx, rt, hh, S)) (hdg : decode cc pc = .ok (.aaload, 1)) : SO Z K T hd mi pc (o_aald 6 (pc + 1)) := by
  refine SO.of fun ls st G x h => ?_
  unfold o_aald at h
  split at h
  · split at h <;> cases h
    rename_i i a r _ v hv
    obtain ⟨N, f, h1, h2, rfl⟩ := g_qa_some hv
    exact fun d q hv => VV.same hM hv (fun _ _ _ s _ args _ _ _ H locs _ _ _ _ C _ _ hH hs hlo hl kk => va_aldq C.1 C.2.1 C.va (hH.arr h1) 0 6 rfl rfl h2 hdg (kk _ hl))
  · cases h
theorem so_aaldv (hM : T mi = (own, nm, cc, mx, rt, hh, S)) (hdg : decode cc pc = .ok (.aaload, 1)) : SO Z K T hd mi pc (o_aald 7 (pc + 1)) := by
  refine SO.of fun ls st G x h => ?_
  unfold o_aald at h
  split at h
  · split at h <;> cases h
    rename_i i a r _ v hv
    obtain ⟨N, f, h1, h2, rfl⟩ := g_qa_some hv
    exact fun d q hv => VV.same hM hv (fun _ _ _ s _ args _ _ _ H locs _ _ _ _ C _ _ hH hs hlo hl kk => va_aldq C.1 C.2.1 C.va (hH.arr h1) 0 7 rfl rfl h2 hdg (kk _ hl))
  · cases h
theorem so_aaldi (hM : T mi = (own, nm, cc, mx, rt, hh, S)) (hdg : decode cc pc = .ok (.aaload, 1)) : SO Z K T hd mi pc (o_aald 8 (pc + 1)) := by
  refine SO.of fun ls st G x h => ?_
  unfold o_aald at h
  split at h
  · split at h <;> cases h
    rename_i i a r _ v hv
    obtain ⟨N, f, h1, h2, rfl⟩ := g_qa_some hv
    refine fun d q hv => VV.same hM hv (fun _ _ _ s _ args _ _ _ H locs _ _ _ _ C _ _ hH hs hlo hl kk => ?_)
    have hlt : i.toNatClampNeg < N := Nat.not_le.mp fun q => h2 (Or.inr q)
    exact W.aald (v := va_rf (f i.toNatClampNeg)) (ty := .array .int) C.1 C.2.1 (hH.arr h1 0 _ rfl) ((C.va.2 8 _ rfl).1 N (fun j => va_rf (f j))) rfl (fun q => by cases q) (by show ¬ (i < 0 ∨ (arrV _ _ _).slots.size ≤ _); rw [arrV_size]; exact h2) (by show (arrV _ _ _).slots[_]? = _; rw [arrV_read _ _ hlt]) rfl rfl hdg (kk _ hl)
  · cases h
theorem so_aaldz (hM : T mi = (own, nm, cc, mx, rt, hh, S)) (hdg : decode cc pc = .ok (.aaload, 1)) : SO Z K T hd mi pc (o_aald 9 (pc + 1)) := by
  refine SO.of fun ls st G x h => ?_
  unfold o_aald at h
  split at h
  · split at h <;> cases h
    rename_i i a r _ v hv
    obtain ⟨N, f, h1, h2, rfl⟩ := g_qa_some hv
    refine fun d q hv => VV.same hM hv (fun _ _ _ s _ args _ _ _ H locs _ _ _ _ C _ _ hH hs hlo hl kk => ?_)
    have hlt : i.toNatClampNeg < N := Nat.not_le.mp fun q => h2 (Or.inr q)
    exact W.aald (v := va_rf (f i.toNatClampNeg)) (ty := .array .boolean) C.1 C.2.1 (hH.arr h1 0 _ rfl) ((C.va.2 9 _ rfl).1 N (fun j => va_rf (f j))) rfl (fun q => by cases q) (by show ¬ (i < 0 ∨ (arrV _ _ _).slots.size ≤ _); rw [arrV_size]; exact h2) (by show (arrV _ _ _).slots[_]? = _; rw [arrV_read _ _ hlt]) rfl rfl hdg (kk _ hl)
  · cases h
theorem so_iast (hM : T mi = (own, nm, cc, mx, rt, hh, S)) (hdg : decode cc pc = .ok (.iastore, 1)) : SO Z K T hd mi pc (o_iast (pc + 1)) := by
  refine SO.of fun ls st G x h => ?_
  unfold o_iast at h
  split at h
  · split at h <;> cases h
    rename_i v i a r _ G9 hv
    obtain ⟨N, f, h1, h2, rfl⟩ := g_is_some hv
    refine fun d q hv => VV.mem hM hv rfl (fun _ _ _ s _ args _ _ _ H locs _ _ _ _ C _ _ hH hs hlo _ kk => ?_)
    refine W.iast C.1 C.2.1 (hH.arr h1 0 _ rfl) ((C.va.2 0 _ rfl).1 N (fun j => .int (f j))) (fun q => by cases q) (by show ¬ (i < 0 ∨ (arrV _ _ _).slots.size ≤ _); rw [arrV_size]; exact h2) rfl rfl hdg fun H1 e z oq => ?_
    refine kk H1 _ (hH.set h1 z oq ⟨by decide, ?_⟩) z (glocs hlo (hH.2.2.2 a _ h1).1)
    rw [e, vp_cell_i, vp_cell_i, arrV_store]
    congr 2
    funext q
    by_cases hq : q = i.toNatClampNeg
    · subst hq
      simp [updV, upd]
      try rfl
    · simp [updV, upd, hq]
  · cases h
theorem so_zast (hM : T mi = (own, nm, cc, mx, rt, hh, S)) (hdg : decode cc pc = .ok (.bastore, 1)) : SO Z K T hd mi pc (o_zast (pc + 1)) := by
  refine SO.of fun ls st G x h => ?_
  unfold o_zast at h
  split at h
  · split at h <;> cases h
    rename_i v i a r _ G9 hv
    obtain ⟨N, f, h1, h2, rfl⟩ := g_is_some hv
    refine fun d q hv => VV.mem hM hv rfl (fun _ _ _ s _ args _ _ _ H locs _ _ _ _ C _ _ hH hs hlo _ kk => ?_)
    refine W.zast C.1 C.2.1 (hH.arr h1 0 _ rfl) ((C.va.2 1 _ rfl).1 N (fun j => .int (f j))) (fun q => by cases q) (by show ¬ (i < 0 ∨ (arrV _ _ _).slots.size ≤ _); rw [arrV_size]; exact h2) rfl rfl hdg fun H1 e z oq => ?_
    refine kk H1 _ (hH.set h1 z oq ⟨by decide, ?_⟩) z (glocs hlo (hH.2.2.2 a _ h1).1)
    rw [e, vp_cell_i, vp_cell_i, arrV_store]
    congr 2
    funext q
    by_cases hq : q = i.toNatClampNeg
    · subst hq
      simp [updV, upd, vp_nar]
      try rfl
    · simp [updV, upd, hq]
  · cases h
theorem so_cast (hM : T mi = (own, nm, cc, mx, rt, hh, S)) (hdg : decode cc pc = .ok (.castore, 1)) : SO Z K T hd mi pc (o_cast (pc + 1)) := by
  refine SO.of fun ls st G x h => ?_
  unfold o_cast at h
  split at h
  · split at h <;> cases h
    rename_i v i a r _ G9 hv
    obtain ⟨N, f, h1, h2, rfl⟩ := g_is_some hv
    refine fun d q hv => VV.mem hM hv rfl (fun _ _ _ s _ args _ _ _ H locs _ _ _ _ C _ _ hH hs hlo _ kk => ?_)
    refine W.cast C.1 C.2.1 (hH.arr h1 0 _ rfl) ((C.va.2 2 _ rfl).1 N (fun j => .int (f j))) (fun q => by cases q) (by show ¬ (i < 0 ∨ (arrV _ _ _).slots.size ≤ _); rw [arrV_size]; exact h2) rfl rfl hdg fun H1 e z oq => ?_
    refine kk H1 _ (hH.set h1 z oq ⟨by decide, ?_⟩) z (glocs hlo (hH.2.2.2 a _ h1).1)
    rw [e, vp_cell_i, vp_cell_i, arrV_store]
    congr 2
    funext q
    by_cases hq : q = i.toNatClampNeg
    · subst hq
      simp [updV, upd, vp_nar]
      try rfl
    · simp [updV, upd, hq]
  · cases h
theorem so_last (hM : T mi = (own, nm, cc, mx, rt, hh, S)) (hdg : decode cc pc = .ok (.lastore, 1)) : SO Z K T hd mi pc (o_last (pc + 1)) := by
  refine SO.of fun ls st G x h => ?_
  unfold o_last at h
  split at h
  · split at h <;> cases h
    rename_i v i a r _ G9 hv
    obtain ⟨N, f, h1, h2, rfl⟩ := g_lst_some hv
    refine fun d q hv => VV.mem hM hv rfl (fun _ _ _ s _ args _ _ _ H locs _ _ _ _ C _ _ hH hs hlo _ kk => ?_)
    refine W.last C.1 C.2.1 (hH.arr h1 0 _ rfl) ((C.va.2 3 _ rfl).1 N (fun j => .long (f j))) (fun q => by cases q) (by show ¬ (i < 0 ∨ (arrV _ _ _).slots.size ≤ _); rw [arrV_size]; exact h2) rfl rfl hdg fun H1 e z oq => ?_
    refine kk H1 _ (hH.set h1 z oq ⟨by decide, ?_⟩) z (glocs hlo (hH.2.2.2 a _ h1).1)
    rw [e, vp_cell_l, vp_cell_l, arrV_store]
    congr 2
    funext q
    by_cases hq : q = i.toNatClampNeg
    · subst hq
      simp [updV, vp_updL]
      try rfl
    · simp [updV, vp_updL, hq]
  · cases h
theorem so_dast (hM : T mi = (own, nm, cc, mx, rt, hh, S)) (hdg : decode cc pc = .ok (.dastore, 1)) : SO Z K T hd mi pc (o_dast (pc + 1)) := by
  refine SO.of fun ls st G x h => ?_
  unfold o_dast at h
  split at h
  · split at h <;> cases h
    rename_i v i a r _ G9 hv
    obtain ⟨N, f, h1, h2, rfl⟩ := g_ds_some hv
    refine fun d q hv => VV.mem hM hv rfl (fun _ _ _ s _ args _ _ _ H locs _ _ _ _ C _ _ hH hs hlo _ kk => ?_)
    refine W.dast C.1 C.2.1 (hH.arr h1 0 _ rfl) ((C.va.2 4 _ rfl).1 N (fun j => .double (f j))) (fun q => by cases q) (by show ¬ (i < 0 ∨ (arrV _ _ _).slots.size ≤ _); rw [arrV_size]; exact h2) rfl rfl hdg fun H1 e z oq => ?_
    refine kk H1 _ (hH.set h1 z oq ⟨by decide, ?_⟩) z (glocs hlo (hH.2.2.2 a _ h1).1)
    rw [e, vp_cell_d, vp_cell_d, arrV_store]
    congr 2
    funext q
    by_cases hq : q = i.toNatClampNeg
    · subst hq
      simp [updV, vf_upd]
      try rfl
    · simp [updV, vf_upd, hq]
  · cases h
theorem so_alen (hM : T mi = (own, nm, cc, mx, rt, hh, S)) (hdg : decode cc pc = .ok (.arraylength, 1)) : SO Z K T hd mi pc (o_alen K (pc + 1)) := by
  refine SO.of fun ls st G x h => ?_
  unfold o_alen at h
  split at h
  · split at h
    · cases h
      rename_i a r _ t xx h1
      refine fun d q hv => VV.same hM hv (fun _ _ _ s _ args _ _ _ H locs _ _ _ _ C _ _ hH hs hlo hl kk => ?_)
      obtain ⟨ty, ht⟩ := gtys_at (Z := Z) (hH.2.2.2 a _ h1).2.1
      exact va_alen C.1 C.2.1 C.va (hH.arr h1) 0 t rfl ht rfl hdg (kk _ hl)
    · cases h
    · split at h <;> cases h
      rename_i hh0
      subst hh0
      refine fun d q hv => VV.same hM hv (fun _ _ _ s _ args _ _ _ H locs _ _ _ _ C _ _ hH hs hlo hl kk => ?_)
      exact va_tlen C.1 C.2.1 (C.kn.2.2.2.2.2.1.kept C.old) (gS_of C hH hs hlo) rfl hdg (kk _ hl)
  · cases h
theorem so_slen (hM : T mi = (own, nm, cc, mx, rt, hh, S)) (hdg : decode cc pc = .ok (.arraylength, 1)) : SO Z K T hd mi pc (o_slen K (pc + 1)) := by
  refine SO.of fun ls st G x h => ?_
  unfold o_slen at h
  split at h
  · split at h <;> cases h
    rename_i hh0
    subst hh0
    refine fun d q hv => VV.same hM hv (fun _ _ _ s _ args _ _ _ H locs _ _ _ _ C _ _ hH hs hlo hl kk => ?_)
    obtain ⟨-, -, -, -, -, -, -, -, k9, k10, -⟩ := C.kn
    exact va_slen (H0 := gZB Z) (A := gNewA Z) C.1 C.2.1 k9 k10 (fun q => absurd k10 (Nat.not_lt.mpr q)) ⟨Nat.le_trans C.base hs, fun q hq _ => hH.2.2.1 q hq, hlo⟩ hdg (kk _ hl)
  · cases h
theorem so_sld (hM : T mi = (own, nm, cc, mx, rt, hh, S)) (hdg : decode cc pc = .ok (.iaload, 1)) : SO Z K T hd mi pc (o_sld K (pc + 1)) := by
  refine SO.of fun ls st G x h => ?_
  unfold o_sld at h
  split at h
  · split at h <;> cases h
    rename_i hh0
    obtain ⟨rfl, h2⟩ := hh0
    refine fun d q hv => VV.same hM hv (fun _ _ _ s _ args _ _ _ H locs _ _ _ _ C _ _ hH hs hlo hl kk => ?_)
    obtain ⟨-, -, -, -, -, -, -, -, k9, k10, -⟩ := C.kn
    exact va_sld (H0 := gZB Z) (A := gNewA Z) C.1 C.2.1 k9 k10 (fun q => absurd k10 (Nat.not_lt.mpr q)) ⟨Nat.le_trans C.base hs, fun q hq _ => hH.2.2.1 q hq, hlo⟩ h2 hdg (kk _ hl)
  · cases h
theorem so_gets (hM : T mi = (own, nm, cc, mx, rt, hh, S)) {index : Nat} {ref : String} (i : Nat) (hi : i < 3) (hw : Cond.fieldLink own index "CuttingRoom$Rule" (gRuleF i) "LCuttingRoom$Rule;" ∈ lw_all) (hdg : decode cc pc = .ok (.getstatic index, 3)) : SO Z K T hd mi pc (o_push (.ref (K.2 i)) (pc + 3)) := by
  refine SO.of fun ls st G x h => ?_
  cases h
  exact fun d q hv => VV.same hM hv (fun _ _ _ s _ args _ _ _ H locs _ _ _ _ C _ _ hH hs hlo hl kk => va_gets C.1 C.2.1 ((C.kn.2.2.2.1 i hi).1.kept C.old) (gS_of C hH hs hlo) C.ow (C.hts _ hw) (fun _ h => h) hdg (kk _ hl))
theorem so_getsE (hM : T mi = (own, nm, cc, mx, rt, hh, S)) {index : Nat} (hw : Cond.fieldLink own index "java/util/ArrayList" "DEFAULTCAPACITY_EMPTY_ELEMENTDATA" "[Ljava/lang/Object;" ∈ lw_all) (hdg : decode cc pc = .ok (.getstatic index, 3)) : SO Z K T hd mi pc (o_push (.ref (K.2 3)) (pc + 3)) := by
  refine SO.of fun ls st G x h => ?_
  cases h
  exact fun d q hv => VV.same hM hv (fun _ _ _ s _ args _ _ _ H locs _ _ _ _ C _ _ hH hs hlo hl kk => va_gets C.1 C.2.1 (C.kn.2.2.2.2.1.kept C.old) (gS_of C hH hs hlo) C.ow (C.hts _ hw) (fun _ h => h) hdg (kk _ hl))
theorem so_letter (hM : T mi = (own, nm, cc, mx, rt, hh, S)) {index : Nat} {host : String} (hw : Cond.fieldLinkNest own index "CuttingRoom$Rule" "letter" "C" host ∈ lw_tbl) (hdg : decode cc pc = .ok (.getfield index, 3)) : SO Z K T hd mi pc (o_letter K (pc + 3)) := by
  have key : ∀ (i : Nat), i < 3 → ∀ (d : Nat) (ls : gL) (r : List Value) (G : gH) (q : gO), VV Z K T d mi (pc + 3) ls (.int (gRuleL i) :: r) G q → VV Z K T d mi pc ls (.ref (K.2 i) :: r) G q := by
    intro i hi d ls r G q hv
    refine VV.same hM hv (fun _ _ _ s _ args _ _ _ H locs _ _ _ _ C _ _ hH hs hlo hl kk => ?_)
    obtain ⟨cf, kf, fi, f, cell, q1, q2, q3, q4, q5, q6⟩ := (C.kn.2.2.2.1 i hi).2.1
    have hlt : K.2 i < (gZB Z).size := (Array.getElem?_eq_some_iff.mp q3).1
    exact va_Wgetf C.1 C.2.1 C.ow (va_Nw.use rfl (C.nw hw rfl)) q1 q2 ((hH.2.2.1 _ hlt).trans q3) q4 q5 rfl rfl hdg (kk _ hl)
  refine SO.of fun ls st G x h => ?_
  unfold o_letter at h
  split at h
  · split at h
    · cases h
      rename_i h0
      subst h0
      exact fun d q hv => key 0 (by decide) d _ _ _ _ hv
    · split at h
      · cases h
        rename_i h0
        subst h0
        exact fun d q hv => key 1 (by decide) d _ _ _ _ hv
      · split at h <;> cases h
        rename_i h0
        subst h0
        exact fun d q hv => key 2 (by decide) d _ _ _ _ hv
  · cases h
theorem g_cls_some {G : gH} {a c : Nat} (h : g_cls G a = some c) : ∃ fs, G.1 a = some (.inr (c, fs)) := by
  unfold g_cls at h
  split at h
  · cases h
    rename_i c fs h1
    exact ⟨fs, h1⟩
  · cases h
theorem HW.recv {G : gH} {H : Heap} {a c : Nat} {s : State} {q : vw_C} (hH : HW Z G H) (hK : va_K (gZD Z) gcl (gtys Z) s) (h : g_cls G a = some c) (hc13 : c < 13) (hc : gcl[c]? = some q) : ∃ cell : Cell, H[a]? = some cell ∧ cell.vm.isStatics = false ∧ s.vm.findClass q.1 = some cell.cls := by
  obtain ⟨fs, h1⟩ := g_cls_some h
  exact va_recv hK (gP1 (hH.obj h1 hc13)) (q0 := 0) hc rfl
theorem so_ccast (hM : T mi = (own, nm, cc, mx, rt, hh, S)) {c index : Nat} {q : vw_C} (hc13 : c < 13) (hc : gcl[c]? = some q) (hw : Cond.classLink own index q.1 ∈ lw_all) (hdg : decode cc pc = .ok (.checkcast index, 3)) : SO Z K T hd mi pc (o_ccast c (pc + 3)) := by
  refine SO.of fun ls st G x h => ?_
  unfold o_ccast at h
  split at h
  · cases h
    exact fun d q hv => VV.same hM hv (fun _ _ _ s _ args _ _ _ H locs _ _ _ _ C _ _ hH hs hlo hl kk => lv_castN C.1 C.2.1 hdg (kk _ hl))
  · split at h <;> cases h
    rename_i hcl
    refine fun d q9 hv => VV.same hM hv (fun _ _ _ s _ args _ _ _ H locs _ _ _ _ C _ _ hH hs hlo hl kk => ?_)
    exact va_castS C.1 C.2.1 C.ow (C.hts _ hw) ((C.va.1 c _ hc).2) (hH.recv C.va hcl hc13 hc) hdg (kk _ hl)
  · cases h
theorem so_objinit (hM : T mi = (own, nm, cc, mx, rt, hh, S)) {index : Nat} (hw : Cond.methodLink own index Lib.objectInit ∈ lw_all) (hw2 : Cond.instanceMethod Lib.objectInit ∈ lw_all) (hw3 : Cond.code Lib.objectInit ⟨#[0xb1]⟩ 1 none ∈ lw_all) (hdg : decode cc pc = .ok (.invokespecial index, 3)) : SO Z K T hd mi pc (o_objinit (pc + 3)) := by
  refine SO.of fun ls st G x h => ?_
  unfold o_objinit at h
  split at h
  · split at h <;> cases h
    rename_i hr
    refine fun d q hv => VV.same hM hv (fun _ _ R s _ args _ _ _ H locs _ _ _ _ C hfr hlr hH hs hlo hl kk => ?_)
    refine W.objInit C.1 C.2.1 C.ow (C.hts _ hw) (C.hts _ hw2) (C.hts _ hw3) rfl (by rw [C.2.2.2.1]; exact hl.1) rfl hdg ?_ ?_ (kk _ hl)
    · unfold FR at hfr; omega
    · unfold LR at hlr
      exact Nat.le_trans (Nat.add_le_add_right (lv_room hr) 12) (by omega)
  · cases h
end
