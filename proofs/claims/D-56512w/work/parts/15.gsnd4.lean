/-! SOUNDNESS 4: fields, objects, arrays, constants -/
set_option maxRecDepth 100000
section
variable {Z : gZ} {K : gK} {T : Nat → gMd} {hd : Nat → Nat → Nat → Option (Option Int32)} {mi pc : Nat} {own nm : String} {cc : ByteArray} {mx : Nat} {rt : Option FieldType} {hh : List (Nat × Nat × Nat × Nat)} {S : Nat → Bool}
theorem CXt.kn {M : gMd} {p : Program} {s : State} {m : MethodId} {args : Array Value} {meth : Method} {c : Code} (C : CXt Z K M p s m args meth c) : Kn Z K s := C.2.2.2.2.2.2.2.2.2.1
theorem CXt.ow {M : gMd} {p : Program} {s : State} {m : MethodId} {args : Array Value} {meth : Method} {c : Code} (C : CXt Z K M p s m args meth c) : s.vm.findClass M.1 = some m.cls := C.2.2.2.2.1
theorem CXt.hts {M : gMd} {p : Program} {s : State} {m : MethodId} {args : Array Value} {meth : Method} {c : Code} (C : CXt Z K M p s m args meth c) : ∀ w ∈ lw_all, w.before args s = true := C.2.2.2.2.2.1
theorem CXt.locks {M : gMd} {p : Program} {s : State} {m : MethodId} {args : Array Value} {meth : Method} {c : Code} (C : CXt Z K M p s m args meth c) : meth.locks = false := C.2.2.2.2.2.2.1
theorem CXt.name {M : gMd} {p : Program} {s : State} {m : MethodId} {args : Array Value} {meth : Method} {c : Code} (C : CXt Z K M p s m args meth c) : meth.name = M.2.1 := C.2.2.2.2.2.2.2.1.1
theorem CXt.base {M : gMd} {p : Program} {s : State} {m : MethodId} {args : Array Value} {meth : Method} {c : Code} (C : CXt Z K M p s m args meth c) : (gZB Z).size ≤ s.heap.size := C.2.2.2.2.2.2.2.2.2.2.1
theorem CXt.old {M : gMd} {p : Program} {s : State} {m : MethodId} {args : Array Value} {meth : Method} {c : Code} (C : CXt Z K M p s m args meth c) : ∀ q, q < (gZB Z).size → ¬ gNewA Z q → s.heap[q]? = (gZB Z)[q]? := fun q h _ => C.2.2.2.2.2.2.2.2.2.2.2 q h
theorem CXt.va {M : gMd} {p : Program} {s : State} {m : MethodId} {args : Array Value} {meth : Method} {c : Code} (C : CXt Z K M p s m args meth c) : va_K (gZD Z) gcl (gtys Z) s := C.kn.1
theorem CXt.nw {M : gMd} {p : Program} {s : State} {m : MethodId} {args : Array Value} {meth : Method} {c : Code} (C : CXt Z K M p s m args meth c) {w : Cond} (hw : w ∈ lw_tbl) (hk : gnwKind w = true) : va_Nw w s := C.kn.2.1 w (gnw_of hw hk)
theorem gS_of {M : gMd} {p : Program} {s : State} {m : MethodId} {args : Array Value} {meth : Method} {c : Code} {G : gH} {H : Heap} {locs : List Loc} (C : CXt Z K M p s m args meth c) (hH : HW Z G H) (hs : s.heap.size ≤ H.size) (hl : ∀ z ∈ locs, (gZB Z).size ≤ z.base) : va_S (gNewA Z) s.heap H locs := by
  refine ⟨hs, fun q _ h2 => ?_, hl⟩
  have hq : q < (gZB Z).size := Nat.not_le.mp h2
  rw [hH.2.2.1 q hq]
  exact (C.old q hq h2).symm
theorem gP1 {D : va_G} {cl : List vw_C} {q : Nat × va_E} {H : Heap} (h : va_at D cl q H) : va_P D cl [q] H := by
  intro k x hk
  have : k < 1 := (List.getElem?_eq_some_iff.mp hk).1
  rw [show k = 0 by omega] at hk
  cases hk
  exact h
theorem HW.obj {G : gH} {H : Heap} {a c : Nat} {fs : List Value} (h : HW Z G H) (ha : G.1 a = some (.inr (c, fs))) (hc : c < 13) : va_at (gZD Z) gcl (a, .inr (c, fs)) H := (h.2.2.2 a _ ha).2.obj hc
theorem HW.arr {G : gH} {H : Heap} {a t : Nat} {x : vp_A} (h : HW Z G H) (ha : G.1 a = some (.inl (t, x))) : va_P (gZD Z) gcl [(a, .inl (gZA Z t, x))] H := gP1 (h.2.2.2 a _ ha).2.2
/-- a step that writes a cell that has an entry -/
theorem VV.mem {d pc' : Nat} {ls : gL} {st st' : List Value} {G G' : gH} {r : gO} (hM : T mi = (own, nm, cc, mx, rt, hh, S)) (hv : VV Z K T d mi pc' ls st' G' r) (hG : G'.2 = G.2)
    (h : ∀ (p : Program) (e : Env) (R : Room) (s : State) (m : MethodId) (args : Array Value) (below : List Frame) (meth : Method) (c : Code) (H : Heap) (locs : List Loc) (cells slots : Nat) (arr : Array Slot) (Q : State → Prop),
      CXt Z K (own, nm, cc, mx, rt, hh, S) p s m args meth c → FR d ≤ R.frames → LR d ≤ R.locals → HW Z G H → s.heap.size ≤ H.size → (∀ z ∈ locs, (gZB Z).size ≤ z.base) → arr.size = mx →
      (∀ (H1 : Heap) (locs1 : List Loc), HW Z G' H1 → H1.size = H.size → (∀ z ∈ locs1, (gZB Z).size ≤ z.base) → W p Z.1 e R s m args below meth c H1 locs1 cells slots Q (F0 m pc' arr st')) → W p Z.1 e R s m args below meth c H locs cells slots Q (F0 m pc arr st)) : VV Z K T d mi pc ls st G r := by
  refine ⟨by rw [← hG]; exact hv.1, by rw [← hG]; exact hv.2.1, ?_⟩
  intro p e R s m args below meth c H locs cells slots arr Q C h1 h2 h3 h4 h5 h6 h7 h8 h9
  have hv := hv.2.2
  have h8' := h8
  rw [hM] at C h8' h9
  refine h p e R s m args below meth c H locs cells slots arr Q C h1 h2 h5 h6 h7 h8'.1 (fun H1 locs1 hH hz hl => ?_)
  refine hv p e R s m args below meth c H1 locs1 cells slots arr Q ?_ h1 h2 (by rw [hG]; exact h3) (by rw [hG]; exact h4) hH (by omega) hl h8 ?_
  · rw [hM]; exact C
  · rw [hM]; exact h9
/-- a step that makes cells -/
theorem VV.alloc {d pc' : Nat} {ls : gL} {st st' : List Value} {G G' : gH} {r : gO} (dc ds : Nat) (hM : T mi = (own, nm, cc, mx, rt, hh, S)) (hv : VV Z K T d mi pc' ls st' G' r) (hG1 : G'.2.1 = G.2.1 + dc) (hG2 : G'.2.2 = G.2.2 + ds)
    (h : ∀ (p : Program) (e : Env) (R : Room) (s : State) (m : MethodId) (args : Array Value) (below : List Frame) (meth : Method) (c : Code) (H : Heap) (locs : List Loc) (cells slots : Nat) (arr : Array Slot) (Q : State → Prop),
      CXt Z K (own, nm, cc, mx, rt, hh, S) p s m args meth c → FR d ≤ R.frames → LR d ≤ R.locals → cells + dc ≤ R.cells → slots + ds ≤ R.slots → HW Z G H → s.heap.size ≤ H.size → (∀ z ∈ locs, (gZB Z).size ≤ z.base) → arr.size = mx →
      (∀ (H1 : Heap), HW Z G' H1 → H.size ≤ H1.size → W p Z.1 e R s m args below meth c H1 locs (cells + dc) (slots + ds) Q (F0 m pc' arr st')) → W p Z.1 e R s m args below meth c H locs cells slots Q (F0 m pc arr st)) : VV Z K T d mi pc ls st G r := by
  have k1 := hv.1
  have k2 := hv.2.1
  refine ⟨by omega, by omega, ?_⟩
  intro p e R s m args below meth c H locs cells slots arr Q C h1 h2 h3 h4 h5 h6 h7 h8 h9
  have hv := hv.2.2
  have h8' := h8
  rw [hM] at C h8' h9
  refine h p e R s m args below meth c H locs cells slots arr Q C h1 h2 (by omega) (by omega) h5 h6 h7 h8'.1 (fun H1 hH hz => ?_)
  refine hv p e R s m args below meth c H1 locs (cells + dc) (slots + ds) arr Q ?_ h1 h2 (by omega) (by omega) hH (by omega) h7 h8 ?_
  · rw [hM]; exact C
  · rw [hM]; exact h9
theorem g_gf_some {G : gH} {a c k : Nat} {v : Value} (h : g_gf G a c k = some v) : ∃ fs, G.1 a = some (.inr (c, fs)) ∧ fs[k]? = some v := by
  unfold g_gf at h
  split at h
  · split at h
    · rename_i c' fs h1 h2
      subst h2
      exact ⟨fs, h1, h⟩
    · cases h
  · cases h
theorem g_pf_some {G G' : gH} {a c k : Nat} {v : Value} (h : g_pf G a c k v = some G') : ∃ fs, G.1 a = some (.inr (c, fs)) ∧ k < fs.length ∧ G' = gset G a (.inr (c, fs.set k v)) := by
  unfold g_pf at h
  split at h
  · split at h
    · rename_i c' fs h1 h2
      obtain ⟨rfl, h3⟩ := h2
      cases h
      exact ⟨fs, h1, h3, rfl⟩
    · cases h
  · cases h
theorem so_getf (hM : T mi = (own, nm, cc, mx, rt, hh, S)) {C0 ref : String} {Tf : u_T} {N c k index : Nat} (hc : gcl[c]? = some (C0, Tf, N)) (hc13 : c < 13) (hk : k < N) (hin : ∀ w ∈ u_ws C0 Tf N, w ∈ lw_all) (hw : Cond.fieldLink own index ref (Tf k).2.1 (Tf k).2.2.1 ∈ lw_all)
    (hsame : ∀ (s : State) (args : Array Value), (∀ w ∈ lw_all, w.before args s = true) → ∀ x, s.fieldFound? (Tf k).1 (Tf k).2.1 (Tf k).2.2.1 = some x → s.fieldFound? ref (Tf k).2.1 (Tf k).2.2.1 = some x) (hdg : decode cc pc = .ok (.getfield index, 3)) : SO Z K T hd mi pc (o_getf c k (pc + 3)) := by
  refine SO.of fun ls st G x h => ?_
  unfold o_getf at h
  split at h
  · split at h <;> cases h
    rename_i a r v hv
    obtain ⟨fs, h1, h2⟩ := g_gf_some hv
    exact fun d q hv => VV.same hM hv (fun _ _ _ s _ args _ _ _ H _ _ _ _ _ C _ _ hH _ _ hl kk => va_get (T := Tf) C.1 C.2.1 C.hts hin C.ow C.va (gP1 (hH.obj h1 hc13)) 0 rfl hc k hk (C.hts _ hw) (hsame s args C.hts) h2 hdg (kk _ hl))
  · cases h
theorem so_getfN (hM : T mi = (own, nm, cc, mx, rt, hh, S)) {C0 ref host : String} {Tf : u_T} {N c k index : Nat} (hc : gcl[c]? = some (C0, Tf, N)) (hc13 : c < 13) (hk : k < N) (hin : ∀ w ∈ u_ws C0 Tf N, w ∈ lw_all) (hw : Cond.fieldLinkNest own index ref (Tf k).2.1 (Tf k).2.2.1 host ∈ lw_tbl)
    (hsame : ∀ (s : State) (args : Array Value), (∀ w ∈ lw_all, w.before args s = true) → ∀ x, s.fieldFound? (Tf k).1 (Tf k).2.1 (Tf k).2.2.1 = some x → s.fieldFound? ref (Tf k).2.1 (Tf k).2.2.1 = some x) (hdg : decode cc pc = .ok (.getfield index, 3)) : SO Z K T hd mi pc (o_getf c k (pc + 3)) := by
  refine SO.of fun ls st G x h => ?_
  unfold o_getf at h
  split at h
  · split at h <;> cases h
    rename_i a r v hv
    obtain ⟨fs, h1, h2⟩ := g_gf_some hv
    exact fun d q hv => VV.same hM hv (fun _ _ _ s _ args _ _ _ H _ _ _ _ _ C _ _ hH _ _ hl kk => va_getN (T := Tf) C.1 C.2.1 C.hts hin C.ow C.va (gP1 (hH.obj h1 hc13)) 0 rfl hc k hk (va_Nw.use rfl (C.nw hw rfl)) (hsame s args C.hts) h2 hdg (kk _ hl))
  · cases h
end
section
variable {p : Program} {l : Launch} {e : Env} {R : Room} {s : State} {m : MethodId} {args : Array Value} {below : List Frame} {meth : Method} {c : Code} {H : Heap} {locs : List Loc} {cells slots : Nat} {Q : State → Prop}
variable {cc : ByteArray} {pc : Nat} {ls : Array Slot} {rest : List Value} {D : va_G} {cl : List vw_C} {a : Nat} {tys : List (ClassId × FieldType)}
/-- a field written: its cell anew, all else as before -/
theorem gw_put (hexec : p.tables.exec = Jvm.exec) (hb : c.code = cc) {own ref C : String} {T : u_T} {N ci index : Nat} {Ts : List Cond} (hts : ∀ w ∈ Ts, w.before args s = true) (hin : ∀ w ∈ u_ws C T N, w ∈ Ts) (ty0 : Nat → FieldType) (hty : ∀ k, k < N → parseFieldDescriptor (T k).2.2.1 = some (ty0 k)) (hnm : ∀ a, a < N → ∀ b, b < N → a ≠ b → (T a).2.1 ≠ (T b).2.1) (hown : s.vm.findClass own = some m.cls) (hK : va_K D cl tys s) {fs : List Value} (he : va_at D cl (a, .inr (ci, fs)) H) (hc : cl[ci]? = some (C, T, N)) (k : Nat) (hk : k < N)
    (hlink : (Cond.fieldLink own index ref (T k).2.1 (T k).2.2.1).before args s = true ∨ ∃ host, (Cond.fieldLinkNest own index ref (T k).2.1 (T k).2.2.1 host).before args s = true) (hsame : ∀ x, s.fieldFound? (T k).1 (T k).2.1 (T k).2.2.1 = some x → s.fieldFound? ref (T k).2.1 (T k).2.2.1 = some x) (hfin : (T k).2.2.2 = false) {ty : FieldType} {v : Value} (hd : parseFieldDescriptor (T k).2.2.1 = some ty) (hn : narrow ty v = v) (hfit : fits ty v = true) (hl : k < fs.length)
    (hdg : decode cc pc = .ok (.putfield index, 3)) (kk : ∀ (H1 : Heap) (j : Nat), va_at D cl (a, .inr (ci, fs.set k v)) H1 → H1.size = H.size → (∀ q : Nat, q ≠ a → H1[q]? = H[q]?) → W p l e R s m args below meth c H1 (locs ++ [⟨a, j⟩]) cells slots Q (F0 m (pc + 3) ls rest)) : W p l e R s m args below meth c H locs cells slots Q (F0 m pc ls (v :: .ref a :: rest)) := by
  have hap := va_apart (own := own) hts hin ty0 hty hnm hK hc
  obtain ⟨r, h1, cell, q1, q2, q3, q4⟩ := he
  have hr : r = (C, T, N) := Option.some.inj (h1.symm.trans hc)
  subst hr
  obtain ⟨hS, hfc, kC, hkC, hkind⟩ := hK.1 ci _ hc
  obtain ⟨cf, kf, fi, f, hi, hsl⟩ := hS k hk
  have hlay := hts _ (hin _ (u_in_lay hk))
  unfold u_lay at hlay
  rw [if_neg (by rw [hfin]; decide)] at hlay
  have hst := (u_facts hfc hkC (u_lays hts hin hk) hi).1
  have h6 := u_store hfc hkC hkind hlay hi hd hn hfit
  rcases hlink with hlink | ⟨host, hlink⟩
  · refine W.putK hexec hb (f := f) ⟨hown, hlink, ⟨_, _, _, hsame _ hi⟩, hst⟩ (by rw [q2]; exact h6) q1 q3 (by rw [hsl]; exact k2_hasslot (q4 k hk)) rfl rfl hdg fun H' e1 e2 e3 => ?_
    rw [hsl] at e1 ⊢
    exact kk H' _ ⟨_, hc, t_OB.to (V := updV (vp_V fs) k v) ⟨_, e1, q2, q3, t_set q4 hap hk v⟩ (fun j _ => vp_updV_set hl v j)⟩ e2 e3
  · refine va_WputK hexec hb (f := f) hown hlink (hsame _ hi) hst (by rw [q2]; exact h6) q1 q3 (by rw [hsl]; exact k2_hasslot (q4 k hk)) rfl rfl hdg fun H' e1 e2 e3 => ?_
    rw [hsl] at e1 ⊢
    exact kk H' _ ⟨_, hc, t_OB.to (V := updV (vp_V fs) k v) ⟨_, e1, q2, q3, t_set q4 hap hk v⟩ (fun j _ => vp_updV_set hl v j)⟩ e2 e3
/-- a final field, in its class's constructor -/
theorem gw_putF (hexec : p.tables.exec = Jvm.exec) (hb : c.code = cc) {own ref C : String} {T : u_T} {N ci index : Nat} {Ts : List Cond} (hts : ∀ w ∈ Ts, w.before args s = true) (hin : ∀ w ∈ u_ws C T N, w ∈ Ts) (ty0 : Nat → FieldType) (hty : ∀ k, k < N → parseFieldDescriptor (T k).2.2.1 = some (ty0 k)) (hnm : ∀ a, a < N → ∀ b, b < N → a ≠ b → (T a).2.1 ≠ (T b).2.1) (hown : s.vm.findClass own = some m.cls) (hK : va_K D cl tys s) {fs : List Value} (he : va_at D cl (a, .inr (ci, fs)) H) (hc : cl[ci]? = some (C, T, N)) (k : Nat) (hk : k < N)
    (hlink : (Cond.fieldLink own index ref (T k).2.1 (T k).2.2.1).before args s = true) (hsame : ∀ x, s.fieldFound? (T k).1 (T k).2.1 (T k).2.2.1 = some x → s.fieldFound? ref (T k).2.1 (T k).2.2.1 = some x) (hfin : (T k).2.2.2 = true) (hin2 : meth.name = "<init>") (hdecl : (T k).1 = own) {ty : FieldType} {v : Value} (hd : parseFieldDescriptor (T k).2.2.1 = some ty) (hn : narrow ty v = v) (hfit : fits ty v = true) (hl : k < fs.length)
    (hdg : decode cc pc = .ok (.putfield index, 3)) (kk : ∀ (H1 : Heap) (j : Nat), va_at D cl (a, .inr (ci, fs.set k v)) H1 → H1.size = H.size → (∀ q : Nat, q ≠ a → H1[q]? = H[q]?) → W p l e R s m args below meth c H1 (locs ++ [⟨a, j⟩]) cells slots Q (F0 m (pc + 3) ls rest)) : W p l e R s m args below meth c H locs cells slots Q (F0 m pc ls (v :: .ref a :: rest)) := by
  have hap := va_apart (own := own) hts hin ty0 hty hnm hK hc
  obtain ⟨r, h1, cell, q1, q2, q3, q4⟩ := he
  have hr : r = (C, T, N) := Option.some.inj (h1.symm.trans hc)
  subst hr
  obtain ⟨hS, hfc, kC, hkC, hkind⟩ := hK.1 ci _ hc
  obtain ⟨cf, kf, fi, f, hi, hsl⟩ := hS k hk
  have hlay := hts _ (hin _ (u_in_lay hk))
  unfold u_lay at hlay
  rw [if_pos hfin] at hlay
  have hst := (u_facts hfc hkC (u_lays hts hin hk) hi).1
  have hcf : m.cls = cf := by
    obtain ⟨_, _, c', _, _, _, -, -, hf', -, -, -, hown2, -⟩ := Cond.laysFinal_spec hlay
    have e1 : c' = cf := by have := hi.symm.trans hf'; simp at this; exact this.1.symm
    rw [hdecl] at hown2
    rw [← e1]; exact Option.some.inj (hown.symm.trans hown2)
  have h6 := u_fits hfc hkC hkind (Or.inr hlay) hi hd hn hfit
  refine W.putFinK hexec hb hown hlink (hsame _ hi) hst hcf hin2 (by rw [q2]; exact h6) q1 q3 (by rw [hsl]; exact k2_hasslot (q4 k hk)) rfl rfl hdg fun H' e1 e2 e3 => ?_
  rw [hsl] at e1 ⊢
  exact kk H' _ ⟨_, hc, t_OB.to (V := updV (vp_V fs) k v) ⟨_, e1, q2, q3, t_set q4 hap hk v⟩ (fun j _ => vp_updV_set hl v j)⟩ e2 e3
end
section
variable {Z : gZ} {K : gK} {T : Nat → gMd} {hd : Nat → Nat → Nat → Option (Option Int32)} {mi pc : Nat} {own nm : String} {cc : ByteArray} {mx : Nat} {rt : Option FieldType} {hh : List (Nat × Nat × Nat × Nat)} {S : Nat → Bool}
theorem gAt.of {a c : Nat} {fs : List Value} {H : Heap} (hc : c < 13) (h : va_at (gZD Z) gcl (a, .inr (c, fs)) H) : gAt Z a (.inr (c, fs)) H := by
  unfold gAt
  dsimp only
  rw [if_pos hc]
  exact h
theorem glocs {locs : List Loc} {a j : Nat} (h : ∀ z ∈ locs, (gZB Z).size ≤ z.base) (ha : (gZB Z).size ≤ a) : ∀ z ∈ locs ++ [(⟨a, j⟩ : Loc)], (gZB Z).size ≤ z.base := by
  intro z hz
  rcases List.mem_append.mp hz with q | q
  · exact h z q
  · rcases List.mem_singleton.mp q with rfl
    exact ha
theorem so_putf (hM : T mi = (own, nm, cc, mx, rt, hh, S)) {C0 ref : String} {Tf : u_T} {N c k index : Nat} {ty : FieldType} (hc : gcl[c]? = some (C0, Tf, N)) (hc13 : c < 13) (hk : k < N) (hin : ∀ w ∈ u_ws C0 Tf N, w ∈ lw_all) (ty0 : Nat → FieldType) (hty : ∀ k, k < N → parseFieldDescriptor (Tf k).2.2.1 = some (ty0 k)) (hnm : ∀ a, a < N → ∀ b, b < N → a ≠ b → (Tf a).2.1 ≠ (Tf b).2.1) (hdd : parseFieldDescriptor (Tf k).2.2.1 = some ty)
    (hw : Cond.fieldLink own index ref (Tf k).2.1 (Tf k).2.2.1 ∈ lw_all ∨ ∃ host, Cond.fieldLinkNest own index ref (Tf k).2.1 (Tf k).2.2.1 host ∈ lw_tbl)
    (hsame : ∀ (s : State) (args : Array Value), (∀ w ∈ lw_all, w.before args s = true) → ∀ x, s.fieldFound? (Tf k).1 (Tf k).2.1 (Tf k).2.2.1 = some x → s.fieldFound? ref (Tf k).2.1 (Tf k).2.2.1 = some x) (hfin : (Tf k).2.2.2 = false) (hdg : decode cc pc = .ok (.putfield index, 3)) : SO Z K T hd mi pc (o_putf c k ty (pc + 3)) := by
  refine SO.of fun ls st G x h => ?_
  unfold o_putf at h
  split at h
  · split at h
    · split at h <;> cases h
      rename_i v a r hf _ G' hv
      obtain ⟨fs, h1, h2, rfl⟩ := g_pf_some hv
      refine fun d q hv => VV.mem hM hv rfl (fun _ _ _ s _ args _ _ _ H locs _ _ _ _ C _ _ hH hs hlo _ kk => ?_)
      refine gw_put C.1 C.2.1 C.hts hin ty0 hty hnm C.ow C.va (hH.obj h1 hc13) hc k hk ?_ (hsame s args C.hts) hfin hdd hf.1 hf.2 h2 hdg (fun H1 j e1 e2 e3 => kk H1 _ (hH.set h1 e2 e3 (gAt.of hc13 e1)) e2 (glocs hlo (hH.2.2.2 a _ h1).1))
      rcases hw with hw | ⟨host, hw⟩
      · exact Or.inl (C.hts _ hw)
      · exact Or.inr ⟨host, va_Nw.use rfl (C.nw hw rfl)⟩
    · cases h
  · cases h
theorem so_putfF (hM : T mi = (own, nm, cc, mx, rt, hh, S)) {C0 ref : String} {Tf : u_T} {N c k index : Nat} {ty : FieldType} (hc : gcl[c]? = some (C0, Tf, N)) (hc13 : c < 13) (hk : k < N) (hin : ∀ w ∈ u_ws C0 Tf N, w ∈ lw_all) (ty0 : Nat → FieldType) (hty : ∀ k, k < N → parseFieldDescriptor (Tf k).2.2.1 = some (ty0 k)) (hnm : ∀ a, a < N → ∀ b, b < N → a ≠ b → (Tf a).2.1 ≠ (Tf b).2.1) (hdd : parseFieldDescriptor (Tf k).2.2.1 = some ty)
    (hw : Cond.fieldLink own index ref (Tf k).2.1 (Tf k).2.2.1 ∈ lw_all)
    (hsame : ∀ (s : State) (args : Array Value), (∀ w ∈ lw_all, w.before args s = true) → ∀ x, s.fieldFound? (Tf k).1 (Tf k).2.1 (Tf k).2.2.1 = some x → s.fieldFound? ref (Tf k).2.1 (Tf k).2.2.1 = some x) (hfin : (Tf k).2.2.2 = true) (hini : nm = "<init>") (hdecl : (Tf k).1 = own) (hdg : decode cc pc = .ok (.putfield index, 3)) : SO Z K T hd mi pc (o_putf c k ty (pc + 3)) := by
  refine SO.of fun ls st G x h => ?_
  unfold o_putf at h
  split at h
  · split at h
    · split at h <;> cases h
      rename_i v a r hf _ G' hv
      obtain ⟨fs, h1, h2, rfl⟩ := g_pf_some hv
      refine fun d q hv => VV.mem hM hv rfl (fun _ _ _ s _ args _ _ _ H locs _ _ _ _ C _ _ hH hs hlo _ kk => ?_)
      exact gw_putF C.1 C.2.1 C.hts hin ty0 hty hnm C.ow C.va (hH.obj h1 hc13) hc k hk (C.hts _ hw) (hsame s args C.hts) hfin (C.name.trans hini) hdecl hdd hf.1 hf.2 h2 hdg (fun H1 j e1 e2 e3 => kk H1 _ (hH.set h1 e2 e3 (gAt.of hc13 e1)) e2 (glocs hlo (hH.2.2.2 a _ h1).1))
    · cases h
  · cases h
theorem so_new (hM : T mi = (own, nm, cc, mx, rt, hh, S)) {C0 : String} {Tf : u_T} {N c index : Nat} {fs : List Value} (hc : gcl[c]? = some (C0, Tf, N)) (hc13 : c < 13) (hin : ∀ w ∈ u_ws C0 Tf N, w ∈ lw_all) (ty0 : Nat → FieldType) (hty : ∀ k, k < N → parseFieldDescriptor (Tf k).2.2.1 = some (ty0 k)) (hw1 : Cond.classLink own index C0 ∈ lw_all) (hw2 : Cond.instantiable C0 N ∈ lw_all) (hw3 : Cond.initialized C0 ∈ lw_all)
    (hfs : ∀ j, j < N → defaultValue (ty0 j) = vp_V fs j) (hdg : decode cc pc = .ok (.new index, 3)) : SO Z K T hd mi pc (o_new c fs N (pc + 3)) := by
  refine SO.of fun ls st G x h => ?_
  cases h
  refine fun d q hv => VV.alloc 1 N hM hv rfl rfl (fun _ _ _ s _ args _ _ _ H locs _ _ _ _ C _ _ hce hsl hH hs hlo _ kk => ?_)
  have hKn := C.va.1 c _ hc
  refine W.newcK C.1 C.2.1 C.ow (C.hts _ hw1) (C.hts _ hw2) (C.hts _ hw3) rfl hdg hce hsl hKn.2.1 hH.1 fun H1 kC hkC e1 z1 o1 => ?_
  refine kk H1 (hH.new N (by rw [z1, hH.1]) (fun q hq => o1 q (by rw [← hH.1]; exact hq)) (gAt.of hc13 ⟨_, hc, ?_⟩)) (by rw [z1, hH.1]; omega)
  rw [hH.1]
  exact (u_born ty0 C.hts hin hKn hkC e1 hty).to hfs
end
