/-! PURE 6: methods as trees, 0 (printed by mkpure.py) -/
set_option maxRecDepth 100000
theorem q_1 {K : gK} (pc : Nat) : gP K 1 pc = ((gL_1 K).lookup pc).getD o_none := rfl
noncomputable def t_1_0_1 (K : gK) (d : Nat) (G28 : gH) : Option gO := some (.inl none, G28)
noncomputable def t_1_0_2 (K : gK) (d : Nat) (G20 : gH) (l0 : Nat) (G27 : gH) : Option gO := if narrow (.array (.object "CuttingRoom$Hindrance")) (.ref (G20.2.1)) = .ref (G20.2.1) ∧ fits (.array (.object "CuttingRoom$Hindrance")) (.ref (G20.2.1)) = true then wF G27 l0 0 4 (.ref (G20.2.1)) (t_1_0_1 K d) else none
noncomputable def t_1_0_3 (K : gK) (d : Nat) (G20 : gH) (l0 : Nat) (G26 : gH) : Option gO := if g_isLam K G26 (K.2 5) = true then yQ G26 G20.2.1 6 (6 : Int32) (some (K.2 5)) (t_1_0_2 K d G20 l0) else none
noncomputable def t_1_0_4 (K : gK) (d : Nat) (G20 : gH) (l0 : Nat) (G25 : gH) : Option gO := if g_isLam K G25 (K.2 4) = true then yQ G25 G20.2.1 6 (5 : Int32) (some (K.2 4)) (t_1_0_3 K d G20 l0) else none
noncomputable def t_1_0_5 (K : gK) (d : Nat) (l0 : Nat) (G20 : gH) (G24 : gH) : Option gO := if g_isLam K (gnew G24 (.inr (104, [.ref l0])) 1) G24.2.1 = true then yQ (gnew G24 (.inr (104, [.ref l0])) 1) G20.2.1 6 (4 : Int32) (some G24.2.1) (t_1_0_4 K d G20 l0) else none
noncomputable def t_1_0_6 (K : gK) (d : Nat) (l0 : Nat) (G20 : gH) (G23 : gH) : Option gO := if g_isLam K (gnew G23 (.inr (103, [.ref l0])) 1) G23.2.1 = true then yQ (gnew G23 (.inr (103, [.ref l0])) 1) G20.2.1 6 (3 : Int32) (some G23.2.1) (t_1_0_5 K d l0 G20) else none
noncomputable def t_1_0_7 (K : gK) (d : Nat) (l0 : Nat) (G20 : gH) (G22 : gH) : Option gO := if g_isLam K (gnew G22 (.inr (102, [.ref l0])) 1) G22.2.1 = true then yQ (gnew G22 (.inr (102, [.ref l0])) 1) G20.2.1 6 (2 : Int32) (some G22.2.1) (t_1_0_6 K d l0 G20) else none
noncomputable def t_1_0_8 (K : gK) (d : Nat) (l0 : Nat) (G20 : gH) (G21 : gH) : Option gO := if g_isLam K (gnew G21 (.inr (101, [.ref l0])) 1) G21.2.1 = true then yQ (gnew G21 (.inr (101, [.ref l0])) 1) G20.2.1 6 (1 : Int32) (some G21.2.1) (t_1_0_7 K d l0 G20) else none
noncomputable def t_1_0_9 (K : gK) (d : Nat) (l0 : Nat) (G20 : gH) : Option gO := if (7 : Int32) < 0 ∨ 100000 < ((7 : Int32)).toNatClampNeg then none else (if g_isLam K (gnew (gnew G20 (.inl (6, ((7 : Int32)).toNatClampNeg, gQ (fun _ => none))) ((7 : Int32)).toNatClampNeg) (.inr (100, [.ref l0])) 1) ((gnew G20 (.inl (6, ((7 : Int32)).toNatClampNeg, gQ (fun _ => none))) ((7 : Int32)).toNatClampNeg).2.1) = true then yQ (gnew (gnew G20 (.inl (6, ((7 : Int32)).toNatClampNeg, gQ (fun _ => none))) ((7 : Int32)).toNatClampNeg) (.inr (100, [.ref l0])) 1) G20.2.1 6 (0 : Int32) (some ((gnew G20 (.inl (6, ((7 : Int32)).toNatClampNeg, gQ (fun _ => none))) ((7 : Int32)).toNatClampNeg).2.1)) (t_1_0_8 K d l0 G20) else none)
noncomputable def t_1_0_10 (K : gK) (d : Nat) (l0 : Nat) (G19 : gH) : Option gO := if narrow .int (.int (12 : Int32)) = .int (12 : Int32) ∧ fits .int (.int (12 : Int32)) = true then wF G19 l0 0 8 (.int (12 : Int32)) (t_1_0_9 K d l0) else none
noncomputable def t_1_0_11 (K : gK) (d : Nat) (G16 : gH) (l0 : Nat) (G17 : gH) : Option gO := if narrow (.object "CuttingRoom$Sheet") (.ref (G16.2.1)) = .ref (G16.2.1) ∧ fits (.object "CuttingRoom$Sheet") (.ref (G16.2.1)) = true then wF G17 l0 0 7 (.ref (G16.2.1)) (t_1_0_10 K d l0) else none
noncomputable def t_1_0_12 (K : gK) (d : Nat) (l0 : Nat) (G16 : gH) : Option gO := cV (gCa K d 86 [.ref (G16.2.1), .ref l0] (gnew G16 (.inr (2, [.null, .null, .int 0, .null])) 4)) (t_1_0_11 K d G16 l0)
noncomputable def t_1_0_13 (K : gK) (d : Nat) (G13 : gH) (l0 : Nat) (G14 : gH) : Option gO := if narrow (.object "CuttingRoom$Sheet") (.ref (G13.2.1)) = .ref (G13.2.1) ∧ fits (.object "CuttingRoom$Sheet") (.ref (G13.2.1)) = true then wF G14 l0 0 6 (.ref (G13.2.1)) (t_1_0_12 K d l0) else none
noncomputable def t_1_0_14 (K : gK) (d : Nat) (l0 : Nat) (G13 : gH) : Option gO := cV (gCa K d 86 [.ref (G13.2.1), .ref l0] (gnew G13 (.inr (2, [.null, .null, .int 0, .null])) 4)) (t_1_0_13 K d G13 l0)
noncomputable def t_1_0_15 (K : gK) (d : Nat) (G10 : gH) (l0 : Nat) (G11 : gH) : Option gO := if narrow (.object "CuttingRoom$Spot") (.ref (G10.2.1)) = .ref (G10.2.1) ∧ fits (.object "CuttingRoom$Spot") (.ref (G10.2.1)) = true then wF G11 l0 0 5 (.ref (G10.2.1)) (t_1_0_14 K d l0) else none
noncomputable def t_1_0_16 (K : gK) (d : Nat) (l0 : Nat) (G10 : gH) : Option gO := cV (gCa K d 85 [.ref (G10.2.1)] (gnew G10 (.inr (1, [.null, .int 0, .int 0, .int 0, .int 0])) 5)) (t_1_0_15 K d G10 l0)
noncomputable def t_1_0_17 (K : gK) (d : Nat) (l0 : Nat) (G9 : gH) : Option gO := if narrow (.array (.array .boolean)) (.ref (G9.2.1)) = .ref (G9.2.1) ∧ fits (.array (.array .boolean)) (.ref (G9.2.1)) = true then wF (g_rows 1 12 60 (gnew G9 (.inl (9, 60, gQ (fun j => if j < 60 then some (G9.2.1 + 1 + j) else none))) 60)) l0 0 3 (.ref (G9.2.1)) (t_1_0_16 K d l0) else none
noncomputable def t_1_0_18 (K : gK) (d : Nat) (G6 : gH) (l0 : Nat) (G7 : gH) : Option gO := if narrow (.object "java/util/List") (.ref (G6.2.1)) = .ref (G6.2.1) ∧ fits (.object "java/util/List") (.ref (G6.2.1)) = true then wF G7 l0 0 2 (.ref (G6.2.1)) (t_1_0_17 K d l0) else none
noncomputable def t_1_0_19 (K : gK) (d : Nat) (l0 : Nat) (G6 : gH) : Option gO := cV (gCa K d 84 [.ref (G6.2.1)] (gnew G6 (.inr (12, [.int 0, .null, .int 0])) 3)) (t_1_0_18 K d G6 l0)
noncomputable def t_1_0_20 (K : gK) (d : Nat) (G3 : gH) (l0 : Nat) (G4 : gH) : Option gO := if narrow (.object "java/util/List") (.ref (G3.2.1)) = .ref (G3.2.1) ∧ fits (.object "java/util/List") (.ref (G3.2.1)) = true then wF G4 l0 0 1 (.ref (G3.2.1)) (t_1_0_19 K d l0) else none
noncomputable def t_1_0_21 (K : gK) (d : Nat) (l0 : Nat) (G3 : gH) : Option gO := cV (gCa K d 84 [.ref (G3.2.1)] (gnew G3 (.inr (12, [.int 0, .null, .int 0])) 3)) (t_1_0_20 K d G3 l0)
noncomputable def t_1_0_22 (K : gK) (d : Nat) (G : gH) (l0 : Nat) (G1 : gH) : Option gO := if narrow (.object "java/util/List") (.ref (G.2.1)) = .ref (G.2.1) ∧ fits (.object "java/util/List") (.ref (G.2.1)) = true then wF G1 l0 0 0 (.ref (G.2.1)) (t_1_0_21 K d l0) else none
noncomputable def t_1_0 (K : gK) (d : Nat) (l0 : Nat) (G : gH) : Option gO := cV (gCa K d 84 [.ref (G.2.1)] (gnew G (.inr (12, [.int 0, .null, .int 0])) 3)) (t_1_0_22 K d G l0)
theorem e_1_0 {K : gK} {d : Nat} {l0 : Nat} {G : gH} : gle (t_1_0 K d l0 G) (gRn K d 1 0 [some (.ref l0)] [] G) := by
  unfold t_1_0
  refine g_aload ((q_1 _).trans rfl) rfl ?_
  refine g_objinit ((q_1 _).trans rfl) (Nat.le_of_ble_eq_true rfl) ?_
  refine g_aload ((q_1 _).trans rfl) rfl ?_
  refine g_new ((q_1 _).trans rfl) ?_
  refine g_dup_ref ((q_1 _).trans rfl) ?_
  refine g_callI (kk := 0) ((q_1 _).trans rfl) (gHn m_1) rfl (by exact ⟨Nat.le_of_ble_eq_true rfl, rfl⟩) rfl (fun w G1 => gm_V (fun hw => ?_))
  subst hw
  refine g_putf ((q_1 _).trans rfl) (fun G3 => ?_)
  refine g_aload ((q_1 _).trans rfl) rfl ?_
  refine g_new ((q_1 _).trans rfl) ?_
  refine g_dup_ref ((q_1 _).trans rfl) ?_
  refine g_callI (kk := 0) ((q_1 _).trans rfl) (gHn m_1) rfl (by exact ⟨Nat.le_of_ble_eq_true rfl, rfl⟩) rfl (fun w G4 => gm_V (fun hw => ?_))
  subst hw
  refine g_putf ((q_1 _).trans rfl) (fun G6 => ?_)
  refine g_aload ((q_1 _).trans rfl) rfl ?_
  refine g_new ((q_1 _).trans rfl) ?_
  refine g_dup_ref ((q_1 _).trans rfl) ?_
  refine g_callI (kk := 0) ((q_1 _).trans rfl) (gHn m_1) rfl (by exact ⟨Nat.le_of_ble_eq_true rfl, rfl⟩) rfl (fun w G7 => gm_V (fun hw => ?_))
  subst hw
  refine g_putf ((q_1 _).trans rfl) (fun G9 => ?_)
  refine g_aload ((q_1 _).trans rfl) rfl ?_
  refine g_push ((q_1 _).trans rfl) ?_
  refine g_push ((q_1 _).trans rfl) ?_
  refine g_multi ((q_1 _).trans rfl) (by decide) (by decide) ?_
  refine g_putf ((q_1 _).trans rfl) (fun G10 => ?_)
  refine g_aload ((q_1 _).trans rfl) rfl ?_
  refine g_new ((q_1 _).trans rfl) ?_
  refine g_dup_ref ((q_1 _).trans rfl) ?_
  refine g_callI (kk := 0) ((q_1 _).trans rfl) (gHn m_1) rfl (by exact ⟨Nat.le_of_ble_eq_true rfl, rfl⟩) rfl (fun w G11 => gm_V (fun hw => ?_))
  subst hw
  refine g_putf ((q_1 _).trans rfl) (fun G13 => ?_)
  refine g_aload ((q_1 _).trans rfl) rfl ?_
  refine g_new ((q_1 _).trans rfl) ?_
  refine g_dup_ref ((q_1 _).trans rfl) ?_
  refine g_aload ((q_1 _).trans rfl) rfl ?_
  refine g_callI (kk := 1) ((q_1 _).trans rfl) (gHn m_1) rfl (by exact ⟨Nat.le_of_ble_eq_true rfl, rfl⟩) rfl (fun w G14 => gm_V (fun hw => ?_))
  subst hw
  refine g_putf ((q_1 _).trans rfl) (fun G16 => ?_)
  refine g_aload ((q_1 _).trans rfl) rfl ?_
  refine g_new ((q_1 _).trans rfl) ?_
  refine g_dup_ref ((q_1 _).trans rfl) ?_
  refine g_aload ((q_1 _).trans rfl) rfl ?_
  refine g_callI (kk := 1) ((q_1 _).trans rfl) (gHn m_1) rfl (by exact ⟨Nat.le_of_ble_eq_true rfl, rfl⟩) rfl (fun w G17 => gm_V (fun hw => ?_))
  subst hw
  refine g_putf ((q_1 _).trans rfl) (fun G19 => ?_)
  refine g_aload ((q_1 _).trans rfl) rfl ?_
  refine g_push ((q_1 _).trans rfl) ?_
  refine g_putf ((q_1 _).trans rfl) (fun G20 => ?_)
  refine g_aload ((q_1 _).trans rfl) rfl ?_
  refine g_push ((q_1 _).trans rfl) ?_
  refine g_newq ((q_1 _).trans rfl) (fun _ => ?_)
  refine g_dup_ref ((q_1 _).trans rfl) ?_
  refine g_push ((q_1 _).trans rfl) ?_
  refine g_aload ((q_1 _).trans rfl) rfl ?_
  refine g_indy ((q_1 _).trans rfl) (Nat.le_of_ble_eq_true rfl) ?_
  refine g_aastH ((q_1 _).trans rfl) (fun G21 => ?_)
  refine g_dup_ref ((q_1 _).trans rfl) ?_
  refine g_push ((q_1 _).trans rfl) ?_
  refine g_aload ((q_1 _).trans rfl) rfl ?_
  refine g_indy ((q_1 _).trans rfl) (Nat.le_of_ble_eq_true rfl) ?_
  refine g_aastH ((q_1 _).trans rfl) (fun G22 => ?_)
  refine g_dup_ref ((q_1 _).trans rfl) ?_
  refine g_push ((q_1 _).trans rfl) ?_
  refine g_aload ((q_1 _).trans rfl) rfl ?_
  refine g_indy ((q_1 _).trans rfl) (Nat.le_of_ble_eq_true rfl) ?_
  refine g_aastH ((q_1 _).trans rfl) (fun G23 => ?_)
  refine g_dup_ref ((q_1 _).trans rfl) ?_
  refine g_push ((q_1 _).trans rfl) ?_
  refine g_aload ((q_1 _).trans rfl) rfl ?_
  refine g_indy ((q_1 _).trans rfl) (Nat.le_of_ble_eq_true rfl) ?_
  refine g_aastH ((q_1 _).trans rfl) (fun G24 => ?_)
  refine g_dup_ref ((q_1 _).trans rfl) ?_
  refine g_push ((q_1 _).trans rfl) ?_
  refine g_aload ((q_1 _).trans rfl) rfl ?_
  refine g_indy ((q_1 _).trans rfl) (Nat.le_of_ble_eq_true rfl) ?_
  refine g_aastH ((q_1 _).trans rfl) (fun G25 => ?_)
  refine g_dup_ref ((q_1 _).trans rfl) ?_
  refine g_push ((q_1 _).trans rfl) ?_
  refine g_pushL ((q_1 _).trans rfl) (Nat.le_of_ble_eq_true rfl) ?_
  refine g_aastH ((q_1 _).trans rfl) (fun G26 => ?_)
  refine g_dup_ref ((q_1 _).trans rfl) ?_
  refine g_push ((q_1 _).trans rfl) ?_
  refine g_pushL ((q_1 _).trans rfl) (Nat.le_of_ble_eq_true rfl) ?_
  refine g_aastH ((q_1 _).trans rfl) (fun G27 => ?_)
  refine g_putf ((q_1 _).trans rfl) (fun G28 => ?_)
  exact g_vret ((q_1 _).trans rfl)
theorem c_1 {K : gK} {d : Nat} {l0 : Nat} {G : gH} : gle (t_1_0 K d l0 G) (gCa K (d + 1) 1 [.ref l0] G) := by
  have h : gent (gMx 1) [.ref l0] = [some (.ref l0)] := by
    show gent (gT 1).2.2.2.1 _ = _
    rw [m_1]; rfl
  exact fun r e => (congrArg (fun q => gRn K d 1 0 q [] G) h).trans (e_1_0 r e)
theorem q_2 {K : gK} (pc : Nat) : gP K 2 pc = ((gL_2 K).lookup pc).getD o_none := rfl
noncomputable def t_2_0_1 (K : gK) (d : Nat) (l0 : Nat) (G31 : gH) : Option gO := gRn K d 2 251 [some (.ref l0), some (.int (0 : Int32))] [] G31
noncomputable def t_2_0_2 (K : gK) (d : Nat) (l0 : Nat) (G30 : gH) : Option gO := if (40 : Int32) < 0 ∨ 100000 < ((40 : Int32)).toNatClampNeg then none else (if narrow (.array .boolean) (.ref (G30.2.1)) = .ref (G30.2.1) ∧ fits (.array .boolean) (.ref (G30.2.1)) = true then wF (gnew G30 (.inl (1, ((40 : Int32)).toNatClampNeg, .inl (fun _ => 0))) ((40 : Int32)).toNatClampNeg) l0 3 47 (.ref (G30.2.1)) (t_2_0_1 K d l0) else none)
noncomputable def t_2_0_3 (K : gK) (d : Nat) (l0 : Nat) (G29 : gH) : Option gO := if (40 : Int32) < 0 ∨ 100000 < ((40 : Int32)).toNatClampNeg then none else (if narrow (.array .int) (.ref (G29.2.1)) = .ref (G29.2.1) ∧ fits (.array .int) (.ref (G29.2.1)) = true then wF (gnew G29 (.inl (0, ((40 : Int32)).toNatClampNeg, .inl (fun _ => 0))) ((40 : Int32)).toNatClampNeg) l0 3 46 (.ref (G29.2.1)) (t_2_0_2 K d l0) else none)
noncomputable def t_2_0_4 (K : gK) (d : Nat) (l0 : Nat) (G28 : gH) : Option gO := if (40 : Int32) < 0 ∨ 100000 < ((40 : Int32)).toNatClampNeg then none else (if narrow (.array .int) (.ref (G28.2.1)) = .ref (G28.2.1) ∧ fits (.array .int) (.ref (G28.2.1)) = true then wF (gnew G28 (.inl (0, ((40 : Int32)).toNatClampNeg, .inl (fun _ => 0))) ((40 : Int32)).toNatClampNeg) l0 3 45 (.ref (G28.2.1)) (t_2_0_3 K d l0) else none)
noncomputable def t_2_0_5 (K : gK) (d : Nat) (l0 : Nat) (G27 : gH) : Option gO := if (40 : Int32) < 0 ∨ 100000 < ((40 : Int32)).toNatClampNeg then none else (if narrow (.array .int) (.ref (G27.2.1)) = .ref (G27.2.1) ∧ fits (.array .int) (.ref (G27.2.1)) = true then wF (gnew G27 (.inl (0, ((40 : Int32)).toNatClampNeg, .inl (fun _ => 0))) ((40 : Int32)).toNatClampNeg) l0 3 44 (.ref (G27.2.1)) (t_2_0_4 K d l0) else none)
noncomputable def t_2_0_6 (K : gK) (d : Nat) (l0 : Nat) (G26 : gH) : Option gO := if (40 : Int32) < 0 ∨ 100000 < ((40 : Int32)).toNatClampNeg then none else (if narrow (.array .int) (.ref (G26.2.1)) = .ref (G26.2.1) ∧ fits (.array .int) (.ref (G26.2.1)) = true then wF (gnew G26 (.inl (0, ((40 : Int32)).toNatClampNeg, .inl (fun _ => 0))) ((40 : Int32)).toNatClampNeg) l0 3 43 (.ref (G26.2.1)) (t_2_0_5 K d l0) else none)
noncomputable def t_2_0_7 (K : gK) (d : Nat) (l0 : Nat) (G25 : gH) : Option gO := if (40 : Int32) < 0 ∨ 100000 < ((40 : Int32)).toNatClampNeg then none else (if narrow (.array .int) (.ref (G25.2.1)) = .ref (G25.2.1) ∧ fits (.array .int) (.ref (G25.2.1)) = true then wF (gnew G25 (.inl (0, ((40 : Int32)).toNatClampNeg, .inl (fun _ => 0))) ((40 : Int32)).toNatClampNeg) l0 3 42 (.ref (G25.2.1)) (t_2_0_6 K d l0) else none)
noncomputable def t_2_0_8 (K : gK) (d : Nat) (l0 : Nat) (G24 : gH) : Option gO := if (4 : Int32) < 0 ∨ 100000 < ((4 : Int32)).toNatClampNeg then none else (if narrow (.array .int) (.ref (G24.2.1)) = .ref (G24.2.1) ∧ fits (.array .int) (.ref (G24.2.1)) = true then wF (gnew G24 (.inl (0, ((4 : Int32)).toNatClampNeg, .inl (fun _ => 0))) ((4 : Int32)).toNatClampNeg) l0 3 40 (.ref (G24.2.1)) (t_2_0_7 K d l0) else none)
noncomputable def t_2_0_9 (K : gK) (d : Nat) (l0 : Nat) (G23 : gH) : Option gO := if (25 : Int32) < 0 ∨ 100000 < ((25 : Int32)).toNatClampNeg then none else (if narrow (.array .int) (.ref (G23.2.1)) = .ref (G23.2.1) ∧ fits (.array .int) (.ref (G23.2.1)) = true then wF (gnew G23 (.inl (0, ((25 : Int32)).toNatClampNeg, .inl (fun _ => 0))) ((25 : Int32)).toNatClampNeg) l0 3 35 (.ref (G23.2.1)) (t_2_0_8 K d l0) else none)
noncomputable def t_2_0_10 (K : gK) (d : Nat) (l0 : Nat) (G22 : gH) : Option gO := if (25 : Int32) < 0 ∨ 100000 < ((25 : Int32)).toNatClampNeg then none else (if narrow (.array .int) (.ref (G22.2.1)) = .ref (G22.2.1) ∧ fits (.array .int) (.ref (G22.2.1)) = true then wF (gnew G22 (.inl (0, ((25 : Int32)).toNatClampNeg, .inl (fun _ => 0))) ((25 : Int32)).toNatClampNeg) l0 3 34 (.ref (G22.2.1)) (t_2_0_9 K d l0) else none)
noncomputable def t_2_0_11 (K : gK) (d : Nat) (l0 : Nat) (G21 : gH) : Option gO := if (4 : Int32) < 0 ∨ 100000 < ((4 : Int32)).toNatClampNeg then none else (if narrow (.array .int) (.ref (G21.2.1)) = .ref (G21.2.1) ∧ fits (.array .int) (.ref (G21.2.1)) = true then wF (gnew G21 (.inl (0, ((4 : Int32)).toNatClampNeg, .inl (fun _ => 0))) ((4 : Int32)).toNatClampNeg) l0 3 30 (.ref (G21.2.1)) (t_2_0_10 K d l0) else none)
noncomputable def t_2_0_12 (K : gK) (d : Nat) (l0 : Nat) (G20 : gH) : Option gO := if (32 : Int32) < 0 ∨ 100000 < ((32 : Int32)).toNatClampNeg then none else (if narrow (.array .int) (.ref (G20.2.1)) = .ref (G20.2.1) ∧ fits (.array .int) (.ref (G20.2.1)) = true then wF (gnew G20 (.inl (0, ((32 : Int32)).toNatClampNeg, .inl (fun _ => 0))) ((32 : Int32)).toNatClampNeg) l0 3 29 (.ref (G20.2.1)) (t_2_0_11 K d l0) else none)
noncomputable def t_2_0_13 (K : gK) (d : Nat) (l0 : Nat) (G19 : gH) : Option gO := if (4 : Int32) < 0 ∨ 100000 < ((4 : Int32)).toNatClampNeg then none else (if narrow (.array .int) (.ref (G19.2.1)) = .ref (G19.2.1) ∧ fits (.array .int) (.ref (G19.2.1)) = true then wF (gnew G19 (.inl (0, ((4 : Int32)).toNatClampNeg, .inl (fun _ => 0))) ((4 : Int32)).toNatClampNeg) l0 3 27 (.ref (G19.2.1)) (t_2_0_12 K d l0) else none)
noncomputable def t_2_0_14 (K : gK) (d : Nat) (l0 : Nat) (G18 : gH) : Option gO := if (4 : Int32) < 0 ∨ 100000 < ((4 : Int32)).toNatClampNeg then none else (if narrow (.array .int) (.ref (G18.2.1)) = .ref (G18.2.1) ∧ fits (.array .int) (.ref (G18.2.1)) = true then wF (gnew G18 (.inl (0, ((4 : Int32)).toNatClampNeg, .inl (fun _ => 0))) ((4 : Int32)).toNatClampNeg) l0 3 26 (.ref (G18.2.1)) (t_2_0_13 K d l0) else none)
noncomputable def t_2_0_15 (K : gK) (d : Nat) (l0 : Nat) (G17 : gH) : Option gO := if (720 : Int32) < 0 ∨ 100000 < ((720 : Int32)).toNatClampNeg then none else (if narrow (.array .int) (.ref (G17.2.1)) = .ref (G17.2.1) ∧ fits (.array .int) (.ref (G17.2.1)) = true then wF (gnew G17 (.inl (0, ((720 : Int32)).toNatClampNeg, .inl (fun _ => 0))) ((720 : Int32)).toNatClampNeg) l0 3 25 (.ref (G17.2.1)) (t_2_0_14 K d l0) else none)
noncomputable def t_2_0_16 (K : gK) (d : Nat) (l0 : Nat) (G16 : gH) : Option gO := if (40 : Int32) < 0 ∨ 100000 < ((40 : Int32)).toNatClampNeg then none else (if narrow (.array .boolean) (.ref (G16.2.1)) = .ref (G16.2.1) ∧ fits (.array .boolean) (.ref (G16.2.1)) = true then wF (gnew G16 (.inl (1, ((40 : Int32)).toNatClampNeg, .inl (fun _ => 0))) ((40 : Int32)).toNatClampNeg) l0 3 24 (.ref (G16.2.1)) (t_2_0_15 K d l0) else none)
noncomputable def t_2_0_17 (K : gK) (d : Nat) (l0 : Nat) (G15 : gH) : Option gO := if (40 : Int32) < 0 ∨ 100000 < ((40 : Int32)).toNatClampNeg then none else (if narrow (.array .int) (.ref (G15.2.1)) = .ref (G15.2.1) ∧ fits (.array .int) (.ref (G15.2.1)) = true then wF (gnew G15 (.inl (0, ((40 : Int32)).toNatClampNeg, .inl (fun _ => 0))) ((40 : Int32)).toNatClampNeg) l0 3 23 (.ref (G15.2.1)) (t_2_0_16 K d l0) else none)
noncomputable def t_2_0_18 (K : gK) (d : Nat) (l0 : Nat) (G14 : gH) : Option gO := if (40 : Int32) < 0 ∨ 100000 < ((40 : Int32)).toNatClampNeg then none else (if narrow (.array .int) (.ref (G14.2.1)) = .ref (G14.2.1) ∧ fits (.array .int) (.ref (G14.2.1)) = true then wF (gnew G14 (.inl (0, ((40 : Int32)).toNatClampNeg, .inl (fun _ => 0))) ((40 : Int32)).toNatClampNeg) l0 3 22 (.ref (G14.2.1)) (t_2_0_17 K d l0) else none)
noncomputable def t_2_0_19 (K : gK) (d : Nat) (l0 : Nat) (G13 : gH) : Option gO := if (40 : Int32) < 0 ∨ 100000 < ((40 : Int32)).toNatClampNeg then none else (if narrow (.array .int) (.ref (G13.2.1)) = .ref (G13.2.1) ∧ fits (.array .int) (.ref (G13.2.1)) = true then wF (gnew G13 (.inl (0, ((40 : Int32)).toNatClampNeg, .inl (fun _ => 0))) ((40 : Int32)).toNatClampNeg) l0 3 21 (.ref (G13.2.1)) (t_2_0_18 K d l0) else none)
noncomputable def t_2_0_20 (K : gK) (d : Nat) (l0 : Nat) (G12 : gH) : Option gO := if (40 : Int32) < 0 ∨ 100000 < ((40 : Int32)).toNatClampNeg then none else (if narrow (.array .int) (.ref (G12.2.1)) = .ref (G12.2.1) ∧ fits (.array .int) (.ref (G12.2.1)) = true then wF (gnew G12 (.inl (0, ((40 : Int32)).toNatClampNeg, .inl (fun _ => 0))) ((40 : Int32)).toNatClampNeg) l0 3 20 (.ref (G12.2.1)) (t_2_0_19 K d l0) else none)
noncomputable def t_2_0_21 (K : gK) (d : Nat) (l0 : Nat) (G11 : gH) : Option gO := if (40 : Int32) < 0 ∨ 100000 < ((40 : Int32)).toNatClampNeg then none else (if narrow (.array .int) (.ref (G11.2.1)) = .ref (G11.2.1) ∧ fits (.array .int) (.ref (G11.2.1)) = true then wF (gnew G11 (.inl (0, ((40 : Int32)).toNatClampNeg, .inl (fun _ => 0))) ((40 : Int32)).toNatClampNeg) l0 3 19 (.ref (G11.2.1)) (t_2_0_20 K d l0) else none)
noncomputable def t_2_0_22 (K : gK) (d : Nat) (l0 : Nat) (G10 : gH) : Option gO := if (16 : Int32) < 0 ∨ 100000 < ((16 : Int32)).toNatClampNeg then none else (if narrow (.array .int) (.ref (G10.2.1)) = .ref (G10.2.1) ∧ fits (.array .int) (.ref (G10.2.1)) = true then wF (gnew G10 (.inl (0, ((16 : Int32)).toNatClampNeg, .inl (fun _ => 0))) ((16 : Int32)).toNatClampNeg) l0 3 16 (.ref (G10.2.1)) (t_2_0_21 K d l0) else none)
noncomputable def t_2_0_23 (K : gK) (d : Nat) (l0 : Nat) (G9 : gH) : Option gO := if (8 : Int32) < 0 ∨ 100000 < ((8 : Int32)).toNatClampNeg then none else (if narrow (.array .boolean) (.ref (G9.2.1)) = .ref (G9.2.1) ∧ fits (.array .boolean) (.ref (G9.2.1)) = true then wF (gnew G9 (.inl (1, ((8 : Int32)).toNatClampNeg, .inl (fun _ => 0))) ((8 : Int32)).toNatClampNeg) l0 3 15 (.ref (G9.2.1)) (t_2_0_22 K d l0) else none)
noncomputable def t_2_0_24 (K : gK) (d : Nat) (l0 : Nat) (G8 : gH) : Option gO := if (8 : Int32) < 0 ∨ 100000 < ((8 : Int32)).toNatClampNeg then none else (if narrow (.array .int) (.ref (G8.2.1)) = .ref (G8.2.1) ∧ fits (.array .int) (.ref (G8.2.1)) = true then wF (gnew G8 (.inl (0, ((8 : Int32)).toNatClampNeg, .inl (fun _ => 0))) ((8 : Int32)).toNatClampNeg) l0 3 14 (.ref (G8.2.1)) (t_2_0_23 K d l0) else none)
noncomputable def t_2_0_25 (K : gK) (d : Nat) (l0 : Nat) (G7 : gH) : Option gO := if (8 : Int32) < 0 ∨ 100000 < ((8 : Int32)).toNatClampNeg then none else (if narrow (.array .int) (.ref (G7.2.1)) = .ref (G7.2.1) ∧ fits (.array .int) (.ref (G7.2.1)) = true then wF (gnew G7 (.inl (0, ((8 : Int32)).toNatClampNeg, .inl (fun _ => 0))) ((8 : Int32)).toNatClampNeg) l0 3 13 (.ref (G7.2.1)) (t_2_0_24 K d l0) else none)
noncomputable def t_2_0_26 (K : gK) (d : Nat) (l0 : Nat) (G6 : gH) : Option gO := if (8 : Int32) < 0 ∨ 100000 < ((8 : Int32)).toNatClampNeg then none else (if narrow (.array .int) (.ref (G6.2.1)) = .ref (G6.2.1) ∧ fits (.array .int) (.ref (G6.2.1)) = true then wF (gnew G6 (.inl (0, ((8 : Int32)).toNatClampNeg, .inl (fun _ => 0))) ((8 : Int32)).toNatClampNeg) l0 3 12 (.ref (G6.2.1)) (t_2_0_25 K d l0) else none)
noncomputable def t_2_0_27 (K : gK) (d : Nat) (l0 : Nat) (G5 : gH) : Option gO := if (8 : Int32) < 0 ∨ 100000 < ((8 : Int32)).toNatClampNeg then none else (if narrow (.array .int) (.ref (G5.2.1)) = .ref (G5.2.1) ∧ fits (.array .int) (.ref (G5.2.1)) = true then wF (gnew G5 (.inl (0, ((8 : Int32)).toNatClampNeg, .inl (fun _ => 0))) ((8 : Int32)).toNatClampNeg) l0 3 11 (.ref (G5.2.1)) (t_2_0_26 K d l0) else none)
noncomputable def t_2_0_28 (K : gK) (d : Nat) (l0 : Nat) (G4 : gH) : Option gO := if (200 : Int32) < 0 ∨ 100000 < ((200 : Int32)).toNatClampNeg then none else (if narrow (.array .boolean) (.ref (G4.2.1)) = .ref (G4.2.1) ∧ fits (.array .boolean) (.ref (G4.2.1)) = true then wF (gnew G4 (.inl (1, ((200 : Int32)).toNatClampNeg, .inl (fun _ => 0))) ((200 : Int32)).toNatClampNeg) l0 3 10 (.ref (G4.2.1)) (t_2_0_27 K d l0) else none)
noncomputable def t_2_0_29 (K : gK) (d : Nat) (l0 : Nat) (G3 : gH) : Option gO := if (8 : Int32) < 0 ∨ 100000 < ((8 : Int32)).toNatClampNeg then none else (if narrow (.array .boolean) (.ref (G3.2.1)) = .ref (G3.2.1) ∧ fits (.array .boolean) (.ref (G3.2.1)) = true then wF (gnew G3 (.inl (1, ((8 : Int32)).toNatClampNeg, .inl (fun _ => 0))) ((8 : Int32)).toNatClampNeg) l0 3 9 (.ref (G3.2.1)) (t_2_0_28 K d l0) else none)
noncomputable def t_2_0_30 (K : gK) (d : Nat) (l0 : Nat) (G2 : gH) : Option gO := if (8 : Int32) < 0 ∨ 100000 < ((8 : Int32)).toNatClampNeg then none else (if narrow (.array .char) (.ref (G2.2.1)) = .ref (G2.2.1) ∧ fits (.array .char) (.ref (G2.2.1)) = true then wF (gnew G2 (.inl (2, ((8 : Int32)).toNatClampNeg, .inl (fun _ => 0))) ((8 : Int32)).toNatClampNeg) l0 3 8 (.ref (G2.2.1)) (t_2_0_29 K d l0) else none)
noncomputable def t_2_0_31 (K : gK) (d : Nat) (l0 : Nat) (G1 : gH) : Option gO := if (720 : Int32) < 0 ∨ 100000 < ((720 : Int32)).toNatClampNeg then none else (if narrow (.array .boolean) (.ref (G1.2.1)) = .ref (G1.2.1) ∧ fits (.array .boolean) (.ref (G1.2.1)) = true then wF (gnew G1 (.inl (1, ((720 : Int32)).toNatClampNeg, .inl (fun _ => 0))) ((720 : Int32)).toNatClampNeg) l0 3 6 (.ref (G1.2.1)) (t_2_0_30 K d l0) else none)
noncomputable def t_2_0 (K : gK) (d : Nat) (l0 : Nat) (G : gH) : Option gO := if narrow .int (.int (12 : Int32)) = .int (12 : Int32) ∧ fits .int (.int (12 : Int32)) = true then wF G l0 3 1 (.int (12 : Int32)) (t_2_0_31 K d l0) else none
theorem e_2_0 {K : gK} {d : Nat} {l0 : Nat} {G : gH} : gle (t_2_0 K d l0 G) (gRn K d 2 0 [some (.ref l0), none] [] G) := by
  unfold t_2_0
  refine g_aload ((q_2 _).trans rfl) rfl ?_
  refine g_objinit ((q_2 _).trans rfl) (Nat.le_of_ble_eq_true rfl) ?_
  refine g_aload ((q_2 _).trans rfl) rfl ?_
  refine g_push ((q_2 _).trans rfl) ?_
  refine g_putf ((q_2 _).trans rfl) (fun G1 => ?_)
  refine g_aload ((q_2 _).trans rfl) rfl ?_
  refine g_push ((q_2 _).trans rfl) ?_
  refine g_newi ((q_2 _).trans rfl) (fun _ => ?_)
  refine g_putf ((q_2 _).trans rfl) (fun G2 => ?_)
  refine g_aload ((q_2 _).trans rfl) rfl ?_
  refine g_push ((q_2 _).trans rfl) ?_
  refine g_newi ((q_2 _).trans rfl) (fun _ => ?_)
  refine g_putf ((q_2 _).trans rfl) (fun G3 => ?_)
  refine g_aload ((q_2 _).trans rfl) rfl ?_
  refine g_push ((q_2 _).trans rfl) ?_
  refine g_newi ((q_2 _).trans rfl) (fun _ => ?_)
  refine g_putf ((q_2 _).trans rfl) (fun G4 => ?_)
  refine g_aload ((q_2 _).trans rfl) rfl ?_
  refine g_push ((q_2 _).trans rfl) ?_
  refine g_newi ((q_2 _).trans rfl) (fun _ => ?_)
  refine g_putf ((q_2 _).trans rfl) (fun G5 => ?_)
  refine g_aload ((q_2 _).trans rfl) rfl ?_
  refine g_push ((q_2 _).trans rfl) ?_
  refine g_newi ((q_2 _).trans rfl) (fun _ => ?_)
  refine g_putf ((q_2 _).trans rfl) (fun G6 => ?_)
  refine g_aload ((q_2 _).trans rfl) rfl ?_
  refine g_push ((q_2 _).trans rfl) ?_
  refine g_newi ((q_2 _).trans rfl) (fun _ => ?_)
  refine g_putf ((q_2 _).trans rfl) (fun G7 => ?_)
  refine g_aload ((q_2 _).trans rfl) rfl ?_
  refine g_push ((q_2 _).trans rfl) ?_
  refine g_newi ((q_2 _).trans rfl) (fun _ => ?_)
  refine g_putf ((q_2 _).trans rfl) (fun G8 => ?_)
  refine g_aload ((q_2 _).trans rfl) rfl ?_
  refine g_push ((q_2 _).trans rfl) ?_
  refine g_newi ((q_2 _).trans rfl) (fun _ => ?_)
  refine g_putf ((q_2 _).trans rfl) (fun G9 => ?_)
  refine g_aload ((q_2 _).trans rfl) rfl ?_
  refine g_push ((q_2 _).trans rfl) ?_
  refine g_newi ((q_2 _).trans rfl) (fun _ => ?_)
  refine g_putf ((q_2 _).trans rfl) (fun G10 => ?_)
  refine g_aload ((q_2 _).trans rfl) rfl ?_
  refine g_push ((q_2 _).trans rfl) ?_
  refine g_newi ((q_2 _).trans rfl) (fun _ => ?_)
  refine g_putf ((q_2 _).trans rfl) (fun G11 => ?_)
  refine g_aload ((q_2 _).trans rfl) rfl ?_
  refine g_push ((q_2 _).trans rfl) ?_
  refine g_newi ((q_2 _).trans rfl) (fun _ => ?_)
  refine g_putf ((q_2 _).trans rfl) (fun G12 => ?_)
  refine g_aload ((q_2 _).trans rfl) rfl ?_
  refine g_push ((q_2 _).trans rfl) ?_
  refine g_newi ((q_2 _).trans rfl) (fun _ => ?_)
  refine g_putf ((q_2 _).trans rfl) (fun G13 => ?_)
  refine g_aload ((q_2 _).trans rfl) rfl ?_
  refine g_push ((q_2 _).trans rfl) ?_
  refine g_newi ((q_2 _).trans rfl) (fun _ => ?_)
  refine g_putf ((q_2 _).trans rfl) (fun G14 => ?_)
  refine g_aload ((q_2 _).trans rfl) rfl ?_
  refine g_push ((q_2 _).trans rfl) ?_
  refine g_newi ((q_2 _).trans rfl) (fun _ => ?_)
  refine g_putf ((q_2 _).trans rfl) (fun G15 => ?_)
  refine g_aload ((q_2 _).trans rfl) rfl ?_
  refine g_push ((q_2 _).trans rfl) ?_
  refine g_newi ((q_2 _).trans rfl) (fun _ => ?_)
  refine g_putf ((q_2 _).trans rfl) (fun G16 => ?_)
  refine g_aload ((q_2 _).trans rfl) rfl ?_
  refine g_push ((q_2 _).trans rfl) ?_
  refine g_newi ((q_2 _).trans rfl) (fun _ => ?_)
  refine g_putf ((q_2 _).trans rfl) (fun G17 => ?_)
  refine g_aload ((q_2 _).trans rfl) rfl ?_
  refine g_push ((q_2 _).trans rfl) ?_
  refine g_newi ((q_2 _).trans rfl) (fun _ => ?_)
  refine g_putf ((q_2 _).trans rfl) (fun G18 => ?_)
  refine g_aload ((q_2 _).trans rfl) rfl ?_
  refine g_push ((q_2 _).trans rfl) ?_
  refine g_newi ((q_2 _).trans rfl) (fun _ => ?_)
  refine g_putf ((q_2 _).trans rfl) (fun G19 => ?_)
  refine g_aload ((q_2 _).trans rfl) rfl ?_
  refine g_push ((q_2 _).trans rfl) ?_
  refine g_newi ((q_2 _).trans rfl) (fun _ => ?_)
  refine g_putf ((q_2 _).trans rfl) (fun G20 => ?_)
  refine g_aload ((q_2 _).trans rfl) rfl ?_
  refine g_push ((q_2 _).trans rfl) ?_
  refine g_newi ((q_2 _).trans rfl) (fun _ => ?_)
  refine g_putf ((q_2 _).trans rfl) (fun G21 => ?_)
  refine g_aload ((q_2 _).trans rfl) rfl ?_
  refine g_push ((q_2 _).trans rfl) ?_
  refine g_newi ((q_2 _).trans rfl) (fun _ => ?_)
  refine g_putf ((q_2 _).trans rfl) (fun G22 => ?_)
  refine g_aload ((q_2 _).trans rfl) rfl ?_
  refine g_push ((q_2 _).trans rfl) ?_
  refine g_newi ((q_2 _).trans rfl) (fun _ => ?_)
  refine g_putf ((q_2 _).trans rfl) (fun G23 => ?_)
  refine g_aload ((q_2 _).trans rfl) rfl ?_
  refine g_push ((q_2 _).trans rfl) ?_
  refine g_newi ((q_2 _).trans rfl) (fun _ => ?_)
  refine g_putf ((q_2 _).trans rfl) (fun G24 => ?_)
  refine g_aload ((q_2 _).trans rfl) rfl ?_
  refine g_push ((q_2 _).trans rfl) ?_
  refine g_newi ((q_2 _).trans rfl) (fun _ => ?_)
  refine g_putf ((q_2 _).trans rfl) (fun G25 => ?_)
  refine g_aload ((q_2 _).trans rfl) rfl ?_
  refine g_push ((q_2 _).trans rfl) ?_
  refine g_newi ((q_2 _).trans rfl) (fun _ => ?_)
  refine g_putf ((q_2 _).trans rfl) (fun G26 => ?_)
  refine g_aload ((q_2 _).trans rfl) rfl ?_
  refine g_push ((q_2 _).trans rfl) ?_
  refine g_newi ((q_2 _).trans rfl) (fun _ => ?_)
  refine g_putf ((q_2 _).trans rfl) (fun G27 => ?_)
  refine g_aload ((q_2 _).trans rfl) rfl ?_
  refine g_push ((q_2 _).trans rfl) ?_
  refine g_newi ((q_2 _).trans rfl) (fun _ => ?_)
  refine g_putf ((q_2 _).trans rfl) (fun G28 => ?_)
  refine g_aload ((q_2 _).trans rfl) rfl ?_
  refine g_push ((q_2 _).trans rfl) ?_
  refine g_newi ((q_2 _).trans rfl) (fun _ => ?_)
  refine g_putf ((q_2 _).trans rfl) (fun G29 => ?_)
  refine g_aload ((q_2 _).trans rfl) rfl ?_
  refine g_push ((q_2 _).trans rfl) ?_
  refine g_newi ((q_2 _).trans rfl) (fun _ => ?_)
  refine g_putf ((q_2 _).trans rfl) (fun G30 => ?_)
  refine g_aload ((q_2 _).trans rfl) rfl ?_
  refine g_push ((q_2 _).trans rfl) ?_
  refine g_newi ((q_2 _).trans rfl) (fun _ => ?_)
  refine g_putf ((q_2 _).trans rfl) (fun G31 => ?_)
  refine g_push ((q_2 _).trans rfl) ?_
  refine g_istore ((q_2 _).trans rfl) ?_
  exact gle.rf _
theorem c_2 {K : gK} {d : Nat} {l0 : Nat} {G : gH} : gle (t_2_0 K d l0 G) (gCa K (d + 1) 2 [.ref l0] G) := by
  have h : gent (gMx 2) [.ref l0] = [some (.ref l0), none] := by
    show gent (gT 2).2.2.2.1 _ = _
    rw [m_2]; rfl
  exact fun r e => (congrArg (fun q => gRn K d 2 0 q [] G) h).trans (e_2_0 r e)
noncomputable def t_2_251_1 (K : gK) (d : Nat) (G1 : gH) : Option gO := some (.inl none, G1)
noncomputable def t_2_251_2 (K : gK) (d : Nat) (l0 : Nat) (l1 : Int32) (G4 : gH) : Option gO := gRn K d 2 251 [some (.ref l0), some (.int (l1 + 1))] [] G4
noncomputable def t_2_251_3 (K : gK) (d : Nat) (G : gH) (l1 : Int32) (l0 : Nat) (a3 : Nat) : Option gO := yI G a3 0 l1 ((-1) : Int32) (t_2_251_2 K d l0 l1)
noncomputable def t_2_251 (K : gK) (d : Nat) (l0 : Nat) (l1 : Int32) (G : gH) : Option gO := if (8 : Int32) ≤ l1 then (if g_cls G l0 = some 3 then (cV (gCa K d 87 [.ref l0] G) (t_2_251_1 K d)) else none) else (rR G l0 3 12 (t_2_251_3 K d G l1 l0))
theorem e_2_251 {K : gK} {d : Nat} {l0 : Nat} {l1 : Int32} {G : gH} : gle (t_2_251 K d l0 l1 G) (gRn K d 2 251 [some (.ref l0), some (.int l1)] [] G) := by
  unfold t_2_251
  refine g_iload ((q_2 _).trans rfl) rfl ?_
  refine g_push ((q_2 _).trans rfl) ?_
  refine g_cmpge ((q_2 _).trans rfl) (fun _ => ?_) (fun _ => ?_)
  · refine g_aload ((q_2 _).trans rfl) rfl ?_
    refine g_callV (kk := 0) ((q_2 _).trans rfl) (gHn m_2) rfl (by exact ⟨Nat.le_of_ble_eq_true rfl, rfl⟩) rfl (fun w G1 => gm_V (fun hw => ?_))
    subst hw
    exact g_vret ((q_2 _).trans rfl)
  · refine g_aload ((q_2 _).trans rfl) rfl ?_
    refine g_getR ((q_2 _).trans rfl) (fun a3 => ?_)
    refine g_iload ((q_2 _).trans rfl) rfl ?_
    refine g_push ((q_2 _).trans rfl) ?_
    refine g_iast ((q_2 _).trans rfl) (fun G4 => ?_)
    refine g_iinc ((q_2 _).trans rfl) rfl ?_
    refine g_goto ((q_2 _).trans rfl) ?_
    exact gle.rf _
theorem q_4 {K : gK} (pc : Nat) : gP K 4 pc = ((gL_4 K).lookup pc).getD o_none := rfl
noncomputable def t_4_0_1 (K : gK) (d : Nat) (v5 : Int32) (G8 : gH) : Option gO := some (.inl (some (.int v5)), G8)
noncomputable def t_4_0_2 (K : gK) (d : Nat) (l3 : Int32) (l0 : Nat) (v5 : Int32) (G7 : gH) : Option gO := if narrow .int (.int l3) = .int l3 ∧ fits .int (.int l3) = true then wF G7 l0 3 4 (.int l3) (t_4_0_1 K d v5) else none
noncomputable def t_4_0_3 (K : gK) (d : Nat) (l2 : Int32) (l0 : Nat) (l3 : Int32) (v5 : Int32) (G6 : gH) : Option gO := if narrow .boolean (.int l2) = .int l2 ∧ fits .boolean (.int l2) = true then wF G6 l0 3 2 (.int l2) (t_4_0_2 K d l3 l0 v5) else none
noncomputable def t_4_0_4 (K : gK) (d : Nat) (l1 : Int32) (G3 : gH) (l0 : Nat) (l2 : Int32) (l3 : Int32) (v5 : Int32) : Option gO := if narrow .int (.int l1) = .int l1 ∧ fits .int (.int l1) = true then wF G3 l0 3 1 (.int l1) (t_4_0_3 K d l2 l0 l3 v5) else none
noncomputable def t_4_0_5 (K : gK) (d : Nat) (l0 : Nat) (l1 : Int32) (l2 : Int32) (l3 : Int32) (v4 : Int32) (G3 : gH) : Option gO := if v4 = 0 then (rI G3 l0 3 1 (t_4_0_4 K d l1 G3 l0 l2 l3)) else (some (.inl (some (.int (0 : Int32))), G3))
noncomputable def t_4_0_6 (K : gK) (d : Nat) (v13 : Int32) (G16 : gH) : Option gO := some (.inl (some (.int v13)), G16)
noncomputable def t_4_0_7 (K : gK) (d : Nat) (l3 : Int32) (l0 : Nat) (v13 : Int32) (G15 : gH) : Option gO := if narrow .int (.int l3) = .int l3 ∧ fits .int (.int l3) = true then wF G15 l0 3 4 (.int l3) (t_4_0_6 K d v13) else none
noncomputable def t_4_0_8 (K : gK) (d : Nat) (l2 : Int32) (l0 : Nat) (l3 : Int32) (v13 : Int32) (G14 : gH) : Option gO := if narrow .boolean (.int l2) = .int l2 ∧ fits .boolean (.int l2) = true then wF G14 l0 3 2 (.int l2) (t_4_0_7 K d l3 l0 v13) else none
noncomputable def t_4_0_9 (K : gK) (d : Nat) (l1 : Int32) (G11 : gH) (l0 : Nat) (l2 : Int32) (l3 : Int32) (v13 : Int32) : Option gO := if narrow .int (.int l1) = .int l1 ∧ fits .int (.int l1) = true then wF G11 l0 3 1 (.int l1) (t_4_0_8 K d l2 l0 l3 v13) else none
noncomputable def t_4_0_10 (K : gK) (d : Nat) (l0 : Nat) (l1 : Int32) (l2 : Int32) (l3 : Int32) (v12 : Int32) (G11 : gH) : Option gO := if v12 = 0 then (rI G11 l0 3 1 (t_4_0_9 K d l1 G11 l0 l2 l3)) else (some (.inl (some (.int (0 : Int32))), G11))
noncomputable def t_4_0_11 (K : gK) (d : Nat) (v20 : Int32) (G23 : gH) : Option gO := some (.inl (some (.int v20)), G23)
noncomputable def t_4_0_12 (K : gK) (d : Nat) (l3 : Int32) (l0 : Nat) (v20 : Int32) (G22 : gH) : Option gO := if narrow .int (.int l3) = .int l3 ∧ fits .int (.int l3) = true then wF G22 l0 3 4 (.int l3) (t_4_0_11 K d v20) else none
noncomputable def t_4_0_13 (K : gK) (d : Nat) (l2 : Int32) (l0 : Nat) (l3 : Int32) (v20 : Int32) (G21 : gH) : Option gO := if narrow .boolean (.int l2) = .int l2 ∧ fits .boolean (.int l2) = true then wF G21 l0 3 2 (.int l2) (t_4_0_12 K d l3 l0 v20) else none
noncomputable def t_4_0_14 (K : gK) (d : Nat) (l1 : Int32) (G18 : gH) (l0 : Nat) (l2 : Int32) (l3 : Int32) (v20 : Int32) : Option gO := if narrow .int (.int l1) = .int l1 ∧ fits .int (.int l1) = true then wF G18 l0 3 1 (.int l1) (t_4_0_13 K d l2 l0 l3 v20) else none
noncomputable def t_4_0_15 (K : gK) (d : Nat) (l0 : Nat) (l1 : Int32) (l2 : Int32) (l3 : Int32) (v19 : Int32) (G18 : gH) : Option gO := if v19 = 0 then (rI G18 l0 3 1 (t_4_0_14 K d l1 G18 l0 l2 l3)) else (some (.inl (some (.int (0 : Int32))), G18))
noncomputable def t_4_0_16 (K : gK) (d : Nat) (v27 : Int32) (G30 : gH) : Option gO := some (.inl (some (.int v27)), G30)
noncomputable def t_4_0_17 (K : gK) (d : Nat) (l3 : Int32) (l0 : Nat) (v27 : Int32) (G29 : gH) : Option gO := if narrow .int (.int l3) = .int l3 ∧ fits .int (.int l3) = true then wF G29 l0 3 4 (.int l3) (t_4_0_16 K d v27) else none
noncomputable def t_4_0_18 (K : gK) (d : Nat) (l2 : Int32) (l0 : Nat) (l3 : Int32) (v27 : Int32) (G28 : gH) : Option gO := if narrow .boolean (.int l2) = .int l2 ∧ fits .boolean (.int l2) = true then wF G28 l0 3 2 (.int l2) (t_4_0_17 K d l3 l0 v27) else none
noncomputable def t_4_0_19 (K : gK) (d : Nat) (l1 : Int32) (G25 : gH) (l0 : Nat) (l2 : Int32) (l3 : Int32) (v27 : Int32) : Option gO := if narrow .int (.int l1) = .int l1 ∧ fits .int (.int l1) = true then wF G25 l0 3 1 (.int l1) (t_4_0_18 K d l2 l0 l3 v27) else none
noncomputable def t_4_0_20 (K : gK) (d : Nat) (l0 : Nat) (l1 : Int32) (l2 : Int32) (l3 : Int32) (v26 : Int32) (G25 : gH) : Option gO := if v26 = 0 then (rI G25 l0 3 1 (t_4_0_19 K d l1 G25 l0 l2 l3)) else (some (.inl (some (.int (0 : Int32))), G25))
noncomputable def t_4_0_21 (K : gK) (d : Nat) (v33 : Int32) (G36 : gH) : Option gO := some (.inl (some (.int v33)), G36)
noncomputable def t_4_0_22 (K : gK) (d : Nat) (l3 : Int32) (l0 : Nat) (v33 : Int32) (G35 : gH) : Option gO := if narrow .int (.int l3) = .int l3 ∧ fits .int (.int l3) = true then wF G35 l0 3 4 (.int l3) (t_4_0_21 K d v33) else none
noncomputable def t_4_0_23 (K : gK) (d : Nat) (l2 : Int32) (l0 : Nat) (l3 : Int32) (v33 : Int32) (G34 : gH) : Option gO := if narrow .boolean (.int l2) = .int l2 ∧ fits .boolean (.int l2) = true then wF G34 l0 3 2 (.int l2) (t_4_0_22 K d l3 l0 v33) else none
noncomputable def t_4_0_24 (K : gK) (d : Nat) (l1 : Int32) (G31 : gH) (l0 : Nat) (l2 : Int32) (l3 : Int32) (v33 : Int32) : Option gO := if narrow .int (.int l1) = .int l1 ∧ fits .int (.int l1) = true then wF G31 l0 3 1 (.int l1) (t_4_0_23 K d l2 l0 l3 v33) else none
noncomputable def t_4_0_25 (K : gK) (d : Nat) (l0 : Nat) (l1 : Int32) (l2 : Int32) (l3 : Int32) (v32 : Int32) (G31 : gH) : Option gO := if v32 = 0 then (rI G31 l0 3 1 (t_4_0_24 K d l1 G31 l0 l2 l3)) else (some (.inl (some (.int (0 : Int32))), G31))
noncomputable def t_4_0_26 (K : gK) (d : Nat) (G9 : gH) (l0 : Nat) (l1 : Int32) (l2 : Int32) (l3 : Int32) (v24 : Int32) : Option gO := if v24 ≤ 0 then (if g_cls G9 l0 = some 3 then (cI (gCa K d 90 [.ref l0, .int (0 : Int32)] G9) (t_4_0_20 K d l0 l1 l2 l3)) else none) else (if g_cls G9 l0 = some 3 then (cI (gCa K d 90 [.ref l0, .int (2 : Int32)] G9) (t_4_0_25 K d l0 l1 l2 l3)) else none)
noncomputable def t_4_0_27 (K : gK) (d : Nat) (G9 : gH) (l0 : Nat) (l1 : Int32) (l2 : Int32) (l3 : Int32) (v17 : Int32) : Option gO := if 0 < v17 then (if g_cls G9 l0 = some 3 then (cI (gCa K d 90 [.ref l0, .int (2 : Int32)] G9) (t_4_0_15 K d l0 l1 l2 l3)) else none) else (rI G9 l0 3 5 (t_4_0_26 K d G9 l0 l1 l2 l3))
noncomputable def t_4_0_28 (K : gK) (d : Nat) (l0 : Nat) (l1 : Int32) (l2 : Int32) (l3 : Int32) (v10 : Int32) (G9 : gH) : Option gO := if v10 = 0 then (if g_cls G9 l0 = some 3 then (cI (gCa K d 90 [.ref l0, .int (1 : Int32)] G9) (t_4_0_10 K d l0 l1 l2 l3)) else none) else (rI G9 l0 3 17 (t_4_0_27 K d G9 l0 l1 l2 l3))
noncomputable def t_4_0_29 (K : gK) (d : Nat) (l0 : Nat) (l1 : Int32) (l2 : Int32) (l3 : Int32) (v2 : Int32) (G1 : gH) : Option gO := if v2 = 0 then (if g_cls G1 l0 = some 3 then (cI (gCa K d 90 [.ref l0, .int (1 : Int32)] G1) (t_4_0_5 K d l0 l1 l2 l3)) else none) else (cI (gCa K d 89 [.int l3, .int (0 : Int32), .int (6 : Int32)] G1) (t_4_0_28 K d l0 l1 l2 l3))
noncomputable def t_4_0 (K : gK) (d : Nat) (l0 : Nat) (l1 : Int32) (l2 : Int32) (l3 : Int32) (G : gH) : Option gO := cI (gCa K d 89 [.int l1, .int (2 : Int32), .int (12 : Int32)] G) (t_4_0_29 K d l0 l1 l2 l3)
theorem e_4_0 {K : gK} {d : Nat} {l0 : Nat} {l1 : Int32} {l2 : Int32} {l3 : Int32} {G : gH} : gle (t_4_0 K d l0 l1 l2 l3 G) (gRn K d 4 0 [some (.ref l0), some (.int l1), some (.int l2), some (.int l3), none] [] G) := by
  unfold t_4_0
  refine g_aload ((q_4 _).trans rfl) rfl ?_
  refine g_iload ((q_4 _).trans rfl) rfl ?_
  refine g_push ((q_4 _).trans rfl) ?_
  refine g_push ((q_4 _).trans rfl) ?_
  refine g_callS (kk := 3) ((q_4 _).trans rfl) (gHn m_4) (by exact ⟨Nat.le_of_ble_eq_true rfl, Nat.le_of_ble_eq_true rfl, rfl⟩) rfl (fun w G1 => gm_I (fun v2 hw => ?_))
  subst hw
  refine g_ifeq ((q_4 _).trans rfl) (fun _ => ?_) (fun _ => ?_)
  · refine g_push ((q_4 _).trans rfl) ?_
    refine g_goto ((q_4 _).trans rfl) ?_
    refine g_callV (kk := 1) ((q_4 _).trans rfl) (gHn m_4) rfl (by exact ⟨Nat.le_of_ble_eq_true rfl, rfl⟩) rfl (fun w G3 => gm_I (fun v4 hw => ?_))
    subst hw
    refine g_ifeq ((q_4 _).trans rfl) (fun _ => ?_) (fun _ => ?_)
    · refine g_aload ((q_4 _).trans rfl) rfl ?_
      refine g_getI ((q_4 _).trans rfl) (fun v5 => ?_)
      refine g_istore ((q_4 _).trans rfl) ?_
      refine g_aload ((q_4 _).trans rfl) rfl ?_
      refine g_iload ((q_4 _).trans rfl) rfl ?_
      refine g_putf ((q_4 _).trans rfl) (fun G6 => ?_)
      refine g_aload ((q_4 _).trans rfl) rfl ?_
      refine g_iload ((q_4 _).trans rfl) rfl ?_
      refine g_putf ((q_4 _).trans rfl) (fun G7 => ?_)
      refine g_aload ((q_4 _).trans rfl) rfl ?_
      refine g_iload ((q_4 _).trans rfl) rfl ?_
      refine g_putf ((q_4 _).trans rfl) (fun G8 => ?_)
      refine g_iload ((q_4 _).trans rfl) rfl ?_
      exact g_iret ((q_4 _).trans rfl)
    · refine g_push ((q_4 _).trans rfl) ?_
      exact g_iret ((q_4 _).trans rfl)
  · refine g_iload ((q_4 _).trans rfl) rfl ?_
    refine g_push ((q_4 _).trans rfl) ?_
    refine g_push ((q_4 _).trans rfl) ?_
    refine g_callS (kk := 3) ((q_4 _).trans rfl) (gHn m_4) (by exact ⟨Nat.le_of_ble_eq_true rfl, Nat.le_of_ble_eq_true rfl, rfl⟩) rfl (fun w G9 => gm_I (fun v10 hw => ?_))
    subst hw
    refine g_ifne ((q_4 _).trans rfl) (fun _ => ?_) (fun _ => ?_)
    · refine g_push ((q_4 _).trans rfl) ?_
      refine g_goto ((q_4 _).trans rfl) ?_
      refine g_callV (kk := 1) ((q_4 _).trans rfl) (gHn m_4) rfl (by exact ⟨Nat.le_of_ble_eq_true rfl, rfl⟩) rfl (fun w G11 => gm_I (fun v12 hw => ?_))
      subst hw
      refine g_ifeq ((q_4 _).trans rfl) (fun _ => ?_) (fun _ => ?_)
      · refine g_aload ((q_4 _).trans rfl) rfl ?_
        refine g_getI ((q_4 _).trans rfl) (fun v13 => ?_)
        refine g_istore ((q_4 _).trans rfl) ?_
        refine g_aload ((q_4 _).trans rfl) rfl ?_
        refine g_iload ((q_4 _).trans rfl) rfl ?_
        refine g_putf ((q_4 _).trans rfl) (fun G14 => ?_)
        refine g_aload ((q_4 _).trans rfl) rfl ?_
        refine g_iload ((q_4 _).trans rfl) rfl ?_
        refine g_putf ((q_4 _).trans rfl) (fun G15 => ?_)
        refine g_aload ((q_4 _).trans rfl) rfl ?_
        refine g_iload ((q_4 _).trans rfl) rfl ?_
        refine g_putf ((q_4 _).trans rfl) (fun G16 => ?_)
        refine g_iload ((q_4 _).trans rfl) rfl ?_
        exact g_iret ((q_4 _).trans rfl)
      · refine g_push ((q_4 _).trans rfl) ?_
        exact g_iret ((q_4 _).trans rfl)
    · refine g_aload ((q_4 _).trans rfl) rfl ?_
      refine g_getI ((q_4 _).trans rfl) (fun v17 => ?_)
      refine g_ifgt ((q_4 _).trans rfl) (fun _ => ?_) (fun _ => ?_)
      · refine g_push ((q_4 _).trans rfl) ?_
        refine g_goto ((q_4 _).trans rfl) ?_
        refine g_callV (kk := 1) ((q_4 _).trans rfl) (gHn m_4) rfl (by exact ⟨Nat.le_of_ble_eq_true rfl, rfl⟩) rfl (fun w G18 => gm_I (fun v19 hw => ?_))
        subst hw
        refine g_ifeq ((q_4 _).trans rfl) (fun _ => ?_) (fun _ => ?_)
        · refine g_aload ((q_4 _).trans rfl) rfl ?_
          refine g_getI ((q_4 _).trans rfl) (fun v20 => ?_)
          refine g_istore ((q_4 _).trans rfl) ?_
          refine g_aload ((q_4 _).trans rfl) rfl ?_
          refine g_iload ((q_4 _).trans rfl) rfl ?_
          refine g_putf ((q_4 _).trans rfl) (fun G21 => ?_)
          refine g_aload ((q_4 _).trans rfl) rfl ?_
          refine g_iload ((q_4 _).trans rfl) rfl ?_
          refine g_putf ((q_4 _).trans rfl) (fun G22 => ?_)
          refine g_aload ((q_4 _).trans rfl) rfl ?_
          refine g_iload ((q_4 _).trans rfl) rfl ?_
          refine g_putf ((q_4 _).trans rfl) (fun G23 => ?_)
          refine g_iload ((q_4 _).trans rfl) rfl ?_
          exact g_iret ((q_4 _).trans rfl)
        · refine g_push ((q_4 _).trans rfl) ?_
          exact g_iret ((q_4 _).trans rfl)
      · refine g_aload ((q_4 _).trans rfl) rfl ?_
        refine g_getI ((q_4 _).trans rfl) (fun v24 => ?_)
        refine g_ifle ((q_4 _).trans rfl) (fun _ => ?_) (fun _ => ?_)
        · refine g_push ((q_4 _).trans rfl) ?_
          refine g_callV (kk := 1) ((q_4 _).trans rfl) (gHn m_4) rfl (by exact ⟨Nat.le_of_ble_eq_true rfl, rfl⟩) rfl (fun w G25 => gm_I (fun v26 hw => ?_))
          subst hw
          refine g_ifeq ((q_4 _).trans rfl) (fun _ => ?_) (fun _ => ?_)
          · refine g_aload ((q_4 _).trans rfl) rfl ?_
            refine g_getI ((q_4 _).trans rfl) (fun v27 => ?_)
            refine g_istore ((q_4 _).trans rfl) ?_
            refine g_aload ((q_4 _).trans rfl) rfl ?_
            refine g_iload ((q_4 _).trans rfl) rfl ?_
            refine g_putf ((q_4 _).trans rfl) (fun G28 => ?_)
            refine g_aload ((q_4 _).trans rfl) rfl ?_
            refine g_iload ((q_4 _).trans rfl) rfl ?_
            refine g_putf ((q_4 _).trans rfl) (fun G29 => ?_)
            refine g_aload ((q_4 _).trans rfl) rfl ?_
            refine g_iload ((q_4 _).trans rfl) rfl ?_
            refine g_putf ((q_4 _).trans rfl) (fun G30 => ?_)
            refine g_iload ((q_4 _).trans rfl) rfl ?_
            exact g_iret ((q_4 _).trans rfl)
          · refine g_push ((q_4 _).trans rfl) ?_
            exact g_iret ((q_4 _).trans rfl)
        · refine g_push ((q_4 _).trans rfl) ?_
          refine g_goto ((q_4 _).trans rfl) ?_
          refine g_callV (kk := 1) ((q_4 _).trans rfl) (gHn m_4) rfl (by exact ⟨Nat.le_of_ble_eq_true rfl, rfl⟩) rfl (fun w G31 => gm_I (fun v32 hw => ?_))
          subst hw
          refine g_ifeq ((q_4 _).trans rfl) (fun _ => ?_) (fun _ => ?_)
          · refine g_aload ((q_4 _).trans rfl) rfl ?_
            refine g_getI ((q_4 _).trans rfl) (fun v33 => ?_)
            refine g_istore ((q_4 _).trans rfl) ?_
            refine g_aload ((q_4 _).trans rfl) rfl ?_
            refine g_iload ((q_4 _).trans rfl) rfl ?_
            refine g_putf ((q_4 _).trans rfl) (fun G34 => ?_)
            refine g_aload ((q_4 _).trans rfl) rfl ?_
            refine g_iload ((q_4 _).trans rfl) rfl ?_
            refine g_putf ((q_4 _).trans rfl) (fun G35 => ?_)
            refine g_aload ((q_4 _).trans rfl) rfl ?_
            refine g_iload ((q_4 _).trans rfl) rfl ?_
            refine g_putf ((q_4 _).trans rfl) (fun G36 => ?_)
            refine g_iload ((q_4 _).trans rfl) rfl ?_
            exact g_iret ((q_4 _).trans rfl)
          · refine g_push ((q_4 _).trans rfl) ?_
            exact g_iret ((q_4 _).trans rfl)
theorem c_4 {K : gK} {d : Nat} {l0 : Nat} {l1 : Int32} {l2 : Int32} {l3 : Int32} {G : gH} : gle (t_4_0 K d l0 l1 l2 l3 G) (gCa K (d + 1) 4 [.ref l0, .int l1, .int l2, .int l3] G) := by
  have h : gent (gMx 4) [.ref l0, .int l1, .int l2, .int l3] = [some (.ref l0), some (.int l1), some (.int l2), some (.int l3), none] := by
    show gent (gT 4).2.2.2.1 _ = _
    rw [m_4]; rfl
  exact fun r e => (congrArg (fun q => gRn K d 4 0 q [] G) h).trans (e_4_0 r e)
theorem q_5 {K : gK} (pc : Nat) : gP K 5 pc = ((gL_5 K).lookup pc).getD o_none := rfl
noncomputable def t_5_0_1 (K : gK) (d : Nat) (G : gH) (v1 : Int32) : Option gO := some (.inl (some (.int v1)), G)
noncomputable def t_5_0 (K : gK) (d : Nat) (l0 : Nat) (G : gH) : Option gO := rI G l0 3 0 (t_5_0_1 K d G)
theorem e_5_0 {K : gK} {d : Nat} {l0 : Nat} {G : gH} : gle (t_5_0 K d l0 G) (gRn K d 5 0 [some (.ref l0)] [] G) := by
  unfold t_5_0
  refine g_aload ((q_5 _).trans rfl) rfl ?_
  refine g_getI ((q_5 _).trans rfl) (fun v1 => ?_)
  exact g_iret ((q_5 _).trans rfl)
theorem c_5 {K : gK} {d : Nat} {l0 : Nat} {G : gH} : gle (t_5_0 K d l0 G) (gCa K (d + 1) 5 [.ref l0] G) := by
  have h : gent (gMx 5) [.ref l0] = [some (.ref l0)] := by
    show gent (gT 5).2.2.2.1 _ = _
    rw [m_5]; rfl
  exact fun r e => (congrArg (fun q => gRn K d 5 0 q [] G) h).trans (e_5_0 r e)
theorem q_7 {K : gK} (pc : Nat) : gP K 7 pc = ((gL_7 K).lookup pc).getD o_none := rfl
noncomputable def t_7_0_1 (K : gK) (d : Nat) (v4 : Int32) (G5 : gH) : Option gO := if narrow .boolean (.int v4) = .int v4 then some (.inl (some (.int v4)), G5) else none
noncomputable def t_7_0_2 (K : gK) (d : Nat) (l1 : Int32) (G2 : gH) (l0 : Nat) (v4 : Int32) : Option gO := if narrow .boolean (.int l1) = .int l1 ∧ fits .boolean (.int l1) = true then wF G2 l0 3 3 (.int l1) (t_7_0_1 K d v4) else none
noncomputable def t_7_0_3 (K : gK) (d : Nat) (l0 : Nat) (l1 : Int32) (v3 : Int32) (G2 : gH) : Option gO := if v3 = 0 then (rI G2 l0 3 3 (t_7_0_2 K d l1 G2 l0)) else (if narrow .boolean (.int (0 : Int32)) = .int (0 : Int32) then some (.inl (some (.int (0 : Int32))), G2) else none)
noncomputable def t_7_0_4 (K : gK) (d : Nat) (v8 : Int32) (G9 : gH) : Option gO := if narrow .boolean (.int v8) = .int v8 then some (.inl (some (.int v8)), G9) else none
noncomputable def t_7_0_5 (K : gK) (d : Nat) (l1 : Int32) (G6 : gH) (l0 : Nat) (v8 : Int32) : Option gO := if narrow .boolean (.int l1) = .int l1 ∧ fits .boolean (.int l1) = true then wF G6 l0 3 3 (.int l1) (t_7_0_4 K d v8) else none
noncomputable def t_7_0_6 (K : gK) (d : Nat) (l0 : Nat) (l1 : Int32) (v7 : Int32) (G6 : gH) : Option gO := if v7 = 0 then (rI G6 l0 3 3 (t_7_0_5 K d l1 G6 l0)) else (if narrow .boolean (.int (0 : Int32)) = .int (0 : Int32) then some (.inl (some (.int (0 : Int32))), G6) else none)
noncomputable def t_7_0_7 (K : gK) (d : Nat) (G : gH) (l0 : Nat) (l1 : Int32) (v1 : Int32) : Option gO := if v1 ≤ 0 then (if g_cls G l0 = some 3 then (cI (gCa K d 90 [.ref l0, .int (0 : Int32)] G) (t_7_0_3 K d l0 l1)) else none) else (if g_cls G l0 = some 3 then (cI (gCa K d 90 [.ref l0, .int (1 : Int32)] G) (t_7_0_6 K d l0 l1)) else none)
noncomputable def t_7_0 (K : gK) (d : Nat) (l0 : Nat) (l1 : Int32) (G : gH) : Option gO := rI G l0 3 17 (t_7_0_7 K d G l0 l1)
theorem e_7_0 {K : gK} {d : Nat} {l0 : Nat} {l1 : Int32} {G : gH} : gle (t_7_0 K d l0 l1 G) (gRn K d 7 0 [some (.ref l0), some (.int l1), none] [] G) := by
  unfold t_7_0
  refine g_aload ((q_7 _).trans rfl) rfl ?_
  refine g_aload ((q_7 _).trans rfl) rfl ?_
  refine g_getI ((q_7 _).trans rfl) (fun v1 => ?_)
  refine g_ifle ((q_7 _).trans rfl) (fun _ => ?_) (fun _ => ?_)
  · refine g_push ((q_7 _).trans rfl) ?_
    refine g_callV (kk := 1) ((q_7 _).trans rfl) (gHn m_7) rfl (by exact ⟨Nat.le_of_ble_eq_true rfl, rfl⟩) rfl (fun w G2 => gm_I (fun v3 hw => ?_))
    subst hw
    refine g_ifeq ((q_7 _).trans rfl) (fun _ => ?_) (fun _ => ?_)
    · refine g_aload ((q_7 _).trans rfl) rfl ?_
      refine g_getI ((q_7 _).trans rfl) (fun v4 => ?_)
      refine g_istore ((q_7 _).trans rfl) ?_
      refine g_aload ((q_7 _).trans rfl) rfl ?_
      refine g_iload ((q_7 _).trans rfl) rfl ?_
      refine g_putf ((q_7 _).trans rfl) (fun G5 => ?_)
      refine g_iload ((q_7 _).trans rfl) rfl ?_
      exact g_zret ((q_7 _).trans rfl)
    · refine g_push ((q_7 _).trans rfl) ?_
      exact g_zret ((q_7 _).trans rfl)
  · refine g_push ((q_7 _).trans rfl) ?_
    refine g_goto ((q_7 _).trans rfl) ?_
    refine g_callV (kk := 1) ((q_7 _).trans rfl) (gHn m_7) rfl (by exact ⟨Nat.le_of_ble_eq_true rfl, rfl⟩) rfl (fun w G6 => gm_I (fun v7 hw => ?_))
    subst hw
    refine g_ifeq ((q_7 _).trans rfl) (fun _ => ?_) (fun _ => ?_)
    · refine g_aload ((q_7 _).trans rfl) rfl ?_
      refine g_getI ((q_7 _).trans rfl) (fun v8 => ?_)
      refine g_istore ((q_7 _).trans rfl) ?_
      refine g_aload ((q_7 _).trans rfl) rfl ?_
      refine g_iload ((q_7 _).trans rfl) rfl ?_
      refine g_putf ((q_7 _).trans rfl) (fun G9 => ?_)
      refine g_iload ((q_7 _).trans rfl) rfl ?_
      exact g_zret ((q_7 _).trans rfl)
    · refine g_push ((q_7 _).trans rfl) ?_
      exact g_zret ((q_7 _).trans rfl)
theorem c_7 {K : gK} {d : Nat} {l0 : Nat} {l1 : Int32} {G : gH} : gle (t_7_0 K d l0 l1 G) (gCa K (d + 1) 7 [.ref l0, .int l1] G) := by
  have h : gent (gMx 7) [.ref l0, .int l1] = [some (.ref l0), some (.int l1), none] := by
    show gent (gT 7).2.2.2.1 _ = _
    rw [m_7]; rfl
  exact fun r e => (congrArg (fun q => gRn K d 7 0 q [] G) h).trans (e_7_0 r e)
theorem q_9 {K : gK} (pc : Nat) : gP K 9 pc = ((gL_9 K).lookup pc).getD o_none := rfl
noncomputable def t_9_0_1 (K : gK) (d : Nat) (G10 : gH) (v11 : Int32) : Option gO := some (.inl (some (.int v11)), G10)
noncomputable def t_9_0_2 (K : gK) (d : Nat) (l0 : Nat) (G10 : gH) : Option gO := rI G10 l0 3 5 (t_9_0_1 K d G10)
noncomputable def t_9_0_3 (K : gK) (d : Nat) (G8 : gH) (l1 : Int32) (l2 : Int32) (l0 : Nat) (a9 : Nat) : Option gO := yI G8 a9 1 (((12 : Int32) * l1) + l2) (vp_nar .boolean (1 : Int32)) (t_9_0_2 K d l0)
noncomputable def t_9_0_4 (K : gK) (d : Nat) (l0 : Nat) (l1 : Int32) (l2 : Int32) (G8 : gH) : Option gO := rR G8 l0 3 6 (t_9_0_3 K d G8 l1 l2 l0)
noncomputable def t_9_0_5 (K : gK) (d : Nat) (G14 : gH) (v15 : Int32) : Option gO := some (.inl (some (.int v15)), G14)
noncomputable def t_9_0_6 (K : gK) (d : Nat) (l0 : Nat) (G14 : gH) : Option gO := rI G14 l0 3 5 (t_9_0_5 K d G14)
noncomputable def t_9_0_7 (K : gK) (d : Nat) (G12 : gH) (l1 : Int32) (l2 : Int32) (l0 : Nat) (a13 : Nat) : Option gO := yI G12 a13 1 (((12 : Int32) * l1) + l2) (vp_nar .boolean (1 : Int32)) (t_9_0_6 K d l0)
noncomputable def t_9_0_8 (K : gK) (d : Nat) (l0 : Nat) (l1 : Int32) (l2 : Int32) (G12 : gH) : Option gO := rR G12 l0 3 6 (t_9_0_7 K d G12 l1 l2 l0)
noncomputable def t_9_0_9 (K : gK) (d : Nat) (v5 : Int32) (G3 : gH) (l0 : Nat) (l1 : Int32) (l2 : Int32) (v7 : Int32) : Option gO := if v7 = 0 then (if narrow .int (.int (v5 + (1 : Int32))) = .int (v5 + (1 : Int32)) ∧ fits .int (.int (v5 + (1 : Int32))) = true then wF G3 l0 3 5 (.int (v5 + (1 : Int32))) (t_9_0_4 K d l0 l1 l2) else none) else (if narrow .int (.int (v5 + (0 : Int32))) = .int (v5 + (0 : Int32)) ∧ fits .int (.int (v5 + (0 : Int32))) = true then wF G3 l0 3 5 (.int (v5 + (0 : Int32))) (t_9_0_8 K d l0 l1 l2) else none)
noncomputable def t_9_0_10 (K : gK) (d : Nat) (G3 : gH) (l1 : Int32) (l2 : Int32) (v5 : Int32) (l0 : Nat) (a6 : Nat) : Option gO := xI G3 a6 1 (((12 : Int32) * l1) + l2) (t_9_0_9 K d v5 G3 l0 l1 l2)
noncomputable def t_9_0_11 (K : gK) (d : Nat) (G3 : gH) (l0 : Nat) (l1 : Int32) (l2 : Int32) (v5 : Int32) : Option gO := rR G3 l0 3 6 (t_9_0_10 K d G3 l1 l2 v5 l0)
noncomputable def t_9_0_12 (K : gK) (d : Nat) (l0 : Nat) (l1 : Int32) (l2 : Int32) (v4 : Int32) (G3 : gH) : Option gO := if v4 = 0 then (rI G3 l0 3 5 (t_9_0_11 K d G3 l0 l1 l2)) else (some (.inl (some (.int (0 : Int32))), G3))
noncomputable def t_9_0_13 (K : gK) (d : Nat) (G28 : gH) (v29 : Int32) : Option gO := some (.inl (some (.int v29)), G28)
noncomputable def t_9_0_14 (K : gK) (d : Nat) (l0 : Nat) (G28 : gH) : Option gO := rI G28 l0 3 5 (t_9_0_13 K d G28)
noncomputable def t_9_0_15 (K : gK) (d : Nat) (G26 : gH) (l1 : Int32) (l2 : Int32) (l0 : Nat) (a27 : Nat) : Option gO := yI G26 a27 1 (((12 : Int32) * l1) + l2) (vp_nar .boolean (1 : Int32)) (t_9_0_14 K d l0)
noncomputable def t_9_0_16 (K : gK) (d : Nat) (l0 : Nat) (l1 : Int32) (l2 : Int32) (G26 : gH) : Option gO := rR G26 l0 3 6 (t_9_0_15 K d G26 l1 l2 l0)
noncomputable def t_9_0_17 (K : gK) (d : Nat) (G32 : gH) (v33 : Int32) : Option gO := some (.inl (some (.int v33)), G32)
noncomputable def t_9_0_18 (K : gK) (d : Nat) (l0 : Nat) (G32 : gH) : Option gO := rI G32 l0 3 5 (t_9_0_17 K d G32)
noncomputable def t_9_0_19 (K : gK) (d : Nat) (G30 : gH) (l1 : Int32) (l2 : Int32) (l0 : Nat) (a31 : Nat) : Option gO := yI G30 a31 1 (((12 : Int32) * l1) + l2) (vp_nar .boolean (1 : Int32)) (t_9_0_18 K d l0)
noncomputable def t_9_0_20 (K : gK) (d : Nat) (l0 : Nat) (l1 : Int32) (l2 : Int32) (G30 : gH) : Option gO := rR G30 l0 3 6 (t_9_0_19 K d G30 l1 l2 l0)
noncomputable def t_9_0_21 (K : gK) (d : Nat) (v23 : Int32) (G21 : gH) (l0 : Nat) (l1 : Int32) (l2 : Int32) (v25 : Int32) : Option gO := if v25 = 0 then (if narrow .int (.int (v23 + (1 : Int32))) = .int (v23 + (1 : Int32)) ∧ fits .int (.int (v23 + (1 : Int32))) = true then wF G21 l0 3 5 (.int (v23 + (1 : Int32))) (t_9_0_16 K d l0 l1 l2) else none) else (if narrow .int (.int (v23 + (0 : Int32))) = .int (v23 + (0 : Int32)) ∧ fits .int (.int (v23 + (0 : Int32))) = true then wF G21 l0 3 5 (.int (v23 + (0 : Int32))) (t_9_0_20 K d l0 l1 l2) else none)
noncomputable def t_9_0_22 (K : gK) (d : Nat) (G21 : gH) (l1 : Int32) (l2 : Int32) (v23 : Int32) (l0 : Nat) (a24 : Nat) : Option gO := xI G21 a24 1 (((12 : Int32) * l1) + l2) (t_9_0_21 K d v23 G21 l0 l1 l2)
noncomputable def t_9_0_23 (K : gK) (d : Nat) (G21 : gH) (l0 : Nat) (l1 : Int32) (l2 : Int32) (v23 : Int32) : Option gO := rR G21 l0 3 6 (t_9_0_22 K d G21 l1 l2 v23 l0)
noncomputable def t_9_0_24 (K : gK) (d : Nat) (l0 : Nat) (l1 : Int32) (l2 : Int32) (v22 : Int32) (G21 : gH) : Option gO := if v22 = 0 then (rI G21 l0 3 5 (t_9_0_23 K d G21 l0 l1 l2)) else (some (.inl (some (.int (0 : Int32))), G21))
noncomputable def t_9_0_25 (K : gK) (d : Nat) (G41 : gH) (v42 : Int32) : Option gO := some (.inl (some (.int v42)), G41)
noncomputable def t_9_0_26 (K : gK) (d : Nat) (l0 : Nat) (G41 : gH) : Option gO := rI G41 l0 3 5 (t_9_0_25 K d G41)
noncomputable def t_9_0_27 (K : gK) (d : Nat) (G39 : gH) (l1 : Int32) (l2 : Int32) (l0 : Nat) (a40 : Nat) : Option gO := yI G39 a40 1 (((12 : Int32) * l1) + l2) (vp_nar .boolean (1 : Int32)) (t_9_0_26 K d l0)
noncomputable def t_9_0_28 (K : gK) (d : Nat) (l0 : Nat) (l1 : Int32) (l2 : Int32) (G39 : gH) : Option gO := rR G39 l0 3 6 (t_9_0_27 K d G39 l1 l2 l0)
noncomputable def t_9_0_29 (K : gK) (d : Nat) (G45 : gH) (v46 : Int32) : Option gO := some (.inl (some (.int v46)), G45)
noncomputable def t_9_0_30 (K : gK) (d : Nat) (l0 : Nat) (G45 : gH) : Option gO := rI G45 l0 3 5 (t_9_0_29 K d G45)
noncomputable def t_9_0_31 (K : gK) (d : Nat) (G43 : gH) (l1 : Int32) (l2 : Int32) (l0 : Nat) (a44 : Nat) : Option gO := yI G43 a44 1 (((12 : Int32) * l1) + l2) (vp_nar .boolean (1 : Int32)) (t_9_0_30 K d l0)
noncomputable def t_9_0_32 (K : gK) (d : Nat) (l0 : Nat) (l1 : Int32) (l2 : Int32) (G43 : gH) : Option gO := rR G43 l0 3 6 (t_9_0_31 K d G43 l1 l2 l0)
noncomputable def t_9_0_33 (K : gK) (d : Nat) (v36 : Int32) (G34 : gH) (l0 : Nat) (l1 : Int32) (l2 : Int32) (v38 : Int32) : Option gO := if v38 = 0 then (if narrow .int (.int (v36 + (1 : Int32))) = .int (v36 + (1 : Int32)) ∧ fits .int (.int (v36 + (1 : Int32))) = true then wF G34 l0 3 5 (.int (v36 + (1 : Int32))) (t_9_0_28 K d l0 l1 l2) else none) else (if narrow .int (.int (v36 + (0 : Int32))) = .int (v36 + (0 : Int32)) ∧ fits .int (.int (v36 + (0 : Int32))) = true then wF G34 l0 3 5 (.int (v36 + (0 : Int32))) (t_9_0_32 K d l0 l1 l2) else none)
noncomputable def t_9_0_34 (K : gK) (d : Nat) (G34 : gH) (l1 : Int32) (l2 : Int32) (v36 : Int32) (l0 : Nat) (a37 : Nat) : Option gO := xI G34 a37 1 (((12 : Int32) * l1) + l2) (t_9_0_33 K d v36 G34 l0 l1 l2)
noncomputable def t_9_0_35 (K : gK) (d : Nat) (G34 : gH) (l0 : Nat) (l1 : Int32) (l2 : Int32) (v36 : Int32) : Option gO := rR G34 l0 3 6 (t_9_0_34 K d G34 l1 l2 v36 l0)
noncomputable def t_9_0_36 (K : gK) (d : Nat) (l0 : Nat) (l1 : Int32) (l2 : Int32) (v35 : Int32) (G34 : gH) : Option gO := if v35 = 0 then (rI G34 l0 3 5 (t_9_0_35 K d G34 l0 l1 l2)) else (some (.inl (some (.int (0 : Int32))), G34))
noncomputable def t_9_0_37 (K : gK) (d : Nat) (G16 : gH) (l0 : Nat) (l1 : Int32) (l2 : Int32) (v20 : Int32) : Option gO := if v20 = 0 then (if g_cls G16 l0 = some 3 then (cI (gCa K d 90 [.ref l0, .int (3 : Int32)] G16) (t_9_0_24 K d l0 l1 l2)) else none) else (if g_cls G16 l0 = some 3 then (cI (gCa K d 90 [.ref l0, .int (0 : Int32)] G16) (t_9_0_36 K d l0 l1 l2)) else none)
noncomputable def t_9_0_38 (K : gK) (d : Nat) (G16 : gH) (l1 : Int32) (l2 : Int32) (l0 : Nat) (a19 : Nat) : Option gO := xI G16 a19 1 (((12 : Int32) * l1) + l2) (t_9_0_37 K d G16 l0 l1 l2)
noncomputable def t_9_0_39 (K : gK) (d : Nat) (G54 : gH) (v55 : Int32) : Option gO := some (.inl (some (.int v55)), G54)
noncomputable def t_9_0_40 (K : gK) (d : Nat) (l0 : Nat) (G54 : gH) : Option gO := rI G54 l0 3 5 (t_9_0_39 K d G54)
noncomputable def t_9_0_41 (K : gK) (d : Nat) (G52 : gH) (l1 : Int32) (l2 : Int32) (l0 : Nat) (a53 : Nat) : Option gO := yI G52 a53 1 (((12 : Int32) * l1) + l2) (vp_nar .boolean (1 : Int32)) (t_9_0_40 K d l0)
noncomputable def t_9_0_42 (K : gK) (d : Nat) (l0 : Nat) (l1 : Int32) (l2 : Int32) (G52 : gH) : Option gO := rR G52 l0 3 6 (t_9_0_41 K d G52 l1 l2 l0)
noncomputable def t_9_0_43 (K : gK) (d : Nat) (G58 : gH) (v59 : Int32) : Option gO := some (.inl (some (.int v59)), G58)
noncomputable def t_9_0_44 (K : gK) (d : Nat) (l0 : Nat) (G58 : gH) : Option gO := rI G58 l0 3 5 (t_9_0_43 K d G58)
noncomputable def t_9_0_45 (K : gK) (d : Nat) (G56 : gH) (l1 : Int32) (l2 : Int32) (l0 : Nat) (a57 : Nat) : Option gO := yI G56 a57 1 (((12 : Int32) * l1) + l2) (vp_nar .boolean (1 : Int32)) (t_9_0_44 K d l0)
noncomputable def t_9_0_46 (K : gK) (d : Nat) (l0 : Nat) (l1 : Int32) (l2 : Int32) (G56 : gH) : Option gO := rR G56 l0 3 6 (t_9_0_45 K d G56 l1 l2 l0)
noncomputable def t_9_0_47 (K : gK) (d : Nat) (v49 : Int32) (G47 : gH) (l0 : Nat) (l1 : Int32) (l2 : Int32) (v51 : Int32) : Option gO := if v51 = 0 then (if narrow .int (.int (v49 + (1 : Int32))) = .int (v49 + (1 : Int32)) ∧ fits .int (.int (v49 + (1 : Int32))) = true then wF G47 l0 3 5 (.int (v49 + (1 : Int32))) (t_9_0_42 K d l0 l1 l2) else none) else (if narrow .int (.int (v49 + (0 : Int32))) = .int (v49 + (0 : Int32)) ∧ fits .int (.int (v49 + (0 : Int32))) = true then wF G47 l0 3 5 (.int (v49 + (0 : Int32))) (t_9_0_46 K d l0 l1 l2) else none)
noncomputable def t_9_0_48 (K : gK) (d : Nat) (G47 : gH) (l1 : Int32) (l2 : Int32) (v49 : Int32) (l0 : Nat) (a50 : Nat) : Option gO := xI G47 a50 1 (((12 : Int32) * l1) + l2) (t_9_0_47 K d v49 G47 l0 l1 l2)
noncomputable def t_9_0_49 (K : gK) (d : Nat) (G47 : gH) (l0 : Nat) (l1 : Int32) (l2 : Int32) (v49 : Int32) : Option gO := rR G47 l0 3 6 (t_9_0_48 K d G47 l1 l2 v49 l0)
noncomputable def t_9_0_50 (K : gK) (d : Nat) (l0 : Nat) (l1 : Int32) (l2 : Int32) (v48 : Int32) (G47 : gH) : Option gO := if v48 = 0 then (rI G47 l0 3 5 (t_9_0_49 K d G47 l0 l1 l2)) else (some (.inl (some (.int (0 : Int32))), G47))
noncomputable def t_9_0_51 (K : gK) (d : Nat) (G16 : gH) (l0 : Nat) (l1 : Int32) (l2 : Int32) (v18 : Int32) : Option gO := if v18 = (12 : Int32) then (rR G16 l0 3 6 (t_9_0_38 K d G16 l1 l2 l0)) else (if g_cls G16 l0 = some 3 then (cI (gCa K d 90 [.ref l0, .int (0 : Int32)] G16) (t_9_0_50 K d l0 l1 l2)) else none)
noncomputable def t_9_0_52 (K : gK) (d : Nat) (G67 : gH) (v68 : Int32) : Option gO := some (.inl (some (.int v68)), G67)
noncomputable def t_9_0_53 (K : gK) (d : Nat) (l0 : Nat) (G67 : gH) : Option gO := rI G67 l0 3 5 (t_9_0_52 K d G67)
noncomputable def t_9_0_54 (K : gK) (d : Nat) (G65 : gH) (l1 : Int32) (l2 : Int32) (l0 : Nat) (a66 : Nat) : Option gO := yI G65 a66 1 (((12 : Int32) * l1) + l2) (vp_nar .boolean (1 : Int32)) (t_9_0_53 K d l0)
noncomputable def t_9_0_55 (K : gK) (d : Nat) (l0 : Nat) (l1 : Int32) (l2 : Int32) (G65 : gH) : Option gO := rR G65 l0 3 6 (t_9_0_54 K d G65 l1 l2 l0)
noncomputable def t_9_0_56 (K : gK) (d : Nat) (G71 : gH) (v72 : Int32) : Option gO := some (.inl (some (.int v72)), G71)
noncomputable def t_9_0_57 (K : gK) (d : Nat) (l0 : Nat) (G71 : gH) : Option gO := rI G71 l0 3 5 (t_9_0_56 K d G71)
noncomputable def t_9_0_58 (K : gK) (d : Nat) (G69 : gH) (l1 : Int32) (l2 : Int32) (l0 : Nat) (a70 : Nat) : Option gO := yI G69 a70 1 (((12 : Int32) * l1) + l2) (vp_nar .boolean (1 : Int32)) (t_9_0_57 K d l0)
noncomputable def t_9_0_59 (K : gK) (d : Nat) (l0 : Nat) (l1 : Int32) (l2 : Int32) (G69 : gH) : Option gO := rR G69 l0 3 6 (t_9_0_58 K d G69 l1 l2 l0)
noncomputable def t_9_0_60 (K : gK) (d : Nat) (v62 : Int32) (G60 : gH) (l0 : Nat) (l1 : Int32) (l2 : Int32) (v64 : Int32) : Option gO := if v64 = 0 then (if narrow .int (.int (v62 + (1 : Int32))) = .int (v62 + (1 : Int32)) ∧ fits .int (.int (v62 + (1 : Int32))) = true then wF G60 l0 3 5 (.int (v62 + (1 : Int32))) (t_9_0_55 K d l0 l1 l2) else none) else (if narrow .int (.int (v62 + (0 : Int32))) = .int (v62 + (0 : Int32)) ∧ fits .int (.int (v62 + (0 : Int32))) = true then wF G60 l0 3 5 (.int (v62 + (0 : Int32))) (t_9_0_59 K d l0 l1 l2) else none)
noncomputable def t_9_0_61 (K : gK) (d : Nat) (G60 : gH) (l1 : Int32) (l2 : Int32) (v62 : Int32) (l0 : Nat) (a63 : Nat) : Option gO := xI G60 a63 1 (((12 : Int32) * l1) + l2) (t_9_0_60 K d v62 G60 l0 l1 l2)
noncomputable def t_9_0_62 (K : gK) (d : Nat) (G60 : gH) (l0 : Nat) (l1 : Int32) (l2 : Int32) (v62 : Int32) : Option gO := rR G60 l0 3 6 (t_9_0_61 K d G60 l1 l2 v62 l0)
noncomputable def t_9_0_63 (K : gK) (d : Nat) (l0 : Nat) (l1 : Int32) (l2 : Int32) (v61 : Int32) (G60 : gH) : Option gO := if v61 = 0 then (rI G60 l0 3 5 (t_9_0_62 K d G60 l0 l1 l2)) else (some (.inl (some (.int (0 : Int32))), G60))
noncomputable def t_9_0_64 (K : gK) (d : Nat) (l0 : Nat) (l1 : Int32) (l2 : Int32) (v17 : Int32) (G16 : gH) : Option gO := if v17 = 0 then (rI G16 l0 3 5 (t_9_0_51 K d G16 l0 l1 l2)) else (if g_cls G16 l0 = some 3 then (cI (gCa K d 90 [.ref l0, .int (2 : Int32)] G16) (t_9_0_63 K d l0 l1 l2)) else none)
noncomputable def t_9_0_65 (K : gK) (d : Nat) (G83 : gH) (v84 : Int32) : Option gO := some (.inl (some (.int v84)), G83)
noncomputable def t_9_0_66 (K : gK) (d : Nat) (l0 : Nat) (G83 : gH) : Option gO := rI G83 l0 3 5 (t_9_0_65 K d G83)
noncomputable def t_9_0_67 (K : gK) (d : Nat) (G81 : gH) (l1 : Int32) (l2 : Int32) (l0 : Nat) (a82 : Nat) : Option gO := yI G81 a82 1 (((12 : Int32) * l1) + l2) (vp_nar .boolean (1 : Int32)) (t_9_0_66 K d l0)
noncomputable def t_9_0_68 (K : gK) (d : Nat) (l0 : Nat) (l1 : Int32) (l2 : Int32) (G81 : gH) : Option gO := rR G81 l0 3 6 (t_9_0_67 K d G81 l1 l2 l0)
noncomputable def t_9_0_69 (K : gK) (d : Nat) (G87 : gH) (v88 : Int32) : Option gO := some (.inl (some (.int v88)), G87)
noncomputable def t_9_0_70 (K : gK) (d : Nat) (l0 : Nat) (G87 : gH) : Option gO := rI G87 l0 3 5 (t_9_0_69 K d G87)
noncomputable def t_9_0_71 (K : gK) (d : Nat) (G85 : gH) (l1 : Int32) (l2 : Int32) (l0 : Nat) (a86 : Nat) : Option gO := yI G85 a86 1 (((12 : Int32) * l1) + l2) (vp_nar .boolean (1 : Int32)) (t_9_0_70 K d l0)
noncomputable def t_9_0_72 (K : gK) (d : Nat) (l0 : Nat) (l1 : Int32) (l2 : Int32) (G85 : gH) : Option gO := rR G85 l0 3 6 (t_9_0_71 K d G85 l1 l2 l0)
noncomputable def t_9_0_73 (K : gK) (d : Nat) (v78 : Int32) (G76 : gH) (l0 : Nat) (l1 : Int32) (l2 : Int32) (v80 : Int32) : Option gO := if v80 = 0 then (if narrow .int (.int (v78 + (1 : Int32))) = .int (v78 + (1 : Int32)) ∧ fits .int (.int (v78 + (1 : Int32))) = true then wF G76 l0 3 5 (.int (v78 + (1 : Int32))) (t_9_0_68 K d l0 l1 l2) else none) else (if narrow .int (.int (v78 + (0 : Int32))) = .int (v78 + (0 : Int32)) ∧ fits .int (.int (v78 + (0 : Int32))) = true then wF G76 l0 3 5 (.int (v78 + (0 : Int32))) (t_9_0_72 K d l0 l1 l2) else none)
noncomputable def t_9_0_74 (K : gK) (d : Nat) (G76 : gH) (l1 : Int32) (l2 : Int32) (v78 : Int32) (l0 : Nat) (a79 : Nat) : Option gO := xI G76 a79 1 (((12 : Int32) * l1) + l2) (t_9_0_73 K d v78 G76 l0 l1 l2)
noncomputable def t_9_0_75 (K : gK) (d : Nat) (G76 : gH) (l0 : Nat) (l1 : Int32) (l2 : Int32) (v78 : Int32) : Option gO := rR G76 l0 3 6 (t_9_0_74 K d G76 l1 l2 v78 l0)
noncomputable def t_9_0_76 (K : gK) (d : Nat) (l0 : Nat) (l1 : Int32) (l2 : Int32) (v77 : Int32) (G76 : gH) : Option gO := if v77 = 0 then (rI G76 l0 3 5 (t_9_0_75 K d G76 l0 l1 l2)) else (some (.inl (some (.int (0 : Int32))), G76))
noncomputable def t_9_0_77 (K : gK) (d : Nat) (G101 : gH) (v102 : Int32) : Option gO := some (.inl (some (.int v102)), G101)
noncomputable def t_9_0_78 (K : gK) (d : Nat) (l0 : Nat) (G101 : gH) : Option gO := rI G101 l0 3 5 (t_9_0_77 K d G101)
noncomputable def t_9_0_79 (K : gK) (d : Nat) (G99 : gH) (l1 : Int32) (l2 : Int32) (l0 : Nat) (a100 : Nat) : Option gO := yI G99 a100 1 (((12 : Int32) * l1) + l2) (vp_nar .boolean (1 : Int32)) (t_9_0_78 K d l0)
noncomputable def t_9_0_80 (K : gK) (d : Nat) (l0 : Nat) (l1 : Int32) (l2 : Int32) (G99 : gH) : Option gO := rR G99 l0 3 6 (t_9_0_79 K d G99 l1 l2 l0)
noncomputable def t_9_0_81 (K : gK) (d : Nat) (G105 : gH) (v106 : Int32) : Option gO := some (.inl (some (.int v106)), G105)
noncomputable def t_9_0_82 (K : gK) (d : Nat) (l0 : Nat) (G105 : gH) : Option gO := rI G105 l0 3 5 (t_9_0_81 K d G105)
noncomputable def t_9_0_83 (K : gK) (d : Nat) (G103 : gH) (l1 : Int32) (l2 : Int32) (l0 : Nat) (a104 : Nat) : Option gO := yI G103 a104 1 (((12 : Int32) * l1) + l2) (vp_nar .boolean (1 : Int32)) (t_9_0_82 K d l0)
noncomputable def t_9_0_84 (K : gK) (d : Nat) (l0 : Nat) (l1 : Int32) (l2 : Int32) (G103 : gH) : Option gO := rR G103 l0 3 6 (t_9_0_83 K d G103 l1 l2 l0)
noncomputable def t_9_0_85 (K : gK) (d : Nat) (v96 : Int32) (G94 : gH) (l0 : Nat) (l1 : Int32) (l2 : Int32) (v98 : Int32) : Option gO := if v98 = 0 then (if narrow .int (.int (v96 + (1 : Int32))) = .int (v96 + (1 : Int32)) ∧ fits .int (.int (v96 + (1 : Int32))) = true then wF G94 l0 3 5 (.int (v96 + (1 : Int32))) (t_9_0_80 K d l0 l1 l2) else none) else (if narrow .int (.int (v96 + (0 : Int32))) = .int (v96 + (0 : Int32)) ∧ fits .int (.int (v96 + (0 : Int32))) = true then wF G94 l0 3 5 (.int (v96 + (0 : Int32))) (t_9_0_84 K d l0 l1 l2) else none)
noncomputable def t_9_0_86 (K : gK) (d : Nat) (G94 : gH) (l1 : Int32) (l2 : Int32) (v96 : Int32) (l0 : Nat) (a97 : Nat) : Option gO := xI G94 a97 1 (((12 : Int32) * l1) + l2) (t_9_0_85 K d v96 G94 l0 l1 l2)
noncomputable def t_9_0_87 (K : gK) (d : Nat) (G94 : gH) (l0 : Nat) (l1 : Int32) (l2 : Int32) (v96 : Int32) : Option gO := rR G94 l0 3 6 (t_9_0_86 K d G94 l1 l2 v96 l0)
noncomputable def t_9_0_88 (K : gK) (d : Nat) (l0 : Nat) (l1 : Int32) (l2 : Int32) (v95 : Int32) (G94 : gH) : Option gO := if v95 = 0 then (rI G94 l0 3 5 (t_9_0_87 K d G94 l0 l1 l2)) else (some (.inl (some (.int (0 : Int32))), G94))
noncomputable def t_9_0_89 (K : gK) (d : Nat) (G114 : gH) (v115 : Int32) : Option gO := some (.inl (some (.int v115)), G114)
noncomputable def t_9_0_90 (K : gK) (d : Nat) (l0 : Nat) (G114 : gH) : Option gO := rI G114 l0 3 5 (t_9_0_89 K d G114)
noncomputable def t_9_0_91 (K : gK) (d : Nat) (G112 : gH) (l1 : Int32) (l2 : Int32) (l0 : Nat) (a113 : Nat) : Option gO := yI G112 a113 1 (((12 : Int32) * l1) + l2) (vp_nar .boolean (1 : Int32)) (t_9_0_90 K d l0)
noncomputable def t_9_0_92 (K : gK) (d : Nat) (l0 : Nat) (l1 : Int32) (l2 : Int32) (G112 : gH) : Option gO := rR G112 l0 3 6 (t_9_0_91 K d G112 l1 l2 l0)
noncomputable def t_9_0_93 (K : gK) (d : Nat) (G118 : gH) (v119 : Int32) : Option gO := some (.inl (some (.int v119)), G118)
noncomputable def t_9_0_94 (K : gK) (d : Nat) (l0 : Nat) (G118 : gH) : Option gO := rI G118 l0 3 5 (t_9_0_93 K d G118)
noncomputable def t_9_0_95 (K : gK) (d : Nat) (G116 : gH) (l1 : Int32) (l2 : Int32) (l0 : Nat) (a117 : Nat) : Option gO := yI G116 a117 1 (((12 : Int32) * l1) + l2) (vp_nar .boolean (1 : Int32)) (t_9_0_94 K d l0)
noncomputable def t_9_0_96 (K : gK) (d : Nat) (l0 : Nat) (l1 : Int32) (l2 : Int32) (G116 : gH) : Option gO := rR G116 l0 3 6 (t_9_0_95 K d G116 l1 l2 l0)
noncomputable def t_9_0_97 (K : gK) (d : Nat) (v109 : Int32) (G107 : gH) (l0 : Nat) (l1 : Int32) (l2 : Int32) (v111 : Int32) : Option gO := if v111 = 0 then (if narrow .int (.int (v109 + (1 : Int32))) = .int (v109 + (1 : Int32)) ∧ fits .int (.int (v109 + (1 : Int32))) = true then wF G107 l0 3 5 (.int (v109 + (1 : Int32))) (t_9_0_92 K d l0 l1 l2) else none) else (if narrow .int (.int (v109 + (0 : Int32))) = .int (v109 + (0 : Int32)) ∧ fits .int (.int (v109 + (0 : Int32))) = true then wF G107 l0 3 5 (.int (v109 + (0 : Int32))) (t_9_0_96 K d l0 l1 l2) else none)
noncomputable def t_9_0_98 (K : gK) (d : Nat) (G107 : gH) (l1 : Int32) (l2 : Int32) (v109 : Int32) (l0 : Nat) (a110 : Nat) : Option gO := xI G107 a110 1 (((12 : Int32) * l1) + l2) (t_9_0_97 K d v109 G107 l0 l1 l2)
noncomputable def t_9_0_99 (K : gK) (d : Nat) (G107 : gH) (l0 : Nat) (l1 : Int32) (l2 : Int32) (v109 : Int32) : Option gO := rR G107 l0 3 6 (t_9_0_98 K d G107 l1 l2 v109 l0)
noncomputable def t_9_0_100 (K : gK) (d : Nat) (l0 : Nat) (l1 : Int32) (l2 : Int32) (v108 : Int32) (G107 : gH) : Option gO := if v108 = 0 then (rI G107 l0 3 5 (t_9_0_99 K d G107 l0 l1 l2)) else (some (.inl (some (.int (0 : Int32))), G107))
noncomputable def t_9_0_101 (K : gK) (d : Nat) (G89 : gH) (l0 : Nat) (l1 : Int32) (l2 : Int32) (v93 : Int32) : Option gO := if v93 = 0 then (if g_cls G89 l0 = some 3 then (cI (gCa K d 90 [.ref l0, .int (3 : Int32)] G89) (t_9_0_88 K d l0 l1 l2)) else none) else (if g_cls G89 l0 = some 3 then (cI (gCa K d 90 [.ref l0, .int (0 : Int32)] G89) (t_9_0_100 K d l0 l1 l2)) else none)
noncomputable def t_9_0_102 (K : gK) (d : Nat) (G89 : gH) (l1 : Int32) (l2 : Int32) (l0 : Nat) (a92 : Nat) : Option gO := xI G89 a92 1 (((12 : Int32) * l1) + l2) (t_9_0_101 K d G89 l0 l1 l2)
noncomputable def t_9_0_103 (K : gK) (d : Nat) (G127 : gH) (v128 : Int32) : Option gO := some (.inl (some (.int v128)), G127)
noncomputable def t_9_0_104 (K : gK) (d : Nat) (l0 : Nat) (G127 : gH) : Option gO := rI G127 l0 3 5 (t_9_0_103 K d G127)
noncomputable def t_9_0_105 (K : gK) (d : Nat) (G125 : gH) (l1 : Int32) (l2 : Int32) (l0 : Nat) (a126 : Nat) : Option gO := yI G125 a126 1 (((12 : Int32) * l1) + l2) (vp_nar .boolean (1 : Int32)) (t_9_0_104 K d l0)
noncomputable def t_9_0_106 (K : gK) (d : Nat) (l0 : Nat) (l1 : Int32) (l2 : Int32) (G125 : gH) : Option gO := rR G125 l0 3 6 (t_9_0_105 K d G125 l1 l2 l0)
noncomputable def t_9_0_107 (K : gK) (d : Nat) (G131 : gH) (v132 : Int32) : Option gO := some (.inl (some (.int v132)), G131)
noncomputable def t_9_0_108 (K : gK) (d : Nat) (l0 : Nat) (G131 : gH) : Option gO := rI G131 l0 3 5 (t_9_0_107 K d G131)
noncomputable def t_9_0_109 (K : gK) (d : Nat) (G129 : gH) (l1 : Int32) (l2 : Int32) (l0 : Nat) (a130 : Nat) : Option gO := yI G129 a130 1 (((12 : Int32) * l1) + l2) (vp_nar .boolean (1 : Int32)) (t_9_0_108 K d l0)
noncomputable def t_9_0_110 (K : gK) (d : Nat) (l0 : Nat) (l1 : Int32) (l2 : Int32) (G129 : gH) : Option gO := rR G129 l0 3 6 (t_9_0_109 K d G129 l1 l2 l0)
noncomputable def t_9_0_111 (K : gK) (d : Nat) (v122 : Int32) (G120 : gH) (l0 : Nat) (l1 : Int32) (l2 : Int32) (v124 : Int32) : Option gO := if v124 = 0 then (if narrow .int (.int (v122 + (1 : Int32))) = .int (v122 + (1 : Int32)) ∧ fits .int (.int (v122 + (1 : Int32))) = true then wF G120 l0 3 5 (.int (v122 + (1 : Int32))) (t_9_0_106 K d l0 l1 l2) else none) else (if narrow .int (.int (v122 + (0 : Int32))) = .int (v122 + (0 : Int32)) ∧ fits .int (.int (v122 + (0 : Int32))) = true then wF G120 l0 3 5 (.int (v122 + (0 : Int32))) (t_9_0_110 K d l0 l1 l2) else none)
noncomputable def t_9_0_112 (K : gK) (d : Nat) (G120 : gH) (l1 : Int32) (l2 : Int32) (v122 : Int32) (l0 : Nat) (a123 : Nat) : Option gO := xI G120 a123 1 (((12 : Int32) * l1) + l2) (t_9_0_111 K d v122 G120 l0 l1 l2)
noncomputable def t_9_0_113 (K : gK) (d : Nat) (G120 : gH) (l0 : Nat) (l1 : Int32) (l2 : Int32) (v122 : Int32) : Option gO := rR G120 l0 3 6 (t_9_0_112 K d G120 l1 l2 v122 l0)
noncomputable def t_9_0_114 (K : gK) (d : Nat) (l0 : Nat) (l1 : Int32) (l2 : Int32) (v121 : Int32) (G120 : gH) : Option gO := if v121 = 0 then (rI G120 l0 3 5 (t_9_0_113 K d G120 l0 l1 l2)) else (some (.inl (some (.int (0 : Int32))), G120))
noncomputable def t_9_0_115 (K : gK) (d : Nat) (G89 : gH) (l0 : Nat) (l1 : Int32) (l2 : Int32) (v91 : Int32) : Option gO := if v91 = (12 : Int32) then (rR G89 l0 3 6 (t_9_0_102 K d G89 l1 l2 l0)) else (if g_cls G89 l0 = some 3 then (cI (gCa K d 90 [.ref l0, .int (0 : Int32)] G89) (t_9_0_114 K d l0 l1 l2)) else none)
noncomputable def t_9_0_116 (K : gK) (d : Nat) (G140 : gH) (v141 : Int32) : Option gO := some (.inl (some (.int v141)), G140)
noncomputable def t_9_0_117 (K : gK) (d : Nat) (l0 : Nat) (G140 : gH) : Option gO := rI G140 l0 3 5 (t_9_0_116 K d G140)
noncomputable def t_9_0_118 (K : gK) (d : Nat) (G138 : gH) (l1 : Int32) (l2 : Int32) (l0 : Nat) (a139 : Nat) : Option gO := yI G138 a139 1 (((12 : Int32) * l1) + l2) (vp_nar .boolean (1 : Int32)) (t_9_0_117 K d l0)
noncomputable def t_9_0_119 (K : gK) (d : Nat) (l0 : Nat) (l1 : Int32) (l2 : Int32) (G138 : gH) : Option gO := rR G138 l0 3 6 (t_9_0_118 K d G138 l1 l2 l0)
noncomputable def t_9_0_120 (K : gK) (d : Nat) (G144 : gH) (v145 : Int32) : Option gO := some (.inl (some (.int v145)), G144)
noncomputable def t_9_0_121 (K : gK) (d : Nat) (l0 : Nat) (G144 : gH) : Option gO := rI G144 l0 3 5 (t_9_0_120 K d G144)
noncomputable def t_9_0_122 (K : gK) (d : Nat) (G142 : gH) (l1 : Int32) (l2 : Int32) (l0 : Nat) (a143 : Nat) : Option gO := yI G142 a143 1 (((12 : Int32) * l1) + l2) (vp_nar .boolean (1 : Int32)) (t_9_0_121 K d l0)
noncomputable def t_9_0_123 (K : gK) (d : Nat) (l0 : Nat) (l1 : Int32) (l2 : Int32) (G142 : gH) : Option gO := rR G142 l0 3 6 (t_9_0_122 K d G142 l1 l2 l0)
noncomputable def t_9_0_124 (K : gK) (d : Nat) (v135 : Int32) (G133 : gH) (l0 : Nat) (l1 : Int32) (l2 : Int32) (v137 : Int32) : Option gO := if v137 = 0 then (if narrow .int (.int (v135 + (1 : Int32))) = .int (v135 + (1 : Int32)) ∧ fits .int (.int (v135 + (1 : Int32))) = true then wF G133 l0 3 5 (.int (v135 + (1 : Int32))) (t_9_0_119 K d l0 l1 l2) else none) else (if narrow .int (.int (v135 + (0 : Int32))) = .int (v135 + (0 : Int32)) ∧ fits .int (.int (v135 + (0 : Int32))) = true then wF G133 l0 3 5 (.int (v135 + (0 : Int32))) (t_9_0_123 K d l0 l1 l2) else none)
noncomputable def t_9_0_125 (K : gK) (d : Nat) (G133 : gH) (l1 : Int32) (l2 : Int32) (v135 : Int32) (l0 : Nat) (a136 : Nat) : Option gO := xI G133 a136 1 (((12 : Int32) * l1) + l2) (t_9_0_124 K d v135 G133 l0 l1 l2)
noncomputable def t_9_0_126 (K : gK) (d : Nat) (G133 : gH) (l0 : Nat) (l1 : Int32) (l2 : Int32) (v135 : Int32) : Option gO := rR G133 l0 3 6 (t_9_0_125 K d G133 l1 l2 v135 l0)
noncomputable def t_9_0_127 (K : gK) (d : Nat) (l0 : Nat) (l1 : Int32) (l2 : Int32) (v134 : Int32) (G133 : gH) : Option gO := if v134 = 0 then (rI G133 l0 3 5 (t_9_0_126 K d G133 l0 l1 l2)) else (some (.inl (some (.int (0 : Int32))), G133))
noncomputable def t_9_0_128 (K : gK) (d : Nat) (l0 : Nat) (l1 : Int32) (l2 : Int32) (v90 : Int32) (G89 : gH) : Option gO := if v90 = 0 then (rI G89 l0 3 5 (t_9_0_115 K d G89 l0 l1 l2)) else (if g_cls G89 l0 = some 3 then (cI (gCa K d 90 [.ref l0, .int (2 : Int32)] G89) (t_9_0_127 K d l0 l1 l2)) else none)
noncomputable def t_9_0_129 (K : gK) (d : Nat) (G153 : gH) (v154 : Int32) : Option gO := some (.inl (some (.int v154)), G153)
noncomputable def t_9_0_130 (K : gK) (d : Nat) (l0 : Nat) (G153 : gH) : Option gO := rI G153 l0 3 5 (t_9_0_129 K d G153)
noncomputable def t_9_0_131 (K : gK) (d : Nat) (G151 : gH) (l1 : Int32) (l2 : Int32) (l0 : Nat) (a152 : Nat) : Option gO := yI G151 a152 1 (((12 : Int32) * l1) + l2) (vp_nar .boolean (1 : Int32)) (t_9_0_130 K d l0)
noncomputable def t_9_0_132 (K : gK) (d : Nat) (l0 : Nat) (l1 : Int32) (l2 : Int32) (G151 : gH) : Option gO := rR G151 l0 3 6 (t_9_0_131 K d G151 l1 l2 l0)
noncomputable def t_9_0_133 (K : gK) (d : Nat) (G157 : gH) (v158 : Int32) : Option gO := some (.inl (some (.int v158)), G157)
noncomputable def t_9_0_134 (K : gK) (d : Nat) (l0 : Nat) (G157 : gH) : Option gO := rI G157 l0 3 5 (t_9_0_133 K d G157)
noncomputable def t_9_0_135 (K : gK) (d : Nat) (G155 : gH) (l1 : Int32) (l2 : Int32) (l0 : Nat) (a156 : Nat) : Option gO := yI G155 a156 1 (((12 : Int32) * l1) + l2) (vp_nar .boolean (1 : Int32)) (t_9_0_134 K d l0)
noncomputable def t_9_0_136 (K : gK) (d : Nat) (l0 : Nat) (l1 : Int32) (l2 : Int32) (G155 : gH) : Option gO := rR G155 l0 3 6 (t_9_0_135 K d G155 l1 l2 l0)
noncomputable def t_9_0_137 (K : gK) (d : Nat) (v148 : Int32) (G146 : gH) (l0 : Nat) (l1 : Int32) (l2 : Int32) (v150 : Int32) : Option gO := if v150 = 0 then (if narrow .int (.int (v148 + (1 : Int32))) = .int (v148 + (1 : Int32)) ∧ fits .int (.int (v148 + (1 : Int32))) = true then wF G146 l0 3 5 (.int (v148 + (1 : Int32))) (t_9_0_132 K d l0 l1 l2) else none) else (if narrow .int (.int (v148 + (0 : Int32))) = .int (v148 + (0 : Int32)) ∧ fits .int (.int (v148 + (0 : Int32))) = true then wF G146 l0 3 5 (.int (v148 + (0 : Int32))) (t_9_0_136 K d l0 l1 l2) else none)
noncomputable def t_9_0_138 (K : gK) (d : Nat) (G146 : gH) (l1 : Int32) (l2 : Int32) (v148 : Int32) (l0 : Nat) (a149 : Nat) : Option gO := xI G146 a149 1 (((12 : Int32) * l1) + l2) (t_9_0_137 K d v148 G146 l0 l1 l2)
noncomputable def t_9_0_139 (K : gK) (d : Nat) (G146 : gH) (l0 : Nat) (l1 : Int32) (l2 : Int32) (v148 : Int32) : Option gO := rR G146 l0 3 6 (t_9_0_138 K d G146 l1 l2 v148 l0)
noncomputable def t_9_0_140 (K : gK) (d : Nat) (l0 : Nat) (l1 : Int32) (l2 : Int32) (v147 : Int32) (G146 : gH) : Option gO := if v147 = 0 then (rI G146 l0 3 5 (t_9_0_139 K d G146 l0 l1 l2)) else (some (.inl (some (.int (0 : Int32))), G146))
noncomputable def t_9_0_141 (K : gK) (d : Nat) (G171 : gH) (v172 : Int32) : Option gO := some (.inl (some (.int v172)), G171)
noncomputable def t_9_0_142 (K : gK) (d : Nat) (l0 : Nat) (G171 : gH) : Option gO := rI G171 l0 3 5 (t_9_0_141 K d G171)
noncomputable def t_9_0_143 (K : gK) (d : Nat) (G169 : gH) (l1 : Int32) (l2 : Int32) (l0 : Nat) (a170 : Nat) : Option gO := yI G169 a170 1 (((12 : Int32) * l1) + l2) (vp_nar .boolean (1 : Int32)) (t_9_0_142 K d l0)
noncomputable def t_9_0_144 (K : gK) (d : Nat) (l0 : Nat) (l1 : Int32) (l2 : Int32) (G169 : gH) : Option gO := rR G169 l0 3 6 (t_9_0_143 K d G169 l1 l2 l0)
noncomputable def t_9_0_145 (K : gK) (d : Nat) (G175 : gH) (v176 : Int32) : Option gO := some (.inl (some (.int v176)), G175)
noncomputable def t_9_0_146 (K : gK) (d : Nat) (l0 : Nat) (G175 : gH) : Option gO := rI G175 l0 3 5 (t_9_0_145 K d G175)
noncomputable def t_9_0_147 (K : gK) (d : Nat) (G173 : gH) (l1 : Int32) (l2 : Int32) (l0 : Nat) (a174 : Nat) : Option gO := yI G173 a174 1 (((12 : Int32) * l1) + l2) (vp_nar .boolean (1 : Int32)) (t_9_0_146 K d l0)
noncomputable def t_9_0_148 (K : gK) (d : Nat) (l0 : Nat) (l1 : Int32) (l2 : Int32) (G173 : gH) : Option gO := rR G173 l0 3 6 (t_9_0_147 K d G173 l1 l2 l0)
noncomputable def t_9_0_149 (K : gK) (d : Nat) (v166 : Int32) (G164 : gH) (l0 : Nat) (l1 : Int32) (l2 : Int32) (v168 : Int32) : Option gO := if v168 = 0 then (if narrow .int (.int (v166 + (1 : Int32))) = .int (v166 + (1 : Int32)) ∧ fits .int (.int (v166 + (1 : Int32))) = true then wF G164 l0 3 5 (.int (v166 + (1 : Int32))) (t_9_0_144 K d l0 l1 l2) else none) else (if narrow .int (.int (v166 + (0 : Int32))) = .int (v166 + (0 : Int32)) ∧ fits .int (.int (v166 + (0 : Int32))) = true then wF G164 l0 3 5 (.int (v166 + (0 : Int32))) (t_9_0_148 K d l0 l1 l2) else none)
noncomputable def t_9_0_150 (K : gK) (d : Nat) (G164 : gH) (l1 : Int32) (l2 : Int32) (v166 : Int32) (l0 : Nat) (a167 : Nat) : Option gO := xI G164 a167 1 (((12 : Int32) * l1) + l2) (t_9_0_149 K d v166 G164 l0 l1 l2)
noncomputable def t_9_0_151 (K : gK) (d : Nat) (G164 : gH) (l0 : Nat) (l1 : Int32) (l2 : Int32) (v166 : Int32) : Option gO := rR G164 l0 3 6 (t_9_0_150 K d G164 l1 l2 v166 l0)
noncomputable def t_9_0_152 (K : gK) (d : Nat) (l0 : Nat) (l1 : Int32) (l2 : Int32) (v165 : Int32) (G164 : gH) : Option gO := if v165 = 0 then (rI G164 l0 3 5 (t_9_0_151 K d G164 l0 l1 l2)) else (some (.inl (some (.int (0 : Int32))), G164))
noncomputable def t_9_0_153 (K : gK) (d : Nat) (G184 : gH) (v185 : Int32) : Option gO := some (.inl (some (.int v185)), G184)
noncomputable def t_9_0_154 (K : gK) (d : Nat) (l0 : Nat) (G184 : gH) : Option gO := rI G184 l0 3 5 (t_9_0_153 K d G184)
noncomputable def t_9_0_155 (K : gK) (d : Nat) (G182 : gH) (l1 : Int32) (l2 : Int32) (l0 : Nat) (a183 : Nat) : Option gO := yI G182 a183 1 (((12 : Int32) * l1) + l2) (vp_nar .boolean (1 : Int32)) (t_9_0_154 K d l0)
noncomputable def t_9_0_156 (K : gK) (d : Nat) (l0 : Nat) (l1 : Int32) (l2 : Int32) (G182 : gH) : Option gO := rR G182 l0 3 6 (t_9_0_155 K d G182 l1 l2 l0)
noncomputable def t_9_0_157 (K : gK) (d : Nat) (G188 : gH) (v189 : Int32) : Option gO := some (.inl (some (.int v189)), G188)
noncomputable def t_9_0_158 (K : gK) (d : Nat) (l0 : Nat) (G188 : gH) : Option gO := rI G188 l0 3 5 (t_9_0_157 K d G188)
noncomputable def t_9_0_159 (K : gK) (d : Nat) (G186 : gH) (l1 : Int32) (l2 : Int32) (l0 : Nat) (a187 : Nat) : Option gO := yI G186 a187 1 (((12 : Int32) * l1) + l2) (vp_nar .boolean (1 : Int32)) (t_9_0_158 K d l0)
noncomputable def t_9_0_160 (K : gK) (d : Nat) (l0 : Nat) (l1 : Int32) (l2 : Int32) (G186 : gH) : Option gO := rR G186 l0 3 6 (t_9_0_159 K d G186 l1 l2 l0)
noncomputable def t_9_0_161 (K : gK) (d : Nat) (v179 : Int32) (G177 : gH) (l0 : Nat) (l1 : Int32) (l2 : Int32) (v181 : Int32) : Option gO := if v181 = 0 then (if narrow .int (.int (v179 + (1 : Int32))) = .int (v179 + (1 : Int32)) ∧ fits .int (.int (v179 + (1 : Int32))) = true then wF G177 l0 3 5 (.int (v179 + (1 : Int32))) (t_9_0_156 K d l0 l1 l2) else none) else (if narrow .int (.int (v179 + (0 : Int32))) = .int (v179 + (0 : Int32)) ∧ fits .int (.int (v179 + (0 : Int32))) = true then wF G177 l0 3 5 (.int (v179 + (0 : Int32))) (t_9_0_160 K d l0 l1 l2) else none)
noncomputable def t_9_0_162 (K : gK) (d : Nat) (G177 : gH) (l1 : Int32) (l2 : Int32) (v179 : Int32) (l0 : Nat) (a180 : Nat) : Option gO := xI G177 a180 1 (((12 : Int32) * l1) + l2) (t_9_0_161 K d v179 G177 l0 l1 l2)
noncomputable def t_9_0_163 (K : gK) (d : Nat) (G177 : gH) (l0 : Nat) (l1 : Int32) (l2 : Int32) (v179 : Int32) : Option gO := rR G177 l0 3 6 (t_9_0_162 K d G177 l1 l2 v179 l0)
noncomputable def t_9_0_164 (K : gK) (d : Nat) (l0 : Nat) (l1 : Int32) (l2 : Int32) (v178 : Int32) (G177 : gH) : Option gO := if v178 = 0 then (rI G177 l0 3 5 (t_9_0_163 K d G177 l0 l1 l2)) else (some (.inl (some (.int (0 : Int32))), G177))
noncomputable def t_9_0_165 (K : gK) (d : Nat) (G159 : gH) (l0 : Nat) (l1 : Int32) (l2 : Int32) (v163 : Int32) : Option gO := if v163 = 0 then (if g_cls G159 l0 = some 3 then (cI (gCa K d 90 [.ref l0, .int (3 : Int32)] G159) (t_9_0_152 K d l0 l1 l2)) else none) else (if g_cls G159 l0 = some 3 then (cI (gCa K d 90 [.ref l0, .int (0 : Int32)] G159) (t_9_0_164 K d l0 l1 l2)) else none)
noncomputable def t_9_0_166 (K : gK) (d : Nat) (G159 : gH) (l1 : Int32) (l2 : Int32) (l0 : Nat) (a162 : Nat) : Option gO := xI G159 a162 1 (((12 : Int32) * l1) + l2) (t_9_0_165 K d G159 l0 l1 l2)
noncomputable def t_9_0_167 (K : gK) (d : Nat) (G197 : gH) (v198 : Int32) : Option gO := some (.inl (some (.int v198)), G197)
noncomputable def t_9_0_168 (K : gK) (d : Nat) (l0 : Nat) (G197 : gH) : Option gO := rI G197 l0 3 5 (t_9_0_167 K d G197)
noncomputable def t_9_0_169 (K : gK) (d : Nat) (G195 : gH) (l1 : Int32) (l2 : Int32) (l0 : Nat) (a196 : Nat) : Option gO := yI G195 a196 1 (((12 : Int32) * l1) + l2) (vp_nar .boolean (1 : Int32)) (t_9_0_168 K d l0)
noncomputable def t_9_0_170 (K : gK) (d : Nat) (l0 : Nat) (l1 : Int32) (l2 : Int32) (G195 : gH) : Option gO := rR G195 l0 3 6 (t_9_0_169 K d G195 l1 l2 l0)
noncomputable def t_9_0_171 (K : gK) (d : Nat) (G201 : gH) (v202 : Int32) : Option gO := some (.inl (some (.int v202)), G201)
noncomputable def t_9_0_172 (K : gK) (d : Nat) (l0 : Nat) (G201 : gH) : Option gO := rI G201 l0 3 5 (t_9_0_171 K d G201)
noncomputable def t_9_0_173 (K : gK) (d : Nat) (G199 : gH) (l1 : Int32) (l2 : Int32) (l0 : Nat) (a200 : Nat) : Option gO := yI G199 a200 1 (((12 : Int32) * l1) + l2) (vp_nar .boolean (1 : Int32)) (t_9_0_172 K d l0)
noncomputable def t_9_0_174 (K : gK) (d : Nat) (l0 : Nat) (l1 : Int32) (l2 : Int32) (G199 : gH) : Option gO := rR G199 l0 3 6 (t_9_0_173 K d G199 l1 l2 l0)
noncomputable def t_9_0_175 (K : gK) (d : Nat) (v192 : Int32) (G190 : gH) (l0 : Nat) (l1 : Int32) (l2 : Int32) (v194 : Int32) : Option gO := if v194 = 0 then (if narrow .int (.int (v192 + (1 : Int32))) = .int (v192 + (1 : Int32)) ∧ fits .int (.int (v192 + (1 : Int32))) = true then wF G190 l0 3 5 (.int (v192 + (1 : Int32))) (t_9_0_170 K d l0 l1 l2) else none) else (if narrow .int (.int (v192 + (0 : Int32))) = .int (v192 + (0 : Int32)) ∧ fits .int (.int (v192 + (0 : Int32))) = true then wF G190 l0 3 5 (.int (v192 + (0 : Int32))) (t_9_0_174 K d l0 l1 l2) else none)
noncomputable def t_9_0_176 (K : gK) (d : Nat) (G190 : gH) (l1 : Int32) (l2 : Int32) (v192 : Int32) (l0 : Nat) (a193 : Nat) : Option gO := xI G190 a193 1 (((12 : Int32) * l1) + l2) (t_9_0_175 K d v192 G190 l0 l1 l2)
noncomputable def t_9_0_177 (K : gK) (d : Nat) (G190 : gH) (l0 : Nat) (l1 : Int32) (l2 : Int32) (v192 : Int32) : Option gO := rR G190 l0 3 6 (t_9_0_176 K d G190 l1 l2 v192 l0)
noncomputable def t_9_0_178 (K : gK) (d : Nat) (l0 : Nat) (l1 : Int32) (l2 : Int32) (v191 : Int32) (G190 : gH) : Option gO := if v191 = 0 then (rI G190 l0 3 5 (t_9_0_177 K d G190 l0 l1 l2)) else (some (.inl (some (.int (0 : Int32))), G190))
noncomputable def t_9_0_179 (K : gK) (d : Nat) (G159 : gH) (l0 : Nat) (l1 : Int32) (l2 : Int32) (v161 : Int32) : Option gO := if v161 = (12 : Int32) then (rR G159 l0 3 6 (t_9_0_166 K d G159 l1 l2 l0)) else (if g_cls G159 l0 = some 3 then (cI (gCa K d 90 [.ref l0, .int (0 : Int32)] G159) (t_9_0_178 K d l0 l1 l2)) else none)
noncomputable def t_9_0_180 (K : gK) (d : Nat) (G210 : gH) (v211 : Int32) : Option gO := some (.inl (some (.int v211)), G210)
noncomputable def t_9_0_181 (K : gK) (d : Nat) (l0 : Nat) (G210 : gH) : Option gO := rI G210 l0 3 5 (t_9_0_180 K d G210)
noncomputable def t_9_0_182 (K : gK) (d : Nat) (G208 : gH) (l1 : Int32) (l2 : Int32) (l0 : Nat) (a209 : Nat) : Option gO := yI G208 a209 1 (((12 : Int32) * l1) + l2) (vp_nar .boolean (1 : Int32)) (t_9_0_181 K d l0)
noncomputable def t_9_0_183 (K : gK) (d : Nat) (l0 : Nat) (l1 : Int32) (l2 : Int32) (G208 : gH) : Option gO := rR G208 l0 3 6 (t_9_0_182 K d G208 l1 l2 l0)
noncomputable def t_9_0_184 (K : gK) (d : Nat) (G214 : gH) (v215 : Int32) : Option gO := some (.inl (some (.int v215)), G214)
noncomputable def t_9_0_185 (K : gK) (d : Nat) (l0 : Nat) (G214 : gH) : Option gO := rI G214 l0 3 5 (t_9_0_184 K d G214)
noncomputable def t_9_0_186 (K : gK) (d : Nat) (G212 : gH) (l1 : Int32) (l2 : Int32) (l0 : Nat) (a213 : Nat) : Option gO := yI G212 a213 1 (((12 : Int32) * l1) + l2) (vp_nar .boolean (1 : Int32)) (t_9_0_185 K d l0)
noncomputable def t_9_0_187 (K : gK) (d : Nat) (l0 : Nat) (l1 : Int32) (l2 : Int32) (G212 : gH) : Option gO := rR G212 l0 3 6 (t_9_0_186 K d G212 l1 l2 l0)
noncomputable def t_9_0_188 (K : gK) (d : Nat) (v205 : Int32) (G203 : gH) (l0 : Nat) (l1 : Int32) (l2 : Int32) (v207 : Int32) : Option gO := if v207 = 0 then (if narrow .int (.int (v205 + (1 : Int32))) = .int (v205 + (1 : Int32)) ∧ fits .int (.int (v205 + (1 : Int32))) = true then wF G203 l0 3 5 (.int (v205 + (1 : Int32))) (t_9_0_183 K d l0 l1 l2) else none) else (if narrow .int (.int (v205 + (0 : Int32))) = .int (v205 + (0 : Int32)) ∧ fits .int (.int (v205 + (0 : Int32))) = true then wF G203 l0 3 5 (.int (v205 + (0 : Int32))) (t_9_0_187 K d l0 l1 l2) else none)
noncomputable def t_9_0_189 (K : gK) (d : Nat) (G203 : gH) (l1 : Int32) (l2 : Int32) (v205 : Int32) (l0 : Nat) (a206 : Nat) : Option gO := xI G203 a206 1 (((12 : Int32) * l1) + l2) (t_9_0_188 K d v205 G203 l0 l1 l2)
noncomputable def t_9_0_190 (K : gK) (d : Nat) (G203 : gH) (l0 : Nat) (l1 : Int32) (l2 : Int32) (v205 : Int32) : Option gO := rR G203 l0 3 6 (t_9_0_189 K d G203 l1 l2 v205 l0)
noncomputable def t_9_0_191 (K : gK) (d : Nat) (l0 : Nat) (l1 : Int32) (l2 : Int32) (v204 : Int32) (G203 : gH) : Option gO := if v204 = 0 then (rI G203 l0 3 5 (t_9_0_190 K d G203 l0 l1 l2)) else (some (.inl (some (.int (0 : Int32))), G203))
noncomputable def t_9_0_192 (K : gK) (d : Nat) (l0 : Nat) (l1 : Int32) (l2 : Int32) (v160 : Int32) (G159 : gH) : Option gO := if v160 = 0 then (rI G159 l0 3 5 (t_9_0_179 K d G159 l0 l1 l2)) else (if g_cls G159 l0 = some 3 then (cI (gCa K d 90 [.ref l0, .int (2 : Int32)] G159) (t_9_0_191 K d l0 l1 l2)) else none)
noncomputable def t_9_0_193 (K : gK) (d : Nat) (l0 : Nat) (l1 : Int32) (l2 : Int32) (v75 : Int32) (G74 : gH) : Option gO := if v75 = 0 then (if (0 : Int32) = 0 then (if g_cls G74 l0 = some 3 then (cI (gCa K d 90 [.ref l0, .int (1 : Int32)] G74) (t_9_0_76 K d l0 l1 l2)) else none) else (if g_cls G74 l0 = some 3 then (cI (gCa K d 93 [.ref l0, .int l1, .int l2] G74) (t_9_0_128 K d l0 l1 l2)) else none)) else (if (1 : Int32) = 0 then (if g_cls G74 l0 = some 3 then (cI (gCa K d 90 [.ref l0, .int (1 : Int32)] G74) (t_9_0_140 K d l0 l1 l2)) else none) else (if g_cls G74 l0 = some 3 then (cI (gCa K d 93 [.ref l0, .int l1, .int l2] G74) (t_9_0_192 K d l0 l1 l2)) else none))
noncomputable def t_9_0_194 (K : gK) (d : Nat) (l2 : Int32) (G1 : gH) (l0 : Nat) (l1 : Int32) (v73 : Int32) : Option gO := cI (gCa K d 89 [.int l2, .int (0 : Int32), .int (v73 - (1 : Int32))] G1) (t_9_0_193 K d l0 l1 l2)
noncomputable def t_9_0_195 (K : gK) (d : Nat) (l0 : Nat) (l1 : Int32) (l2 : Int32) (v2 : Int32) (G1 : gH) : Option gO := if v2 = 0 then (if (0 : Int32) = 0 then (if g_cls G1 l0 = some 3 then (cI (gCa K d 90 [.ref l0, .int (1 : Int32)] G1) (t_9_0_12 K d l0 l1 l2)) else none) else (if g_cls G1 l0 = some 3 then (cI (gCa K d 93 [.ref l0, .int l1, .int l2] G1) (t_9_0_64 K d l0 l1 l2)) else none)) else (rI G1 l0 3 1 (t_9_0_194 K d l2 G1 l0 l1))
noncomputable def t_9_0 (K : gK) (d : Nat) (l0 : Nat) (l1 : Int32) (l2 : Int32) (G : gH) : Option gO := cI (gCa K d 89 [.int l1, .int (0 : Int32), .int (59 : Int32)] G) (t_9_0_195 K d l0 l1 l2)
theorem e_9_0 {K : gK} {d : Nat} {l0 : Nat} {l1 : Int32} {l2 : Int32} {G : gH} : gle (t_9_0 K d l0 l1 l2 G) (gRn K d 9 0 [some (.ref l0), some (.int l1), some (.int l2), none] [] G) := by
  unfold t_9_0
  refine g_iload ((q_9 _).trans rfl) rfl ?_
  refine g_push ((q_9 _).trans rfl) ?_
  refine g_push ((q_9 _).trans rfl) ?_
  refine g_callS (kk := 3) ((q_9 _).trans rfl) (gHn m_9) (by exact ⟨Nat.le_of_ble_eq_true rfl, Nat.le_of_ble_eq_true rfl, rfl⟩) rfl (fun w G1 => gm_I (fun v2 hw => ?_))
  subst hw
  refine g_ifeq ((q_9 _).trans rfl) (fun _ => ?_) (fun _ => ?_)
  · refine g_push ((q_9 _).trans rfl) ?_
    refine g_istore ((q_9 _).trans rfl) ?_
    refine g_aload ((q_9 _).trans rfl) rfl ?_
    refine g_iload ((q_9 _).trans rfl) rfl ?_
    refine g_ifne ((q_9 _).trans rfl) (fun _ => ?_) (fun _ => ?_)
    · refine g_push ((q_9 _).trans rfl) ?_
      refine g_goto ((q_9 _).trans rfl) ?_
      refine g_callV (kk := 1) ((q_9 _).trans rfl) (gHn m_9) rfl (by exact ⟨Nat.le_of_ble_eq_true rfl, rfl⟩) rfl (fun w G3 => gm_I (fun v4 hw => ?_))
      subst hw
      refine g_ifeq ((q_9 _).trans rfl) (fun _ => ?_) (fun _ => ?_)
      · refine g_aload ((q_9 _).trans rfl) rfl ?_
        refine g_dup_ref ((q_9 _).trans rfl) ?_
        refine g_getI ((q_9 _).trans rfl) (fun v5 => ?_)
        refine g_aload ((q_9 _).trans rfl) rfl ?_
        refine g_getR ((q_9 _).trans rfl) (fun a6 => ?_)
        refine g_push ((q_9 _).trans rfl) ?_
        refine g_iload ((q_9 _).trans rfl) rfl ?_
        refine g_imul ((q_9 _).trans rfl) ?_
        refine g_iload ((q_9 _).trans rfl) rfl ?_
        refine g_iadd ((q_9 _).trans rfl) ?_
        refine g_iald ((q_9 _).trans rfl) (fun v7 => ?_)
        refine g_ifeq ((q_9 _).trans rfl) (fun _ => ?_) (fun _ => ?_)
        · refine g_push ((q_9 _).trans rfl) ?_
          refine g_iadd ((q_9 _).trans rfl) ?_
          refine g_putf ((q_9 _).trans rfl) (fun G8 => ?_)
          refine g_aload ((q_9 _).trans rfl) rfl ?_
          refine g_getR ((q_9 _).trans rfl) (fun a9 => ?_)
          refine g_push ((q_9 _).trans rfl) ?_
          refine g_iload ((q_9 _).trans rfl) rfl ?_
          refine g_imul ((q_9 _).trans rfl) ?_
          refine g_iload ((q_9 _).trans rfl) rfl ?_
          refine g_iadd ((q_9 _).trans rfl) ?_
          refine g_push ((q_9 _).trans rfl) ?_
          refine g_zast ((q_9 _).trans rfl) (fun G10 => ?_)
          refine g_aload ((q_9 _).trans rfl) rfl ?_
          refine g_getI ((q_9 _).trans rfl) (fun v11 => ?_)
          exact g_iret ((q_9 _).trans rfl)
        · refine g_push ((q_9 _).trans rfl) ?_
          refine g_goto ((q_9 _).trans rfl) ?_
          refine g_iadd ((q_9 _).trans rfl) ?_
          refine g_putf ((q_9 _).trans rfl) (fun G12 => ?_)
          refine g_aload ((q_9 _).trans rfl) rfl ?_
          refine g_getR ((q_9 _).trans rfl) (fun a13 => ?_)
          refine g_push ((q_9 _).trans rfl) ?_
          refine g_iload ((q_9 _).trans rfl) rfl ?_
          refine g_imul ((q_9 _).trans rfl) ?_
          refine g_iload ((q_9 _).trans rfl) rfl ?_
          refine g_iadd ((q_9 _).trans rfl) ?_
          refine g_push ((q_9 _).trans rfl) ?_
          refine g_zast ((q_9 _).trans rfl) (fun G14 => ?_)
          refine g_aload ((q_9 _).trans rfl) rfl ?_
          refine g_getI ((q_9 _).trans rfl) (fun v15 => ?_)
          exact g_iret ((q_9 _).trans rfl)
      · refine g_push ((q_9 _).trans rfl) ?_
        exact g_iret ((q_9 _).trans rfl)
    · refine g_aload ((q_9 _).trans rfl) rfl ?_
      refine g_iload ((q_9 _).trans rfl) rfl ?_
      refine g_iload ((q_9 _).trans rfl) rfl ?_
      refine g_callV (kk := 2) ((q_9 _).trans rfl) (gHn m_9) rfl (by exact ⟨Nat.le_of_ble_eq_true rfl, rfl⟩) rfl (fun w G16 => gm_I (fun v17 hw => ?_))
      subst hw
      refine g_ifeq ((q_9 _).trans rfl) (fun _ => ?_) (fun _ => ?_)
      · refine g_aload ((q_9 _).trans rfl) rfl ?_
        refine g_getI ((q_9 _).trans rfl) (fun v18 => ?_)
        refine g_push ((q_9 _).trans rfl) ?_
        refine g_cmpne ((q_9 _).trans rfl) (fun _ => ?_) (fun _ => ?_)
        · refine g_aload ((q_9 _).trans rfl) rfl ?_
          refine g_getR ((q_9 _).trans rfl) (fun a19 => ?_)
          refine g_push ((q_9 _).trans rfl) ?_
          refine g_iload ((q_9 _).trans rfl) rfl ?_
          refine g_imul ((q_9 _).trans rfl) ?_
          refine g_iload ((q_9 _).trans rfl) rfl ?_
          refine g_iadd ((q_9 _).trans rfl) ?_
          refine g_iald ((q_9 _).trans rfl) (fun v20 => ?_)
          refine g_ifne ((q_9 _).trans rfl) (fun _ => ?_) (fun _ => ?_)
          · refine g_push ((q_9 _).trans rfl) ?_
            refine g_goto ((q_9 _).trans rfl) ?_
            refine g_callV (kk := 1) ((q_9 _).trans rfl) (gHn m_9) rfl (by exact ⟨Nat.le_of_ble_eq_true rfl, rfl⟩) rfl (fun w G21 => gm_I (fun v22 hw => ?_))
            subst hw
            refine g_ifeq ((q_9 _).trans rfl) (fun _ => ?_) (fun _ => ?_)
            · refine g_aload ((q_9 _).trans rfl) rfl ?_
              refine g_dup_ref ((q_9 _).trans rfl) ?_
              refine g_getI ((q_9 _).trans rfl) (fun v23 => ?_)
              refine g_aload ((q_9 _).trans rfl) rfl ?_
              refine g_getR ((q_9 _).trans rfl) (fun a24 => ?_)
              refine g_push ((q_9 _).trans rfl) ?_
              refine g_iload ((q_9 _).trans rfl) rfl ?_
              refine g_imul ((q_9 _).trans rfl) ?_
              refine g_iload ((q_9 _).trans rfl) rfl ?_
              refine g_iadd ((q_9 _).trans rfl) ?_
              refine g_iald ((q_9 _).trans rfl) (fun v25 => ?_)
              refine g_ifeq ((q_9 _).trans rfl) (fun _ => ?_) (fun _ => ?_)
              · refine g_push ((q_9 _).trans rfl) ?_
                refine g_iadd ((q_9 _).trans rfl) ?_
                refine g_putf ((q_9 _).trans rfl) (fun G26 => ?_)
                refine g_aload ((q_9 _).trans rfl) rfl ?_
                refine g_getR ((q_9 _).trans rfl) (fun a27 => ?_)
                refine g_push ((q_9 _).trans rfl) ?_
                refine g_iload ((q_9 _).trans rfl) rfl ?_
                refine g_imul ((q_9 _).trans rfl) ?_
                refine g_iload ((q_9 _).trans rfl) rfl ?_
                refine g_iadd ((q_9 _).trans rfl) ?_
                refine g_push ((q_9 _).trans rfl) ?_
                refine g_zast ((q_9 _).trans rfl) (fun G28 => ?_)
                refine g_aload ((q_9 _).trans rfl) rfl ?_
                refine g_getI ((q_9 _).trans rfl) (fun v29 => ?_)
                exact g_iret ((q_9 _).trans rfl)
              · refine g_push ((q_9 _).trans rfl) ?_
                refine g_goto ((q_9 _).trans rfl) ?_
                refine g_iadd ((q_9 _).trans rfl) ?_
                refine g_putf ((q_9 _).trans rfl) (fun G30 => ?_)
                refine g_aload ((q_9 _).trans rfl) rfl ?_
                refine g_getR ((q_9 _).trans rfl) (fun a31 => ?_)
                refine g_push ((q_9 _).trans rfl) ?_
                refine g_iload ((q_9 _).trans rfl) rfl ?_
                refine g_imul ((q_9 _).trans rfl) ?_
                refine g_iload ((q_9 _).trans rfl) rfl ?_
                refine g_iadd ((q_9 _).trans rfl) ?_
                refine g_push ((q_9 _).trans rfl) ?_
                refine g_zast ((q_9 _).trans rfl) (fun G32 => ?_)
                refine g_aload ((q_9 _).trans rfl) rfl ?_
                refine g_getI ((q_9 _).trans rfl) (fun v33 => ?_)
                exact g_iret ((q_9 _).trans rfl)
            · refine g_push ((q_9 _).trans rfl) ?_
              exact g_iret ((q_9 _).trans rfl)
          · refine g_push ((q_9 _).trans rfl) ?_
            refine g_callV (kk := 1) ((q_9 _).trans rfl) (gHn m_9) rfl (by exact ⟨Nat.le_of_ble_eq_true rfl, rfl⟩) rfl (fun w G34 => gm_I (fun v35 hw => ?_))
            subst hw
            refine g_ifeq ((q_9 _).trans rfl) (fun _ => ?_) (fun _ => ?_)
            · refine g_aload ((q_9 _).trans rfl) rfl ?_
              refine g_dup_ref ((q_9 _).trans rfl) ?_
              refine g_getI ((q_9 _).trans rfl) (fun v36 => ?_)
              refine g_aload ((q_9 _).trans rfl) rfl ?_
              refine g_getR ((q_9 _).trans rfl) (fun a37 => ?_)
              refine g_push ((q_9 _).trans rfl) ?_
              refine g_iload ((q_9 _).trans rfl) rfl ?_
              refine g_imul ((q_9 _).trans rfl) ?_
              refine g_iload ((q_9 _).trans rfl) rfl ?_
              refine g_iadd ((q_9 _).trans rfl) ?_
              refine g_iald ((q_9 _).trans rfl) (fun v38 => ?_)
              refine g_ifeq ((q_9 _).trans rfl) (fun _ => ?_) (fun _ => ?_)
              · refine g_push ((q_9 _).trans rfl) ?_
                refine g_iadd ((q_9 _).trans rfl) ?_
                refine g_putf ((q_9 _).trans rfl) (fun G39 => ?_)
                refine g_aload ((q_9 _).trans rfl) rfl ?_
                refine g_getR ((q_9 _).trans rfl) (fun a40 => ?_)
                refine g_push ((q_9 _).trans rfl) ?_
                refine g_iload ((q_9 _).trans rfl) rfl ?_
                refine g_imul ((q_9 _).trans rfl) ?_
                refine g_iload ((q_9 _).trans rfl) rfl ?_
                refine g_iadd ((q_9 _).trans rfl) ?_
                refine g_push ((q_9 _).trans rfl) ?_
                refine g_zast ((q_9 _).trans rfl) (fun G41 => ?_)
                refine g_aload ((q_9 _).trans rfl) rfl ?_
                refine g_getI ((q_9 _).trans rfl) (fun v42 => ?_)
                exact g_iret ((q_9 _).trans rfl)
              · refine g_push ((q_9 _).trans rfl) ?_
                refine g_goto ((q_9 _).trans rfl) ?_
                refine g_iadd ((q_9 _).trans rfl) ?_
                refine g_putf ((q_9 _).trans rfl) (fun G43 => ?_)
                refine g_aload ((q_9 _).trans rfl) rfl ?_
                refine g_getR ((q_9 _).trans rfl) (fun a44 => ?_)
                refine g_push ((q_9 _).trans rfl) ?_
                refine g_iload ((q_9 _).trans rfl) rfl ?_
                refine g_imul ((q_9 _).trans rfl) ?_
                refine g_iload ((q_9 _).trans rfl) rfl ?_
                refine g_iadd ((q_9 _).trans rfl) ?_
                refine g_push ((q_9 _).trans rfl) ?_
                refine g_zast ((q_9 _).trans rfl) (fun G45 => ?_)
                refine g_aload ((q_9 _).trans rfl) rfl ?_
                refine g_getI ((q_9 _).trans rfl) (fun v46 => ?_)
                exact g_iret ((q_9 _).trans rfl)
            · refine g_push ((q_9 _).trans rfl) ?_
              exact g_iret ((q_9 _).trans rfl)
        · refine g_push ((q_9 _).trans rfl) ?_
          refine g_callV (kk := 1) ((q_9 _).trans rfl) (gHn m_9) rfl (by exact ⟨Nat.le_of_ble_eq_true rfl, rfl⟩) rfl (fun w G47 => gm_I (fun v48 hw => ?_))
          subst hw
          refine g_ifeq ((q_9 _).trans rfl) (fun _ => ?_) (fun _ => ?_)
          · refine g_aload ((q_9 _).trans rfl) rfl ?_
            refine g_dup_ref ((q_9 _).trans rfl) ?_
            refine g_getI ((q_9 _).trans rfl) (fun v49 => ?_)
            refine g_aload ((q_9 _).trans rfl) rfl ?_
            refine g_getR ((q_9 _).trans rfl) (fun a50 => ?_)
            refine g_push ((q_9 _).trans rfl) ?_
            refine g_iload ((q_9 _).trans rfl) rfl ?_
            refine g_imul ((q_9 _).trans rfl) ?_
            refine g_iload ((q_9 _).trans rfl) rfl ?_
            refine g_iadd ((q_9 _).trans rfl) ?_
            refine g_iald ((q_9 _).trans rfl) (fun v51 => ?_)
            refine g_ifeq ((q_9 _).trans rfl) (fun _ => ?_) (fun _ => ?_)
            · refine g_push ((q_9 _).trans rfl) ?_
              refine g_iadd ((q_9 _).trans rfl) ?_
              refine g_putf ((q_9 _).trans rfl) (fun G52 => ?_)
              refine g_aload ((q_9 _).trans rfl) rfl ?_
              refine g_getR ((q_9 _).trans rfl) (fun a53 => ?_)
              refine g_push ((q_9 _).trans rfl) ?_
              refine g_iload ((q_9 _).trans rfl) rfl ?_
              refine g_imul ((q_9 _).trans rfl) ?_
              refine g_iload ((q_9 _).trans rfl) rfl ?_
              refine g_iadd ((q_9 _).trans rfl) ?_
              refine g_push ((q_9 _).trans rfl) ?_
              refine g_zast ((q_9 _).trans rfl) (fun G54 => ?_)
              refine g_aload ((q_9 _).trans rfl) rfl ?_
              refine g_getI ((q_9 _).trans rfl) (fun v55 => ?_)
              exact g_iret ((q_9 _).trans rfl)
            · refine g_push ((q_9 _).trans rfl) ?_
              refine g_goto ((q_9 _).trans rfl) ?_
              refine g_iadd ((q_9 _).trans rfl) ?_
              refine g_putf ((q_9 _).trans rfl) (fun G56 => ?_)
              refine g_aload ((q_9 _).trans rfl) rfl ?_
              refine g_getR ((q_9 _).trans rfl) (fun a57 => ?_)
              refine g_push ((q_9 _).trans rfl) ?_
              refine g_iload ((q_9 _).trans rfl) rfl ?_
              refine g_imul ((q_9 _).trans rfl) ?_
              refine g_iload ((q_9 _).trans rfl) rfl ?_
              refine g_iadd ((q_9 _).trans rfl) ?_
              refine g_push ((q_9 _).trans rfl) ?_
              refine g_zast ((q_9 _).trans rfl) (fun G58 => ?_)
              refine g_aload ((q_9 _).trans rfl) rfl ?_
              refine g_getI ((q_9 _).trans rfl) (fun v59 => ?_)
              exact g_iret ((q_9 _).trans rfl)
          · refine g_push ((q_9 _).trans rfl) ?_
            exact g_iret ((q_9 _).trans rfl)
      · refine g_push ((q_9 _).trans rfl) ?_
        refine g_goto ((q_9 _).trans rfl) ?_
        refine g_callV (kk := 1) ((q_9 _).trans rfl) (gHn m_9) rfl (by exact ⟨Nat.le_of_ble_eq_true rfl, rfl⟩) rfl (fun w G60 => gm_I (fun v61 hw => ?_))
        subst hw
        refine g_ifeq ((q_9 _).trans rfl) (fun _ => ?_) (fun _ => ?_)
        · refine g_aload ((q_9 _).trans rfl) rfl ?_
          refine g_dup_ref ((q_9 _).trans rfl) ?_
          refine g_getI ((q_9 _).trans rfl) (fun v62 => ?_)
          refine g_aload ((q_9 _).trans rfl) rfl ?_
          refine g_getR ((q_9 _).trans rfl) (fun a63 => ?_)
          refine g_push ((q_9 _).trans rfl) ?_
          refine g_iload ((q_9 _).trans rfl) rfl ?_
          refine g_imul ((q_9 _).trans rfl) ?_
          refine g_iload ((q_9 _).trans rfl) rfl ?_
          refine g_iadd ((q_9 _).trans rfl) ?_
          refine g_iald ((q_9 _).trans rfl) (fun v64 => ?_)
          refine g_ifeq ((q_9 _).trans rfl) (fun _ => ?_) (fun _ => ?_)
          · refine g_push ((q_9 _).trans rfl) ?_
            refine g_iadd ((q_9 _).trans rfl) ?_
            refine g_putf ((q_9 _).trans rfl) (fun G65 => ?_)
            refine g_aload ((q_9 _).trans rfl) rfl ?_
            refine g_getR ((q_9 _).trans rfl) (fun a66 => ?_)
            refine g_push ((q_9 _).trans rfl) ?_
            refine g_iload ((q_9 _).trans rfl) rfl ?_
            refine g_imul ((q_9 _).trans rfl) ?_
            refine g_iload ((q_9 _).trans rfl) rfl ?_
            refine g_iadd ((q_9 _).trans rfl) ?_
            refine g_push ((q_9 _).trans rfl) ?_
            refine g_zast ((q_9 _).trans rfl) (fun G67 => ?_)
            refine g_aload ((q_9 _).trans rfl) rfl ?_
            refine g_getI ((q_9 _).trans rfl) (fun v68 => ?_)
            exact g_iret ((q_9 _).trans rfl)
          · refine g_push ((q_9 _).trans rfl) ?_
            refine g_goto ((q_9 _).trans rfl) ?_
            refine g_iadd ((q_9 _).trans rfl) ?_
            refine g_putf ((q_9 _).trans rfl) (fun G69 => ?_)
            refine g_aload ((q_9 _).trans rfl) rfl ?_
            refine g_getR ((q_9 _).trans rfl) (fun a70 => ?_)
            refine g_push ((q_9 _).trans rfl) ?_
            refine g_iload ((q_9 _).trans rfl) rfl ?_
            refine g_imul ((q_9 _).trans rfl) ?_
            refine g_iload ((q_9 _).trans rfl) rfl ?_
            refine g_iadd ((q_9 _).trans rfl) ?_
            refine g_push ((q_9 _).trans rfl) ?_
            refine g_zast ((q_9 _).trans rfl) (fun G71 => ?_)
            refine g_aload ((q_9 _).trans rfl) rfl ?_
            refine g_getI ((q_9 _).trans rfl) (fun v72 => ?_)
            exact g_iret ((q_9 _).trans rfl)
        · refine g_push ((q_9 _).trans rfl) ?_
          exact g_iret ((q_9 _).trans rfl)
  · refine g_iload ((q_9 _).trans rfl) rfl ?_
    refine g_push ((q_9 _).trans rfl) ?_
    refine g_aload ((q_9 _).trans rfl) rfl ?_
    refine g_getI ((q_9 _).trans rfl) (fun v73 => ?_)
    refine g_push ((q_9 _).trans rfl) ?_
    refine g_isub ((q_9 _).trans rfl) ?_
    refine g_callS (kk := 3) ((q_9 _).trans rfl) (gHn m_9) (by exact ⟨Nat.le_of_ble_eq_true rfl, Nat.le_of_ble_eq_true rfl, rfl⟩) rfl (fun w G74 => gm_I (fun v75 hw => ?_))
    subst hw
    refine g_ifeq ((q_9 _).trans rfl) (fun _ => ?_) (fun _ => ?_)
    · refine g_push ((q_9 _).trans rfl) ?_
      refine g_istore ((q_9 _).trans rfl) ?_
      refine g_aload ((q_9 _).trans rfl) rfl ?_
      refine g_iload ((q_9 _).trans rfl) rfl ?_
      refine g_ifne ((q_9 _).trans rfl) (fun _ => ?_) (fun _ => ?_)
      · refine g_push ((q_9 _).trans rfl) ?_
        refine g_goto ((q_9 _).trans rfl) ?_
        refine g_callV (kk := 1) ((q_9 _).trans rfl) (gHn m_9) rfl (by exact ⟨Nat.le_of_ble_eq_true rfl, rfl⟩) rfl (fun w G76 => gm_I (fun v77 hw => ?_))
        subst hw
        refine g_ifeq ((q_9 _).trans rfl) (fun _ => ?_) (fun _ => ?_)
        · refine g_aload ((q_9 _).trans rfl) rfl ?_
          refine g_dup_ref ((q_9 _).trans rfl) ?_
          refine g_getI ((q_9 _).trans rfl) (fun v78 => ?_)
          refine g_aload ((q_9 _).trans rfl) rfl ?_
          refine g_getR ((q_9 _).trans rfl) (fun a79 => ?_)
          refine g_push ((q_9 _).trans rfl) ?_
          refine g_iload ((q_9 _).trans rfl) rfl ?_
          refine g_imul ((q_9 _).trans rfl) ?_
          refine g_iload ((q_9 _).trans rfl) rfl ?_
          refine g_iadd ((q_9 _).trans rfl) ?_
          refine g_iald ((q_9 _).trans rfl) (fun v80 => ?_)
          refine g_ifeq ((q_9 _).trans rfl) (fun _ => ?_) (fun _ => ?_)
          · refine g_push ((q_9 _).trans rfl) ?_
            refine g_iadd ((q_9 _).trans rfl) ?_
            refine g_putf ((q_9 _).trans rfl) (fun G81 => ?_)
            refine g_aload ((q_9 _).trans rfl) rfl ?_
            refine g_getR ((q_9 _).trans rfl) (fun a82 => ?_)
            refine g_push ((q_9 _).trans rfl) ?_
            refine g_iload ((q_9 _).trans rfl) rfl ?_
            refine g_imul ((q_9 _).trans rfl) ?_
            refine g_iload ((q_9 _).trans rfl) rfl ?_
            refine g_iadd ((q_9 _).trans rfl) ?_
            refine g_push ((q_9 _).trans rfl) ?_
            refine g_zast ((q_9 _).trans rfl) (fun G83 => ?_)
            refine g_aload ((q_9 _).trans rfl) rfl ?_
            refine g_getI ((q_9 _).trans rfl) (fun v84 => ?_)
            exact g_iret ((q_9 _).trans rfl)
          · refine g_push ((q_9 _).trans rfl) ?_
            refine g_goto ((q_9 _).trans rfl) ?_
            refine g_iadd ((q_9 _).trans rfl) ?_
            refine g_putf ((q_9 _).trans rfl) (fun G85 => ?_)
            refine g_aload ((q_9 _).trans rfl) rfl ?_
            refine g_getR ((q_9 _).trans rfl) (fun a86 => ?_)
            refine g_push ((q_9 _).trans rfl) ?_
            refine g_iload ((q_9 _).trans rfl) rfl ?_
            refine g_imul ((q_9 _).trans rfl) ?_
            refine g_iload ((q_9 _).trans rfl) rfl ?_
            refine g_iadd ((q_9 _).trans rfl) ?_
            refine g_push ((q_9 _).trans rfl) ?_
            refine g_zast ((q_9 _).trans rfl) (fun G87 => ?_)
            refine g_aload ((q_9 _).trans rfl) rfl ?_
            refine g_getI ((q_9 _).trans rfl) (fun v88 => ?_)
            exact g_iret ((q_9 _).trans rfl)
        · refine g_push ((q_9 _).trans rfl) ?_
          exact g_iret ((q_9 _).trans rfl)
      · refine g_aload ((q_9 _).trans rfl) rfl ?_
        refine g_iload ((q_9 _).trans rfl) rfl ?_
        refine g_iload ((q_9 _).trans rfl) rfl ?_
        refine g_callV (kk := 2) ((q_9 _).trans rfl) (gHn m_9) rfl (by exact ⟨Nat.le_of_ble_eq_true rfl, rfl⟩) rfl (fun w G89 => gm_I (fun v90 hw => ?_))
        subst hw
        refine g_ifeq ((q_9 _).trans rfl) (fun _ => ?_) (fun _ => ?_)
        · refine g_aload ((q_9 _).trans rfl) rfl ?_
          refine g_getI ((q_9 _).trans rfl) (fun v91 => ?_)
          refine g_push ((q_9 _).trans rfl) ?_
          refine g_cmpne ((q_9 _).trans rfl) (fun _ => ?_) (fun _ => ?_)
          · refine g_aload ((q_9 _).trans rfl) rfl ?_
            refine g_getR ((q_9 _).trans rfl) (fun a92 => ?_)
            refine g_push ((q_9 _).trans rfl) ?_
            refine g_iload ((q_9 _).trans rfl) rfl ?_
            refine g_imul ((q_9 _).trans rfl) ?_
            refine g_iload ((q_9 _).trans rfl) rfl ?_
            refine g_iadd ((q_9 _).trans rfl) ?_
            refine g_iald ((q_9 _).trans rfl) (fun v93 => ?_)
            refine g_ifne ((q_9 _).trans rfl) (fun _ => ?_) (fun _ => ?_)
            · refine g_push ((q_9 _).trans rfl) ?_
              refine g_goto ((q_9 _).trans rfl) ?_
              refine g_callV (kk := 1) ((q_9 _).trans rfl) (gHn m_9) rfl (by exact ⟨Nat.le_of_ble_eq_true rfl, rfl⟩) rfl (fun w G94 => gm_I (fun v95 hw => ?_))
              subst hw
              refine g_ifeq ((q_9 _).trans rfl) (fun _ => ?_) (fun _ => ?_)
              · refine g_aload ((q_9 _).trans rfl) rfl ?_
                refine g_dup_ref ((q_9 _).trans rfl) ?_
                refine g_getI ((q_9 _).trans rfl) (fun v96 => ?_)
                refine g_aload ((q_9 _).trans rfl) rfl ?_
                refine g_getR ((q_9 _).trans rfl) (fun a97 => ?_)
                refine g_push ((q_9 _).trans rfl) ?_
                refine g_iload ((q_9 _).trans rfl) rfl ?_
                refine g_imul ((q_9 _).trans rfl) ?_
                refine g_iload ((q_9 _).trans rfl) rfl ?_
                refine g_iadd ((q_9 _).trans rfl) ?_
                refine g_iald ((q_9 _).trans rfl) (fun v98 => ?_)
                refine g_ifeq ((q_9 _).trans rfl) (fun _ => ?_) (fun _ => ?_)
                · refine g_push ((q_9 _).trans rfl) ?_
                  refine g_iadd ((q_9 _).trans rfl) ?_
                  refine g_putf ((q_9 _).trans rfl) (fun G99 => ?_)
                  refine g_aload ((q_9 _).trans rfl) rfl ?_
                  refine g_getR ((q_9 _).trans rfl) (fun a100 => ?_)
                  refine g_push ((q_9 _).trans rfl) ?_
                  refine g_iload ((q_9 _).trans rfl) rfl ?_
                  refine g_imul ((q_9 _).trans rfl) ?_
                  refine g_iload ((q_9 _).trans rfl) rfl ?_
                  refine g_iadd ((q_9 _).trans rfl) ?_
                  refine g_push ((q_9 _).trans rfl) ?_
                  refine g_zast ((q_9 _).trans rfl) (fun G101 => ?_)
                  refine g_aload ((q_9 _).trans rfl) rfl ?_
                  refine g_getI ((q_9 _).trans rfl) (fun v102 => ?_)
                  exact g_iret ((q_9 _).trans rfl)
                · refine g_push ((q_9 _).trans rfl) ?_
                  refine g_goto ((q_9 _).trans rfl) ?_
                  refine g_iadd ((q_9 _).trans rfl) ?_
                  refine g_putf ((q_9 _).trans rfl) (fun G103 => ?_)
                  refine g_aload ((q_9 _).trans rfl) rfl ?_
                  refine g_getR ((q_9 _).trans rfl) (fun a104 => ?_)
                  refine g_push ((q_9 _).trans rfl) ?_
                  refine g_iload ((q_9 _).trans rfl) rfl ?_
                  refine g_imul ((q_9 _).trans rfl) ?_
                  refine g_iload ((q_9 _).trans rfl) rfl ?_
                  refine g_iadd ((q_9 _).trans rfl) ?_
                  refine g_push ((q_9 _).trans rfl) ?_
                  refine g_zast ((q_9 _).trans rfl) (fun G105 => ?_)
                  refine g_aload ((q_9 _).trans rfl) rfl ?_
                  refine g_getI ((q_9 _).trans rfl) (fun v106 => ?_)
                  exact g_iret ((q_9 _).trans rfl)
              · refine g_push ((q_9 _).trans rfl) ?_
                exact g_iret ((q_9 _).trans rfl)
            · refine g_push ((q_9 _).trans rfl) ?_
              refine g_callV (kk := 1) ((q_9 _).trans rfl) (gHn m_9) rfl (by exact ⟨Nat.le_of_ble_eq_true rfl, rfl⟩) rfl (fun w G107 => gm_I (fun v108 hw => ?_))
              subst hw
              refine g_ifeq ((q_9 _).trans rfl) (fun _ => ?_) (fun _ => ?_)
              · refine g_aload ((q_9 _).trans rfl) rfl ?_
                refine g_dup_ref ((q_9 _).trans rfl) ?_
                refine g_getI ((q_9 _).trans rfl) (fun v109 => ?_)
                refine g_aload ((q_9 _).trans rfl) rfl ?_
                refine g_getR ((q_9 _).trans rfl) (fun a110 => ?_)
                refine g_push ((q_9 _).trans rfl) ?_
                refine g_iload ((q_9 _).trans rfl) rfl ?_
                refine g_imul ((q_9 _).trans rfl) ?_
                refine g_iload ((q_9 _).trans rfl) rfl ?_
                refine g_iadd ((q_9 _).trans rfl) ?_
                refine g_iald ((q_9 _).trans rfl) (fun v111 => ?_)
                refine g_ifeq ((q_9 _).trans rfl) (fun _ => ?_) (fun _ => ?_)
                · refine g_push ((q_9 _).trans rfl) ?_
                  refine g_iadd ((q_9 _).trans rfl) ?_
                  refine g_putf ((q_9 _).trans rfl) (fun G112 => ?_)
                  refine g_aload ((q_9 _).trans rfl) rfl ?_
                  refine g_getR ((q_9 _).trans rfl) (fun a113 => ?_)
                  refine g_push ((q_9 _).trans rfl) ?_
                  refine g_iload ((q_9 _).trans rfl) rfl ?_
                  refine g_imul ((q_9 _).trans rfl) ?_
                  refine g_iload ((q_9 _).trans rfl) rfl ?_
                  refine g_iadd ((q_9 _).trans rfl) ?_
                  refine g_push ((q_9 _).trans rfl) ?_
                  refine g_zast ((q_9 _).trans rfl) (fun G114 => ?_)
                  refine g_aload ((q_9 _).trans rfl) rfl ?_
                  refine g_getI ((q_9 _).trans rfl) (fun v115 => ?_)
                  exact g_iret ((q_9 _).trans rfl)
                · refine g_push ((q_9 _).trans rfl) ?_
                  refine g_goto ((q_9 _).trans rfl) ?_
                  refine g_iadd ((q_9 _).trans rfl) ?_
                  refine g_putf ((q_9 _).trans rfl) (fun G116 => ?_)
                  refine g_aload ((q_9 _).trans rfl) rfl ?_
                  refine g_getR ((q_9 _).trans rfl) (fun a117 => ?_)
                  refine g_push ((q_9 _).trans rfl) ?_
                  refine g_iload ((q_9 _).trans rfl) rfl ?_
                  refine g_imul ((q_9 _).trans rfl) ?_
                  refine g_iload ((q_9 _).trans rfl) rfl ?_
                  refine g_iadd ((q_9 _).trans rfl) ?_
                  refine g_push ((q_9 _).trans rfl) ?_
                  refine g_zast ((q_9 _).trans rfl) (fun G118 => ?_)
                  refine g_aload ((q_9 _).trans rfl) rfl ?_
                  refine g_getI ((q_9 _).trans rfl) (fun v119 => ?_)
                  exact g_iret ((q_9 _).trans rfl)
              · refine g_push ((q_9 _).trans rfl) ?_
                exact g_iret ((q_9 _).trans rfl)
          · refine g_push ((q_9 _).trans rfl) ?_
            refine g_callV (kk := 1) ((q_9 _).trans rfl) (gHn m_9) rfl (by exact ⟨Nat.le_of_ble_eq_true rfl, rfl⟩) rfl (fun w G120 => gm_I (fun v121 hw => ?_))
            subst hw
            refine g_ifeq ((q_9 _).trans rfl) (fun _ => ?_) (fun _ => ?_)
            · refine g_aload ((q_9 _).trans rfl) rfl ?_
              refine g_dup_ref ((q_9 _).trans rfl) ?_
              refine g_getI ((q_9 _).trans rfl) (fun v122 => ?_)
              refine g_aload ((q_9 _).trans rfl) rfl ?_
              refine g_getR ((q_9 _).trans rfl) (fun a123 => ?_)
              refine g_push ((q_9 _).trans rfl) ?_
              refine g_iload ((q_9 _).trans rfl) rfl ?_
              refine g_imul ((q_9 _).trans rfl) ?_
              refine g_iload ((q_9 _).trans rfl) rfl ?_
              refine g_iadd ((q_9 _).trans rfl) ?_
              refine g_iald ((q_9 _).trans rfl) (fun v124 => ?_)
              refine g_ifeq ((q_9 _).trans rfl) (fun _ => ?_) (fun _ => ?_)
              · refine g_push ((q_9 _).trans rfl) ?_
                refine g_iadd ((q_9 _).trans rfl) ?_
                refine g_putf ((q_9 _).trans rfl) (fun G125 => ?_)
                refine g_aload ((q_9 _).trans rfl) rfl ?_
                refine g_getR ((q_9 _).trans rfl) (fun a126 => ?_)
                refine g_push ((q_9 _).trans rfl) ?_
                refine g_iload ((q_9 _).trans rfl) rfl ?_
                refine g_imul ((q_9 _).trans rfl) ?_
                refine g_iload ((q_9 _).trans rfl) rfl ?_
                refine g_iadd ((q_9 _).trans rfl) ?_
                refine g_push ((q_9 _).trans rfl) ?_
                refine g_zast ((q_9 _).trans rfl) (fun G127 => ?_)
                refine g_aload ((q_9 _).trans rfl) rfl ?_
                refine g_getI ((q_9 _).trans rfl) (fun v128 => ?_)
                exact g_iret ((q_9 _).trans rfl)
              · refine g_push ((q_9 _).trans rfl) ?_
                refine g_goto ((q_9 _).trans rfl) ?_
                refine g_iadd ((q_9 _).trans rfl) ?_
                refine g_putf ((q_9 _).trans rfl) (fun G129 => ?_)
                refine g_aload ((q_9 _).trans rfl) rfl ?_
                refine g_getR ((q_9 _).trans rfl) (fun a130 => ?_)
                refine g_push ((q_9 _).trans rfl) ?_
                refine g_iload ((q_9 _).trans rfl) rfl ?_
                refine g_imul ((q_9 _).trans rfl) ?_
                refine g_iload ((q_9 _).trans rfl) rfl ?_
                refine g_iadd ((q_9 _).trans rfl) ?_
                refine g_push ((q_9 _).trans rfl) ?_
                refine g_zast ((q_9 _).trans rfl) (fun G131 => ?_)
                refine g_aload ((q_9 _).trans rfl) rfl ?_
                refine g_getI ((q_9 _).trans rfl) (fun v132 => ?_)
                exact g_iret ((q_9 _).trans rfl)
            · refine g_push ((q_9 _).trans rfl) ?_
              exact g_iret ((q_9 _).trans rfl)
        · refine g_push ((q_9 _).trans rfl) ?_
          refine g_goto ((q_9 _).trans rfl) ?_
          refine g_callV (kk := 1) ((q_9 _).trans rfl) (gHn m_9) rfl (by exact ⟨Nat.le_of_ble_eq_true rfl, rfl⟩) rfl (fun w G133 => gm_I (fun v134 hw => ?_))
          subst hw
          refine g_ifeq ((q_9 _).trans rfl) (fun _ => ?_) (fun _ => ?_)
          · refine g_aload ((q_9 _).trans rfl) rfl ?_
            refine g_dup_ref ((q_9 _).trans rfl) ?_
            refine g_getI ((q_9 _).trans rfl) (fun v135 => ?_)
            refine g_aload ((q_9 _).trans rfl) rfl ?_
            refine g_getR ((q_9 _).trans rfl) (fun a136 => ?_)
            refine g_push ((q_9 _).trans rfl) ?_
            refine g_iload ((q_9 _).trans rfl) rfl ?_
            refine g_imul ((q_9 _).trans rfl) ?_
            refine g_iload ((q_9 _).trans rfl) rfl ?_
            refine g_iadd ((q_9 _).trans rfl) ?_
            refine g_iald ((q_9 _).trans rfl) (fun v137 => ?_)
            refine g_ifeq ((q_9 _).trans rfl) (fun _ => ?_) (fun _ => ?_)
            · refine g_push ((q_9 _).trans rfl) ?_
              refine g_iadd ((q_9 _).trans rfl) ?_
              refine g_putf ((q_9 _).trans rfl) (fun G138 => ?_)
              refine g_aload ((q_9 _).trans rfl) rfl ?_
              refine g_getR ((q_9 _).trans rfl) (fun a139 => ?_)
              refine g_push ((q_9 _).trans rfl) ?_
              refine g_iload ((q_9 _).trans rfl) rfl ?_
              refine g_imul ((q_9 _).trans rfl) ?_
              refine g_iload ((q_9 _).trans rfl) rfl ?_
              refine g_iadd ((q_9 _).trans rfl) ?_
              refine g_push ((q_9 _).trans rfl) ?_
              refine g_zast ((q_9 _).trans rfl) (fun G140 => ?_)
              refine g_aload ((q_9 _).trans rfl) rfl ?_
              refine g_getI ((q_9 _).trans rfl) (fun v141 => ?_)
              exact g_iret ((q_9 _).trans rfl)
            · refine g_push ((q_9 _).trans rfl) ?_
              refine g_goto ((q_9 _).trans rfl) ?_
              refine g_iadd ((q_9 _).trans rfl) ?_
              refine g_putf ((q_9 _).trans rfl) (fun G142 => ?_)
              refine g_aload ((q_9 _).trans rfl) rfl ?_
              refine g_getR ((q_9 _).trans rfl) (fun a143 => ?_)
              refine g_push ((q_9 _).trans rfl) ?_
              refine g_iload ((q_9 _).trans rfl) rfl ?_
              refine g_imul ((q_9 _).trans rfl) ?_
              refine g_iload ((q_9 _).trans rfl) rfl ?_
              refine g_iadd ((q_9 _).trans rfl) ?_
              refine g_push ((q_9 _).trans rfl) ?_
              refine g_zast ((q_9 _).trans rfl) (fun G144 => ?_)
              refine g_aload ((q_9 _).trans rfl) rfl ?_
              refine g_getI ((q_9 _).trans rfl) (fun v145 => ?_)
              exact g_iret ((q_9 _).trans rfl)
          · refine g_push ((q_9 _).trans rfl) ?_
            exact g_iret ((q_9 _).trans rfl)
    · refine g_push ((q_9 _).trans rfl) ?_
      refine g_goto ((q_9 _).trans rfl) ?_
      refine g_istore ((q_9 _).trans rfl) ?_
      refine g_aload ((q_9 _).trans rfl) rfl ?_
      refine g_iload ((q_9 _).trans rfl) rfl ?_
      refine g_ifne ((q_9 _).trans rfl) (fun _ => ?_) (fun _ => ?_)
      · refine g_push ((q_9 _).trans rfl) ?_
        refine g_goto ((q_9 _).trans rfl) ?_
        refine g_callV (kk := 1) ((q_9 _).trans rfl) (gHn m_9) rfl (by exact ⟨Nat.le_of_ble_eq_true rfl, rfl⟩) rfl (fun w G146 => gm_I (fun v147 hw => ?_))
        subst hw
        refine g_ifeq ((q_9 _).trans rfl) (fun _ => ?_) (fun _ => ?_)
        · refine g_aload ((q_9 _).trans rfl) rfl ?_
          refine g_dup_ref ((q_9 _).trans rfl) ?_
          refine g_getI ((q_9 _).trans rfl) (fun v148 => ?_)
          refine g_aload ((q_9 _).trans rfl) rfl ?_
          refine g_getR ((q_9 _).trans rfl) (fun a149 => ?_)
          refine g_push ((q_9 _).trans rfl) ?_
          refine g_iload ((q_9 _).trans rfl) rfl ?_
          refine g_imul ((q_9 _).trans rfl) ?_
          refine g_iload ((q_9 _).trans rfl) rfl ?_
          refine g_iadd ((q_9 _).trans rfl) ?_
          refine g_iald ((q_9 _).trans rfl) (fun v150 => ?_)
          refine g_ifeq ((q_9 _).trans rfl) (fun _ => ?_) (fun _ => ?_)
          · refine g_push ((q_9 _).trans rfl) ?_
            refine g_iadd ((q_9 _).trans rfl) ?_
            refine g_putf ((q_9 _).trans rfl) (fun G151 => ?_)
            refine g_aload ((q_9 _).trans rfl) rfl ?_
            refine g_getR ((q_9 _).trans rfl) (fun a152 => ?_)
            refine g_push ((q_9 _).trans rfl) ?_
            refine g_iload ((q_9 _).trans rfl) rfl ?_
            refine g_imul ((q_9 _).trans rfl) ?_
            refine g_iload ((q_9 _).trans rfl) rfl ?_
            refine g_iadd ((q_9 _).trans rfl) ?_
            refine g_push ((q_9 _).trans rfl) ?_
            refine g_zast ((q_9 _).trans rfl) (fun G153 => ?_)
            refine g_aload ((q_9 _).trans rfl) rfl ?_
            refine g_getI ((q_9 _).trans rfl) (fun v154 => ?_)
            exact g_iret ((q_9 _).trans rfl)
          · refine g_push ((q_9 _).trans rfl) ?_
            refine g_goto ((q_9 _).trans rfl) ?_
            refine g_iadd ((q_9 _).trans rfl) ?_
            refine g_putf ((q_9 _).trans rfl) (fun G155 => ?_)
            refine g_aload ((q_9 _).trans rfl) rfl ?_
            refine g_getR ((q_9 _).trans rfl) (fun a156 => ?_)
            refine g_push ((q_9 _).trans rfl) ?_
            refine g_iload ((q_9 _).trans rfl) rfl ?_
            refine g_imul ((q_9 _).trans rfl) ?_
            refine g_iload ((q_9 _).trans rfl) rfl ?_
            refine g_iadd ((q_9 _).trans rfl) ?_
            refine g_push ((q_9 _).trans rfl) ?_
            refine g_zast ((q_9 _).trans rfl) (fun G157 => ?_)
            refine g_aload ((q_9 _).trans rfl) rfl ?_
            refine g_getI ((q_9 _).trans rfl) (fun v158 => ?_)
            exact g_iret ((q_9 _).trans rfl)
        · refine g_push ((q_9 _).trans rfl) ?_
          exact g_iret ((q_9 _).trans rfl)
      · refine g_aload ((q_9 _).trans rfl) rfl ?_
        refine g_iload ((q_9 _).trans rfl) rfl ?_
        refine g_iload ((q_9 _).trans rfl) rfl ?_
        refine g_callV (kk := 2) ((q_9 _).trans rfl) (gHn m_9) rfl (by exact ⟨Nat.le_of_ble_eq_true rfl, rfl⟩) rfl (fun w G159 => gm_I (fun v160 hw => ?_))
        subst hw
        refine g_ifeq ((q_9 _).trans rfl) (fun _ => ?_) (fun _ => ?_)
        · refine g_aload ((q_9 _).trans rfl) rfl ?_
          refine g_getI ((q_9 _).trans rfl) (fun v161 => ?_)
          refine g_push ((q_9 _).trans rfl) ?_
          refine g_cmpne ((q_9 _).trans rfl) (fun _ => ?_) (fun _ => ?_)
          · refine g_aload ((q_9 _).trans rfl) rfl ?_
            refine g_getR ((q_9 _).trans rfl) (fun a162 => ?_)
            refine g_push ((q_9 _).trans rfl) ?_
            refine g_iload ((q_9 _).trans rfl) rfl ?_
            refine g_imul ((q_9 _).trans rfl) ?_
            refine g_iload ((q_9 _).trans rfl) rfl ?_
            refine g_iadd ((q_9 _).trans rfl) ?_
            refine g_iald ((q_9 _).trans rfl) (fun v163 => ?_)
            refine g_ifne ((q_9 _).trans rfl) (fun _ => ?_) (fun _ => ?_)
            · refine g_push ((q_9 _).trans rfl) ?_
              refine g_goto ((q_9 _).trans rfl) ?_
              refine g_callV (kk := 1) ((q_9 _).trans rfl) (gHn m_9) rfl (by exact ⟨Nat.le_of_ble_eq_true rfl, rfl⟩) rfl (fun w G164 => gm_I (fun v165 hw => ?_))
              subst hw
              refine g_ifeq ((q_9 _).trans rfl) (fun _ => ?_) (fun _ => ?_)
              · refine g_aload ((q_9 _).trans rfl) rfl ?_
                refine g_dup_ref ((q_9 _).trans rfl) ?_
                refine g_getI ((q_9 _).trans rfl) (fun v166 => ?_)
                refine g_aload ((q_9 _).trans rfl) rfl ?_
                refine g_getR ((q_9 _).trans rfl) (fun a167 => ?_)
                refine g_push ((q_9 _).trans rfl) ?_
                refine g_iload ((q_9 _).trans rfl) rfl ?_
                refine g_imul ((q_9 _).trans rfl) ?_
                refine g_iload ((q_9 _).trans rfl) rfl ?_
                refine g_iadd ((q_9 _).trans rfl) ?_
                refine g_iald ((q_9 _).trans rfl) (fun v168 => ?_)
                refine g_ifeq ((q_9 _).trans rfl) (fun _ => ?_) (fun _ => ?_)
                · refine g_push ((q_9 _).trans rfl) ?_
                  refine g_iadd ((q_9 _).trans rfl) ?_
                  refine g_putf ((q_9 _).trans rfl) (fun G169 => ?_)
                  refine g_aload ((q_9 _).trans rfl) rfl ?_
                  refine g_getR ((q_9 _).trans rfl) (fun a170 => ?_)
                  refine g_push ((q_9 _).trans rfl) ?_
                  refine g_iload ((q_9 _).trans rfl) rfl ?_
                  refine g_imul ((q_9 _).trans rfl) ?_
                  refine g_iload ((q_9 _).trans rfl) rfl ?_
                  refine g_iadd ((q_9 _).trans rfl) ?_
                  refine g_push ((q_9 _).trans rfl) ?_
                  refine g_zast ((q_9 _).trans rfl) (fun G171 => ?_)
                  refine g_aload ((q_9 _).trans rfl) rfl ?_
                  refine g_getI ((q_9 _).trans rfl) (fun v172 => ?_)
                  exact g_iret ((q_9 _).trans rfl)
                · refine g_push ((q_9 _).trans rfl) ?_
                  refine g_goto ((q_9 _).trans rfl) ?_
                  refine g_iadd ((q_9 _).trans rfl) ?_
                  refine g_putf ((q_9 _).trans rfl) (fun G173 => ?_)
                  refine g_aload ((q_9 _).trans rfl) rfl ?_
                  refine g_getR ((q_9 _).trans rfl) (fun a174 => ?_)
                  refine g_push ((q_9 _).trans rfl) ?_
                  refine g_iload ((q_9 _).trans rfl) rfl ?_
                  refine g_imul ((q_9 _).trans rfl) ?_
                  refine g_iload ((q_9 _).trans rfl) rfl ?_
                  refine g_iadd ((q_9 _).trans rfl) ?_
                  refine g_push ((q_9 _).trans rfl) ?_
                  refine g_zast ((q_9 _).trans rfl) (fun G175 => ?_)
                  refine g_aload ((q_9 _).trans rfl) rfl ?_
                  refine g_getI ((q_9 _).trans rfl) (fun v176 => ?_)
                  exact g_iret ((q_9 _).trans rfl)
              · refine g_push ((q_9 _).trans rfl) ?_
                exact g_iret ((q_9 _).trans rfl)
            · refine g_push ((q_9 _).trans rfl) ?_
              refine g_callV (kk := 1) ((q_9 _).trans rfl) (gHn m_9) rfl (by exact ⟨Nat.le_of_ble_eq_true rfl, rfl⟩) rfl (fun w G177 => gm_I (fun v178 hw => ?_))
              subst hw
              refine g_ifeq ((q_9 _).trans rfl) (fun _ => ?_) (fun _ => ?_)
              · refine g_aload ((q_9 _).trans rfl) rfl ?_
                refine g_dup_ref ((q_9 _).trans rfl) ?_
                refine g_getI ((q_9 _).trans rfl) (fun v179 => ?_)
                refine g_aload ((q_9 _).trans rfl) rfl ?_
                refine g_getR ((q_9 _).trans rfl) (fun a180 => ?_)
                refine g_push ((q_9 _).trans rfl) ?_
                refine g_iload ((q_9 _).trans rfl) rfl ?_
                refine g_imul ((q_9 _).trans rfl) ?_
                refine g_iload ((q_9 _).trans rfl) rfl ?_
                refine g_iadd ((q_9 _).trans rfl) ?_
                refine g_iald ((q_9 _).trans rfl) (fun v181 => ?_)
                refine g_ifeq ((q_9 _).trans rfl) (fun _ => ?_) (fun _ => ?_)
                · refine g_push ((q_9 _).trans rfl) ?_
                  refine g_iadd ((q_9 _).trans rfl) ?_
                  refine g_putf ((q_9 _).trans rfl) (fun G182 => ?_)
                  refine g_aload ((q_9 _).trans rfl) rfl ?_
                  refine g_getR ((q_9 _).trans rfl) (fun a183 => ?_)
                  refine g_push ((q_9 _).trans rfl) ?_
                  refine g_iload ((q_9 _).trans rfl) rfl ?_
                  refine g_imul ((q_9 _).trans rfl) ?_
                  refine g_iload ((q_9 _).trans rfl) rfl ?_
                  refine g_iadd ((q_9 _).trans rfl) ?_
                  refine g_push ((q_9 _).trans rfl) ?_
                  refine g_zast ((q_9 _).trans rfl) (fun G184 => ?_)
                  refine g_aload ((q_9 _).trans rfl) rfl ?_
                  refine g_getI ((q_9 _).trans rfl) (fun v185 => ?_)
                  exact g_iret ((q_9 _).trans rfl)
                · refine g_push ((q_9 _).trans rfl) ?_
                  refine g_goto ((q_9 _).trans rfl) ?_
                  refine g_iadd ((q_9 _).trans rfl) ?_
                  refine g_putf ((q_9 _).trans rfl) (fun G186 => ?_)
                  refine g_aload ((q_9 _).trans rfl) rfl ?_
                  refine g_getR ((q_9 _).trans rfl) (fun a187 => ?_)
                  refine g_push ((q_9 _).trans rfl) ?_
                  refine g_iload ((q_9 _).trans rfl) rfl ?_
                  refine g_imul ((q_9 _).trans rfl) ?_
                  refine g_iload ((q_9 _).trans rfl) rfl ?_
                  refine g_iadd ((q_9 _).trans rfl) ?_
                  refine g_push ((q_9 _).trans rfl) ?_
                  refine g_zast ((q_9 _).trans rfl) (fun G188 => ?_)
                  refine g_aload ((q_9 _).trans rfl) rfl ?_
                  refine g_getI ((q_9 _).trans rfl) (fun v189 => ?_)
                  exact g_iret ((q_9 _).trans rfl)
              · refine g_push ((q_9 _).trans rfl) ?_
                exact g_iret ((q_9 _).trans rfl)
          · refine g_push ((q_9 _).trans rfl) ?_
            refine g_callV (kk := 1) ((q_9 _).trans rfl) (gHn m_9) rfl (by exact ⟨Nat.le_of_ble_eq_true rfl, rfl⟩) rfl (fun w G190 => gm_I (fun v191 hw => ?_))
            subst hw
            refine g_ifeq ((q_9 _).trans rfl) (fun _ => ?_) (fun _ => ?_)
            · refine g_aload ((q_9 _).trans rfl) rfl ?_
              refine g_dup_ref ((q_9 _).trans rfl) ?_
              refine g_getI ((q_9 _).trans rfl) (fun v192 => ?_)
              refine g_aload ((q_9 _).trans rfl) rfl ?_
              refine g_getR ((q_9 _).trans rfl) (fun a193 => ?_)
              refine g_push ((q_9 _).trans rfl) ?_
              refine g_iload ((q_9 _).trans rfl) rfl ?_
              refine g_imul ((q_9 _).trans rfl) ?_
              refine g_iload ((q_9 _).trans rfl) rfl ?_
              refine g_iadd ((q_9 _).trans rfl) ?_
              refine g_iald ((q_9 _).trans rfl) (fun v194 => ?_)
              refine g_ifeq ((q_9 _).trans rfl) (fun _ => ?_) (fun _ => ?_)
              · refine g_push ((q_9 _).trans rfl) ?_
                refine g_iadd ((q_9 _).trans rfl) ?_
                refine g_putf ((q_9 _).trans rfl) (fun G195 => ?_)
                refine g_aload ((q_9 _).trans rfl) rfl ?_
                refine g_getR ((q_9 _).trans rfl) (fun a196 => ?_)
                refine g_push ((q_9 _).trans rfl) ?_
                refine g_iload ((q_9 _).trans rfl) rfl ?_
                refine g_imul ((q_9 _).trans rfl) ?_
                refine g_iload ((q_9 _).trans rfl) rfl ?_
                refine g_iadd ((q_9 _).trans rfl) ?_
                refine g_push ((q_9 _).trans rfl) ?_
                refine g_zast ((q_9 _).trans rfl) (fun G197 => ?_)
                refine g_aload ((q_9 _).trans rfl) rfl ?_
                refine g_getI ((q_9 _).trans rfl) (fun v198 => ?_)
                exact g_iret ((q_9 _).trans rfl)
              · refine g_push ((q_9 _).trans rfl) ?_
                refine g_goto ((q_9 _).trans rfl) ?_
                refine g_iadd ((q_9 _).trans rfl) ?_
                refine g_putf ((q_9 _).trans rfl) (fun G199 => ?_)
                refine g_aload ((q_9 _).trans rfl) rfl ?_
                refine g_getR ((q_9 _).trans rfl) (fun a200 => ?_)
                refine g_push ((q_9 _).trans rfl) ?_
                refine g_iload ((q_9 _).trans rfl) rfl ?_
                refine g_imul ((q_9 _).trans rfl) ?_
                refine g_iload ((q_9 _).trans rfl) rfl ?_
                refine g_iadd ((q_9 _).trans rfl) ?_
                refine g_push ((q_9 _).trans rfl) ?_
                refine g_zast ((q_9 _).trans rfl) (fun G201 => ?_)
                refine g_aload ((q_9 _).trans rfl) rfl ?_
                refine g_getI ((q_9 _).trans rfl) (fun v202 => ?_)
                exact g_iret ((q_9 _).trans rfl)
            · refine g_push ((q_9 _).trans rfl) ?_
              exact g_iret ((q_9 _).trans rfl)
        · refine g_push ((q_9 _).trans rfl) ?_
          refine g_goto ((q_9 _).trans rfl) ?_
          refine g_callV (kk := 1) ((q_9 _).trans rfl) (gHn m_9) rfl (by exact ⟨Nat.le_of_ble_eq_true rfl, rfl⟩) rfl (fun w G203 => gm_I (fun v204 hw => ?_))
          subst hw
          refine g_ifeq ((q_9 _).trans rfl) (fun _ => ?_) (fun _ => ?_)
          · refine g_aload ((q_9 _).trans rfl) rfl ?_
            refine g_dup_ref ((q_9 _).trans rfl) ?_
            refine g_getI ((q_9 _).trans rfl) (fun v205 => ?_)
            refine g_aload ((q_9 _).trans rfl) rfl ?_
            refine g_getR ((q_9 _).trans rfl) (fun a206 => ?_)
            refine g_push ((q_9 _).trans rfl) ?_
            refine g_iload ((q_9 _).trans rfl) rfl ?_
            refine g_imul ((q_9 _).trans rfl) ?_
            refine g_iload ((q_9 _).trans rfl) rfl ?_
            refine g_iadd ((q_9 _).trans rfl) ?_
            refine g_iald ((q_9 _).trans rfl) (fun v207 => ?_)
            refine g_ifeq ((q_9 _).trans rfl) (fun _ => ?_) (fun _ => ?_)
            · refine g_push ((q_9 _).trans rfl) ?_
              refine g_iadd ((q_9 _).trans rfl) ?_
              refine g_putf ((q_9 _).trans rfl) (fun G208 => ?_)
              refine g_aload ((q_9 _).trans rfl) rfl ?_
              refine g_getR ((q_9 _).trans rfl) (fun a209 => ?_)
              refine g_push ((q_9 _).trans rfl) ?_
              refine g_iload ((q_9 _).trans rfl) rfl ?_
              refine g_imul ((q_9 _).trans rfl) ?_
              refine g_iload ((q_9 _).trans rfl) rfl ?_
              refine g_iadd ((q_9 _).trans rfl) ?_
              refine g_push ((q_9 _).trans rfl) ?_
              refine g_zast ((q_9 _).trans rfl) (fun G210 => ?_)
              refine g_aload ((q_9 _).trans rfl) rfl ?_
              refine g_getI ((q_9 _).trans rfl) (fun v211 => ?_)
              exact g_iret ((q_9 _).trans rfl)
            · refine g_push ((q_9 _).trans rfl) ?_
              refine g_goto ((q_9 _).trans rfl) ?_
              refine g_iadd ((q_9 _).trans rfl) ?_
              refine g_putf ((q_9 _).trans rfl) (fun G212 => ?_)
              refine g_aload ((q_9 _).trans rfl) rfl ?_
              refine g_getR ((q_9 _).trans rfl) (fun a213 => ?_)
              refine g_push ((q_9 _).trans rfl) ?_
              refine g_iload ((q_9 _).trans rfl) rfl ?_
              refine g_imul ((q_9 _).trans rfl) ?_
              refine g_iload ((q_9 _).trans rfl) rfl ?_
              refine g_iadd ((q_9 _).trans rfl) ?_
              refine g_push ((q_9 _).trans rfl) ?_
              refine g_zast ((q_9 _).trans rfl) (fun G214 => ?_)
              refine g_aload ((q_9 _).trans rfl) rfl ?_
              refine g_getI ((q_9 _).trans rfl) (fun v215 => ?_)
              exact g_iret ((q_9 _).trans rfl)
          · refine g_push ((q_9 _).trans rfl) ?_
            exact g_iret ((q_9 _).trans rfl)
theorem c_9 {K : gK} {d : Nat} {l0 : Nat} {l1 : Int32} {l2 : Int32} {G : gH} : gle (t_9_0 K d l0 l1 l2 G) (gCa K (d + 1) 9 [.ref l0, .int l1, .int l2] G) := by
  have h : gent (gMx 9) [.ref l0, .int l1, .int l2] = [some (.ref l0), some (.int l1), some (.int l2), none] := by
    show gent (gT 9).2.2.2.1 _ = _
    rw [m_9]; rfl
  exact fun r e => (congrArg (fun q => gRn K d 9 0 q [] G) h).trans (e_9_0 r e)
theorem q_10 {K : gK} (pc : Nat) : gP K 10 pc = ((gL_10 K).lookup pc).getD o_none := rfl
noncomputable def t_10_0_1 (K : gK) (d : Nat) (l0 : Nat) (G : gH) (v1 : Int32) : Option gO := gRn K d 10 7 [some (.ref l0), some (.int v1), some (.int (0 : Int32)), none] [] G
noncomputable def t_10_0 (K : gK) (d : Nat) (l0 : Nat) (G : gH) : Option gO := rI G l0 0 12 (t_10_0_1 K d l0 G)
theorem e_10_0 {K : gK} {d : Nat} {l0 : Nat} {G : gH} : gle (t_10_0 K d l0 G) (gRn K d 10 0 [some (.ref l0), none, none, none] [] G) := by
  unfold t_10_0
  refine g_aload ((q_10 _).trans rfl) rfl ?_
  refine g_getI ((q_10 _).trans rfl) (fun v1 => ?_)
  refine g_istore ((q_10 _).trans rfl) ?_
  refine g_push ((q_10 _).trans rfl) ?_
  refine g_istore ((q_10 _).trans rfl) ?_
  exact gle.rf _
theorem c_10 {K : gK} {d : Nat} {l0 : Nat} {G : gH} : gle (t_10_0 K d l0 G) (gCa K (d + 1) 10 [.ref l0] G) := by
  have h : gent (gMx 10) [.ref l0] = [some (.ref l0), none, none, none] := by
    show gent (gT 10).2.2.2.1 _ = _
    rw [m_10]; rfl
  exact fun r e => (congrArg (fun q => gRn K d 10 0 q [] G) h).trans (e_10_0 r e)
noncomputable def t_10_7_1 (K : gK) (d : Nat) (l1 : Int32) (G1 : gH) : Option gO := some (.inl (some (.int l1)), G1)
noncomputable def t_10_7 (K : gK) (d : Nat) (l0 : Nat) (l1 : Int32) (l2 : Int32) (o3 : Option Value) (G : gH) : Option gO := if (60 : Int32) ≤ l2 then (if narrow .int (.int (0 : Int32)) = .int (0 : Int32) ∧ fits .int (.int (0 : Int32)) = true then wF G l0 0 12 (.int (0 : Int32)) (t_10_7_1 K d l1) else none) else (gRn K d 10 15 [some (.ref l0), some (.int l1), some (.int l2), some (.int (0 : Int32))] [] G)
theorem e_10_7 {K : gK} {d : Nat} {l0 : Nat} {l1 : Int32} {l2 : Int32} {o3 : Option Value} {G : gH} : gle (t_10_7 K d l0 l1 l2 o3 G) (gRn K d 10 7 [some (.ref l0), some (.int l1), some (.int l2), o3] [] G) := by
  unfold t_10_7
  refine g_iload ((q_10 _).trans rfl) rfl ?_
  refine g_push ((q_10 _).trans rfl) ?_
  refine g_cmpge ((q_10 _).trans rfl) (fun _ => ?_) (fun _ => ?_)
  · refine g_aload ((q_10 _).trans rfl) rfl ?_
    refine g_push ((q_10 _).trans rfl) ?_
    refine g_putf ((q_10 _).trans rfl) (fun G1 => ?_)
    refine g_iload ((q_10 _).trans rfl) rfl ?_
    exact g_iret ((q_10 _).trans rfl)
  · refine g_push ((q_10 _).trans rfl) ?_
    refine g_istore ((q_10 _).trans rfl) ?_
    exact gle.rf _
noncomputable def t_10_15_1 (K : gK) (d : Nat) (l0 : Nat) (l1 : Int32) (l2 : Int32) (l3 : Int32) (G3 : gH) : Option gO := gRn K d 10 15 [some (.ref l0), some (.int l1), some (.int l2), some (.int (l3 + 1))] [] G3
noncomputable def t_10_15_2 (K : gK) (d : Nat) (G : gH) (l3 : Int32) (l0 : Nat) (l1 : Int32) (l2 : Int32) (a2 : Nat) : Option gO := yI G a2 1 l3 (vp_nar .boolean (0 : Int32)) (t_10_15_1 K d l0 l1 l2 l3)
noncomputable def t_10_15_3 (K : gK) (d : Nat) (G : gH) (l2 : Int32) (l3 : Int32) (l0 : Nat) (l1 : Int32) (a1 : Nat) : Option gO := xQ G a1 9 l2 (t_10_15_2 K d G l3 l0 l1 l2)
noncomputable def t_10_15 (K : gK) (d : Nat) (l0 : Nat) (l1 : Int32) (l2 : Int32) (l3 : Int32) (G : gH) : Option gO := if (12 : Int32) ≤ l3 then (gRn K d 10 7 [some (.ref l0), some (.int l1), some (.int (l2 + 1)), some (.int l3)] [] G) else (rR G l0 0 3 (t_10_15_3 K d G l2 l3 l0 l1))
theorem e_10_15 {K : gK} {d : Nat} {l0 : Nat} {l1 : Int32} {l2 : Int32} {l3 : Int32} {G : gH} : gle (t_10_15 K d l0 l1 l2 l3 G) (gRn K d 10 15 [some (.ref l0), some (.int l1), some (.int l2), some (.int l3)] [] G) := by
  unfold t_10_15
  refine g_iload ((q_10 _).trans rfl) rfl ?_
  refine g_push ((q_10 _).trans rfl) ?_
  refine g_cmpge ((q_10 _).trans rfl) (fun _ => ?_) (fun _ => ?_)
  · refine g_iinc ((q_10 _).trans rfl) rfl ?_
    refine g_goto ((q_10 _).trans rfl) ?_
    exact gle.rf _
  · refine g_aload ((q_10 _).trans rfl) rfl ?_
    refine g_getR ((q_10 _).trans rfl) (fun a1 => ?_)
    refine g_iload ((q_10 _).trans rfl) rfl ?_
    refine g_aald ((q_10 _).trans rfl) (fun a2 => ?_)
    refine g_iload ((q_10 _).trans rfl) rfl ?_
    refine g_push ((q_10 _).trans rfl) ?_
    refine g_zast ((q_10 _).trans rfl) (fun G3 => ?_)
    refine g_iinc ((q_10 _).trans rfl) rfl ?_
    refine g_goto ((q_10 _).trans rfl) ?_
    exact gle.rf _
theorem q_11 {K : gK} (pc : Nat) : gP K 11 pc = ((gL_11 K).lookup pc).getD o_none := rfl
noncomputable def t_11_0_1 (K : gK) (d : Nat) (l0 : Nat) (G1 : gH) (v2 : Int32) : Option gO := gRn K d 11 12 [some (.ref l0), some (.int v2), some (.int (0 : Int32))] [] G1
noncomputable def t_11_0_2 (K : gK) (d : Nat) (l0 : Nat) (G1 : gH) : Option gO := rI G1 l0 3 5 (t_11_0_1 K d l0 G1)
noncomputable def t_11_0 (K : gK) (d : Nat) (l0 : Nat) (G : gH) : Option gO := if narrow .int (.int (0 : Int32)) = .int (0 : Int32) ∧ fits .int (.int (0 : Int32)) = true then wF G l0 3 0 (.int (0 : Int32)) (t_11_0_2 K d l0) else none
theorem e_11_0 {K : gK} {d : Nat} {l0 : Nat} {G : gH} : gle (t_11_0 K d l0 G) (gRn K d 11 0 [some (.ref l0), none, none] [] G) := by
  unfold t_11_0
  refine g_aload ((q_11 _).trans rfl) rfl ?_
  refine g_push ((q_11 _).trans rfl) ?_
  refine g_putf ((q_11 _).trans rfl) (fun G1 => ?_)
  refine g_aload ((q_11 _).trans rfl) rfl ?_
  refine g_getI ((q_11 _).trans rfl) (fun v2 => ?_)
  refine g_istore ((q_11 _).trans rfl) ?_
  refine g_push ((q_11 _).trans rfl) ?_
  refine g_istore ((q_11 _).trans rfl) ?_
  exact gle.rf _
theorem c_11 {K : gK} {d : Nat} {l0 : Nat} {G : gH} : gle (t_11_0 K d l0 G) (gCa K (d + 1) 11 [.ref l0] G) := by
  have h : gent (gMx 11) [.ref l0] = [some (.ref l0), none, none] := by
    show gent (gT 11).2.2.2.1 _ = _
    rw [m_11]; rfl
  exact fun r e => (congrArg (fun q => gRn K d 11 0 q [] G) h).trans (e_11_0 r e)
noncomputable def t_11_12_1 (K : gK) (d : Nat) (l1 : Int32) (G1 : gH) : Option gO := some (.inl (some (.int l1)), G1)
noncomputable def t_11_12_2 (K : gK) (d : Nat) (l0 : Nat) (l1 : Int32) (l2 : Int32) (G3 : gH) : Option gO := gRn K d 11 12 [some (.ref l0), some (.int l1), some (.int (l2 + 1))] [] G3
noncomputable def t_11_12_3 (K : gK) (d : Nat) (G : gH) (l2 : Int32) (l0 : Nat) (l1 : Int32) (a2 : Nat) : Option gO := yI G a2 1 l2 (vp_nar .boolean (0 : Int32)) (t_11_12_2 K d l0 l1 l2)
noncomputable def t_11_12 (K : gK) (d : Nat) (l0 : Nat) (l1 : Int32) (l2 : Int32) (G : gH) : Option gO := if (720 : Int32) ≤ l2 then (if narrow .int (.int (0 : Int32)) = .int (0 : Int32) ∧ fits .int (.int (0 : Int32)) = true then wF G l0 3 5 (.int (0 : Int32)) (t_11_12_1 K d l1) else none) else (rR G l0 3 6 (t_11_12_3 K d G l2 l0 l1))
theorem e_11_12 {K : gK} {d : Nat} {l0 : Nat} {l1 : Int32} {l2 : Int32} {G : gH} : gle (t_11_12 K d l0 l1 l2 G) (gRn K d 11 12 [some (.ref l0), some (.int l1), some (.int l2)] [] G) := by
  unfold t_11_12
  refine g_iload ((q_11 _).trans rfl) rfl ?_
  refine g_push ((q_11 _).trans rfl) ?_
  refine g_cmpge ((q_11 _).trans rfl) (fun _ => ?_) (fun _ => ?_)
  · refine g_aload ((q_11 _).trans rfl) rfl ?_
    refine g_push ((q_11 _).trans rfl) ?_
    refine g_putf ((q_11 _).trans rfl) (fun G1 => ?_)
    refine g_iload ((q_11 _).trans rfl) rfl ?_
    exact g_iret ((q_11 _).trans rfl)
  · refine g_aload ((q_11 _).trans rfl) rfl ?_
    refine g_getR ((q_11 _).trans rfl) (fun a2 => ?_)
    refine g_iload ((q_11 _).trans rfl) rfl ?_
    refine g_push ((q_11 _).trans rfl) ?_
    refine g_zast ((q_11 _).trans rfl) (fun G3 => ?_)
    refine g_iinc ((q_11 _).trans rfl) rfl ?_
    refine g_goto ((q_11 _).trans rfl) ?_
    exact gle.rf _
theorem q_13 {K : gK} (pc : Nat) : gP K 13 pc = ((gL_13 K).lookup pc).getD o_none := rfl
noncomputable def t_13_0_1 (K : gK) (d : Nat) (G10 : gH) (v11 : Int32) : Option gO := some (.inl (some (.int (v11 - (1 : Int32)))), G10)
noncomputable def t_13_0_2 (K : gK) (d : Nat) (l0 : Nat) (G10 : gH) : Option gO := rI G10 l0 3 7 (t_13_0_1 K d G10)
noncomputable def t_13_0_3 (K : gK) (d : Nat) (G8 : gH) (l0 : Nat) (v9 : Int32) : Option gO := if narrow .int (.int (v9 + (1 : Int32))) = .int (v9 + (1 : Int32)) ∧ fits .int (.int (v9 + (1 : Int32))) = true then wF G8 l0 3 7 (.int (v9 + (1 : Int32))) (t_13_0_2 K d l0) else none
noncomputable def t_13_0_4 (K : gK) (d : Nat) (l0 : Nat) (G8 : gH) : Option gO := rI G8 l0 3 7 (t_13_0_3 K d G8 l0)
noncomputable def t_13_0_5 (K : gK) (d : Nat) (G5 : gH) (a6 : Nat) (l2 : Int32) (l0 : Nat) (v7 : Int32) : Option gO := yI G5 a6 1 v7 (vp_nar .boolean l2) (t_13_0_4 K d l0)
noncomputable def t_13_0_6 (K : gK) (d : Nat) (G5 : gH) (l0 : Nat) (l2 : Int32) (a6 : Nat) : Option gO := rI G5 l0 3 7 (t_13_0_5 K d G5 a6 l2 l0)
noncomputable def t_13_0_7 (K : gK) (d : Nat) (l0 : Nat) (l2 : Int32) (G5 : gH) : Option gO := rR G5 l0 3 9 (t_13_0_6 K d G5 l0 l2)
noncomputable def t_13_0_8 (K : gK) (d : Nat) (G1 : gH) (a3 : Nat) (l1 : Int32) (l0 : Nat) (l2 : Int32) (v4 : Int32) : Option gO := yI G1 a3 2 v4 (vp_nar .char l1) (t_13_0_7 K d l0 l2)
noncomputable def t_13_0_9 (K : gK) (d : Nat) (G1 : gH) (l0 : Nat) (l1 : Int32) (l2 : Int32) (a3 : Nat) : Option gO := rI G1 l0 3 7 (t_13_0_8 K d G1 a3 l1 l0 l2)
noncomputable def t_13_0_10 (K : gK) (d : Nat) (l0 : Nat) (l1 : Int32) (l2 : Int32) (v2 : Int32) (G1 : gH) : Option gO := if v2 = 0 then (rR G1 l0 3 8 (t_13_0_9 K d G1 l0 l1 l2)) else (some (.inl (some (.int (0 : Int32))), G1))
noncomputable def t_13_0_11 (K : gK) (d : Nat) (G22 : gH) (v23 : Int32) : Option gO := some (.inl (some (.int (v23 - (1 : Int32)))), G22)
noncomputable def t_13_0_12 (K : gK) (d : Nat) (l0 : Nat) (G22 : gH) : Option gO := rI G22 l0 3 7 (t_13_0_11 K d G22)
noncomputable def t_13_0_13 (K : gK) (d : Nat) (G20 : gH) (l0 : Nat) (v21 : Int32) : Option gO := if narrow .int (.int (v21 + (1 : Int32))) = .int (v21 + (1 : Int32)) ∧ fits .int (.int (v21 + (1 : Int32))) = true then wF G20 l0 3 7 (.int (v21 + (1 : Int32))) (t_13_0_12 K d l0) else none
noncomputable def t_13_0_14 (K : gK) (d : Nat) (l0 : Nat) (G20 : gH) : Option gO := rI G20 l0 3 7 (t_13_0_13 K d G20 l0)
noncomputable def t_13_0_15 (K : gK) (d : Nat) (G17 : gH) (a18 : Nat) (l2 : Int32) (l0 : Nat) (v19 : Int32) : Option gO := yI G17 a18 1 v19 (vp_nar .boolean l2) (t_13_0_14 K d l0)
noncomputable def t_13_0_16 (K : gK) (d : Nat) (G17 : gH) (l0 : Nat) (l2 : Int32) (a18 : Nat) : Option gO := rI G17 l0 3 7 (t_13_0_15 K d G17 a18 l2 l0)
noncomputable def t_13_0_17 (K : gK) (d : Nat) (l0 : Nat) (l2 : Int32) (G17 : gH) : Option gO := rR G17 l0 3 9 (t_13_0_16 K d G17 l0 l2)
noncomputable def t_13_0_18 (K : gK) (d : Nat) (G13 : gH) (a15 : Nat) (l1 : Int32) (l0 : Nat) (l2 : Int32) (v16 : Int32) : Option gO := yI G13 a15 2 v16 (vp_nar .char l1) (t_13_0_17 K d l0 l2)
noncomputable def t_13_0_19 (K : gK) (d : Nat) (G13 : gH) (l0 : Nat) (l1 : Int32) (l2 : Int32) (a15 : Nat) : Option gO := rI G13 l0 3 7 (t_13_0_18 K d G13 a15 l1 l0 l2)
noncomputable def t_13_0_20 (K : gK) (d : Nat) (l0 : Nat) (l1 : Int32) (l2 : Int32) (v14 : Int32) (G13 : gH) : Option gO := if v14 = 0 then (rR G13 l0 3 8 (t_13_0_19 K d G13 l0 l1 l2)) else (some (.inl (some (.int (0 : Int32))), G13))
noncomputable def t_13_0_21 (K : gK) (d : Nat) (G33 : gH) (v34 : Int32) : Option gO := some (.inl (some (.int (v34 - (1 : Int32)))), G33)
noncomputable def t_13_0_22 (K : gK) (d : Nat) (l0 : Nat) (G33 : gH) : Option gO := rI G33 l0 3 7 (t_13_0_21 K d G33)
noncomputable def t_13_0_23 (K : gK) (d : Nat) (G31 : gH) (l0 : Nat) (v32 : Int32) : Option gO := if narrow .int (.int (v32 + (1 : Int32))) = .int (v32 + (1 : Int32)) ∧ fits .int (.int (v32 + (1 : Int32))) = true then wF G31 l0 3 7 (.int (v32 + (1 : Int32))) (t_13_0_22 K d l0) else none
noncomputable def t_13_0_24 (K : gK) (d : Nat) (l0 : Nat) (G31 : gH) : Option gO := rI G31 l0 3 7 (t_13_0_23 K d G31 l0)
noncomputable def t_13_0_25 (K : gK) (d : Nat) (G28 : gH) (a29 : Nat) (l2 : Int32) (l0 : Nat) (v30 : Int32) : Option gO := yI G28 a29 1 v30 (vp_nar .boolean l2) (t_13_0_24 K d l0)
noncomputable def t_13_0_26 (K : gK) (d : Nat) (G28 : gH) (l0 : Nat) (l2 : Int32) (a29 : Nat) : Option gO := rI G28 l0 3 7 (t_13_0_25 K d G28 a29 l2 l0)
noncomputable def t_13_0_27 (K : gK) (d : Nat) (l0 : Nat) (l2 : Int32) (G28 : gH) : Option gO := rR G28 l0 3 9 (t_13_0_26 K d G28 l0 l2)
noncomputable def t_13_0_28 (K : gK) (d : Nat) (G24 : gH) (a26 : Nat) (l1 : Int32) (l0 : Nat) (l2 : Int32) (v27 : Int32) : Option gO := yI G24 a26 2 v27 (vp_nar .char l1) (t_13_0_27 K d l0 l2)
noncomputable def t_13_0_29 (K : gK) (d : Nat) (G24 : gH) (l0 : Nat) (l1 : Int32) (l2 : Int32) (a26 : Nat) : Option gO := rI G24 l0 3 7 (t_13_0_28 K d G24 a26 l1 l0 l2)
noncomputable def t_13_0_30 (K : gK) (d : Nat) (l0 : Nat) (l1 : Int32) (l2 : Int32) (v25 : Int32) (G24 : gH) : Option gO := if v25 = 0 then (rR G24 l0 3 8 (t_13_0_29 K d G24 l0 l1 l2)) else (some (.inl (some (.int (0 : Int32))), G24))
noncomputable def t_13_0_31 (K : gK) (d : Nat) (G : gH) (l0 : Nat) (l1 : Int32) (l2 : Int32) (v12 : Int32) : Option gO := if v12 = (8 : Int32) then (if g_cls G l0 = some 3 then (cI (gCa K d 90 [.ref l0, .int (2 : Int32)] G) (t_13_0_20 K d l0 l1 l2)) else none) else (if g_cls G l0 = some 3 then (cI (gCa K d 90 [.ref l0, .int (0 : Int32)] G) (t_13_0_30 K d l0 l1 l2)) else none)
noncomputable def t_13_0_32 (K : gK) (d : Nat) (G44 : gH) (v45 : Int32) : Option gO := some (.inl (some (.int (v45 - (1 : Int32)))), G44)
noncomputable def t_13_0_33 (K : gK) (d : Nat) (l0 : Nat) (G44 : gH) : Option gO := rI G44 l0 3 7 (t_13_0_32 K d G44)
noncomputable def t_13_0_34 (K : gK) (d : Nat) (G42 : gH) (l0 : Nat) (v43 : Int32) : Option gO := if narrow .int (.int (v43 + (1 : Int32))) = .int (v43 + (1 : Int32)) ∧ fits .int (.int (v43 + (1 : Int32))) = true then wF G42 l0 3 7 (.int (v43 + (1 : Int32))) (t_13_0_33 K d l0) else none
noncomputable def t_13_0_35 (K : gK) (d : Nat) (l0 : Nat) (G42 : gH) : Option gO := rI G42 l0 3 7 (t_13_0_34 K d G42 l0)
noncomputable def t_13_0_36 (K : gK) (d : Nat) (G39 : gH) (a40 : Nat) (l2 : Int32) (l0 : Nat) (v41 : Int32) : Option gO := yI G39 a40 1 v41 (vp_nar .boolean l2) (t_13_0_35 K d l0)
noncomputable def t_13_0_37 (K : gK) (d : Nat) (G39 : gH) (l0 : Nat) (l2 : Int32) (a40 : Nat) : Option gO := rI G39 l0 3 7 (t_13_0_36 K d G39 a40 l2 l0)
noncomputable def t_13_0_38 (K : gK) (d : Nat) (l0 : Nat) (l2 : Int32) (G39 : gH) : Option gO := rR G39 l0 3 9 (t_13_0_37 K d G39 l0 l2)
noncomputable def t_13_0_39 (K : gK) (d : Nat) (G35 : gH) (a37 : Nat) (l1 : Int32) (l0 : Nat) (l2 : Int32) (v38 : Int32) : Option gO := yI G35 a37 2 v38 (vp_nar .char l1) (t_13_0_38 K d l0 l2)
noncomputable def t_13_0_40 (K : gK) (d : Nat) (G35 : gH) (l0 : Nat) (l1 : Int32) (l2 : Int32) (a37 : Nat) : Option gO := rI G35 l0 3 7 (t_13_0_39 K d G35 a37 l1 l0 l2)
noncomputable def t_13_0_41 (K : gK) (d : Nat) (l0 : Nat) (l1 : Int32) (l2 : Int32) (v36 : Int32) (G35 : gH) : Option gO := if v36 = 0 then (rR G35 l0 3 8 (t_13_0_40 K d G35 l0 l1 l2)) else (some (.inl (some (.int (0 : Int32))), G35))
noncomputable def t_13_0_42 (K : gK) (d : Nat) (G56 : gH) (v57 : Int32) : Option gO := some (.inl (some (.int (v57 - (1 : Int32)))), G56)
noncomputable def t_13_0_43 (K : gK) (d : Nat) (l0 : Nat) (G56 : gH) : Option gO := rI G56 l0 3 7 (t_13_0_42 K d G56)
noncomputable def t_13_0_44 (K : gK) (d : Nat) (G54 : gH) (l0 : Nat) (v55 : Int32) : Option gO := if narrow .int (.int (v55 + (1 : Int32))) = .int (v55 + (1 : Int32)) ∧ fits .int (.int (v55 + (1 : Int32))) = true then wF G54 l0 3 7 (.int (v55 + (1 : Int32))) (t_13_0_43 K d l0) else none
noncomputable def t_13_0_45 (K : gK) (d : Nat) (l0 : Nat) (G54 : gH) : Option gO := rI G54 l0 3 7 (t_13_0_44 K d G54 l0)
noncomputable def t_13_0_46 (K : gK) (d : Nat) (G51 : gH) (a52 : Nat) (l2 : Int32) (l0 : Nat) (v53 : Int32) : Option gO := yI G51 a52 1 v53 (vp_nar .boolean l2) (t_13_0_45 K d l0)
noncomputable def t_13_0_47 (K : gK) (d : Nat) (G51 : gH) (l0 : Nat) (l2 : Int32) (a52 : Nat) : Option gO := rI G51 l0 3 7 (t_13_0_46 K d G51 a52 l2 l0)
noncomputable def t_13_0_48 (K : gK) (d : Nat) (l0 : Nat) (l2 : Int32) (G51 : gH) : Option gO := rR G51 l0 3 9 (t_13_0_47 K d G51 l0 l2)
noncomputable def t_13_0_49 (K : gK) (d : Nat) (G47 : gH) (a49 : Nat) (l1 : Int32) (l0 : Nat) (l2 : Int32) (v50 : Int32) : Option gO := yI G47 a49 2 v50 (vp_nar .char l1) (t_13_0_48 K d l0 l2)
noncomputable def t_13_0_50 (K : gK) (d : Nat) (G47 : gH) (l0 : Nat) (l1 : Int32) (l2 : Int32) (a49 : Nat) : Option gO := rI G47 l0 3 7 (t_13_0_49 K d G47 a49 l1 l0 l2)
noncomputable def t_13_0_51 (K : gK) (d : Nat) (l0 : Nat) (l1 : Int32) (l2 : Int32) (v48 : Int32) (G47 : gH) : Option gO := if v48 = 0 then (rR G47 l0 3 8 (t_13_0_50 K d G47 l0 l1 l2)) else (some (.inl (some (.int (0 : Int32))), G47))
noncomputable def t_13_0_52 (K : gK) (d : Nat) (G67 : gH) (v68 : Int32) : Option gO := some (.inl (some (.int (v68 - (1 : Int32)))), G67)
noncomputable def t_13_0_53 (K : gK) (d : Nat) (l0 : Nat) (G67 : gH) : Option gO := rI G67 l0 3 7 (t_13_0_52 K d G67)
noncomputable def t_13_0_54 (K : gK) (d : Nat) (G65 : gH) (l0 : Nat) (v66 : Int32) : Option gO := if narrow .int (.int (v66 + (1 : Int32))) = .int (v66 + (1 : Int32)) ∧ fits .int (.int (v66 + (1 : Int32))) = true then wF G65 l0 3 7 (.int (v66 + (1 : Int32))) (t_13_0_53 K d l0) else none
noncomputable def t_13_0_55 (K : gK) (d : Nat) (l0 : Nat) (G65 : gH) : Option gO := rI G65 l0 3 7 (t_13_0_54 K d G65 l0)
noncomputable def t_13_0_56 (K : gK) (d : Nat) (G62 : gH) (a63 : Nat) (l2 : Int32) (l0 : Nat) (v64 : Int32) : Option gO := yI G62 a63 1 v64 (vp_nar .boolean l2) (t_13_0_55 K d l0)
noncomputable def t_13_0_57 (K : gK) (d : Nat) (G62 : gH) (l0 : Nat) (l2 : Int32) (a63 : Nat) : Option gO := rI G62 l0 3 7 (t_13_0_56 K d G62 a63 l2 l0)
noncomputable def t_13_0_58 (K : gK) (d : Nat) (l0 : Nat) (l2 : Int32) (G62 : gH) : Option gO := rR G62 l0 3 9 (t_13_0_57 K d G62 l0 l2)
noncomputable def t_13_0_59 (K : gK) (d : Nat) (G58 : gH) (a60 : Nat) (l1 : Int32) (l0 : Nat) (l2 : Int32) (v61 : Int32) : Option gO := yI G58 a60 2 v61 (vp_nar .char l1) (t_13_0_58 K d l0 l2)
noncomputable def t_13_0_60 (K : gK) (d : Nat) (G58 : gH) (l0 : Nat) (l1 : Int32) (l2 : Int32) (a60 : Nat) : Option gO := rI G58 l0 3 7 (t_13_0_59 K d G58 a60 l1 l0 l2)
noncomputable def t_13_0_61 (K : gK) (d : Nat) (l0 : Nat) (l1 : Int32) (l2 : Int32) (v59 : Int32) (G58 : gH) : Option gO := if v59 = 0 then (rR G58 l0 3 8 (t_13_0_60 K d G58 l0 l1 l2)) else (some (.inl (some (.int (0 : Int32))), G58))
noncomputable def t_13_0_62 (K : gK) (d : Nat) (G : gH) (l0 : Nat) (l1 : Int32) (l2 : Int32) (v46 : Int32) : Option gO := if v46 = (8 : Int32) then (if g_cls G l0 = some 3 then (cI (gCa K d 90 [.ref l0, .int (2 : Int32)] G) (t_13_0_51 K d l0 l1 l2)) else none) else (if g_cls G l0 = some 3 then (cI (gCa K d 90 [.ref l0, .int (0 : Int32)] G) (t_13_0_61 K d l0 l1 l2)) else none)
noncomputable def t_13_0_63 (K : gK) (d : Nat) (G78 : gH) (v79 : Int32) : Option gO := some (.inl (some (.int (v79 - (1 : Int32)))), G78)
noncomputable def t_13_0_64 (K : gK) (d : Nat) (l0 : Nat) (G78 : gH) : Option gO := rI G78 l0 3 7 (t_13_0_63 K d G78)
noncomputable def t_13_0_65 (K : gK) (d : Nat) (G76 : gH) (l0 : Nat) (v77 : Int32) : Option gO := if narrow .int (.int (v77 + (1 : Int32))) = .int (v77 + (1 : Int32)) ∧ fits .int (.int (v77 + (1 : Int32))) = true then wF G76 l0 3 7 (.int (v77 + (1 : Int32))) (t_13_0_64 K d l0) else none
noncomputable def t_13_0_66 (K : gK) (d : Nat) (l0 : Nat) (G76 : gH) : Option gO := rI G76 l0 3 7 (t_13_0_65 K d G76 l0)
noncomputable def t_13_0_67 (K : gK) (d : Nat) (G73 : gH) (a74 : Nat) (l2 : Int32) (l0 : Nat) (v75 : Int32) : Option gO := yI G73 a74 1 v75 (vp_nar .boolean l2) (t_13_0_66 K d l0)
noncomputable def t_13_0_68 (K : gK) (d : Nat) (G73 : gH) (l0 : Nat) (l2 : Int32) (a74 : Nat) : Option gO := rI G73 l0 3 7 (t_13_0_67 K d G73 a74 l2 l0)
noncomputable def t_13_0_69 (K : gK) (d : Nat) (l0 : Nat) (l2 : Int32) (G73 : gH) : Option gO := rR G73 l0 3 9 (t_13_0_68 K d G73 l0 l2)
noncomputable def t_13_0_70 (K : gK) (d : Nat) (G69 : gH) (a71 : Nat) (l1 : Int32) (l0 : Nat) (l2 : Int32) (v72 : Int32) : Option gO := yI G69 a71 2 v72 (vp_nar .char l1) (t_13_0_69 K d l0 l2)
noncomputable def t_13_0_71 (K : gK) (d : Nat) (G69 : gH) (l0 : Nat) (l1 : Int32) (l2 : Int32) (a71 : Nat) : Option gO := rI G69 l0 3 7 (t_13_0_70 K d G69 a71 l1 l0 l2)
noncomputable def t_13_0_72 (K : gK) (d : Nat) (l0 : Nat) (l1 : Int32) (l2 : Int32) (v70 : Int32) (G69 : gH) : Option gO := if v70 = 0 then (rR G69 l0 3 8 (t_13_0_71 K d G69 l0 l1 l2)) else (some (.inl (some (.int (0 : Int32))), G69))
noncomputable def t_13_0_73 (K : gK) (d : Nat) (G90 : gH) (v91 : Int32) : Option gO := some (.inl (some (.int (v91 - (1 : Int32)))), G90)
noncomputable def t_13_0_74 (K : gK) (d : Nat) (l0 : Nat) (G90 : gH) : Option gO := rI G90 l0 3 7 (t_13_0_73 K d G90)
noncomputable def t_13_0_75 (K : gK) (d : Nat) (G88 : gH) (l0 : Nat) (v89 : Int32) : Option gO := if narrow .int (.int (v89 + (1 : Int32))) = .int (v89 + (1 : Int32)) ∧ fits .int (.int (v89 + (1 : Int32))) = true then wF G88 l0 3 7 (.int (v89 + (1 : Int32))) (t_13_0_74 K d l0) else none
noncomputable def t_13_0_76 (K : gK) (d : Nat) (l0 : Nat) (G88 : gH) : Option gO := rI G88 l0 3 7 (t_13_0_75 K d G88 l0)
noncomputable def t_13_0_77 (K : gK) (d : Nat) (G85 : gH) (a86 : Nat) (l2 : Int32) (l0 : Nat) (v87 : Int32) : Option gO := yI G85 a86 1 v87 (vp_nar .boolean l2) (t_13_0_76 K d l0)
noncomputable def t_13_0_78 (K : gK) (d : Nat) (G85 : gH) (l0 : Nat) (l2 : Int32) (a86 : Nat) : Option gO := rI G85 l0 3 7 (t_13_0_77 K d G85 a86 l2 l0)
noncomputable def t_13_0_79 (K : gK) (d : Nat) (l0 : Nat) (l2 : Int32) (G85 : gH) : Option gO := rR G85 l0 3 9 (t_13_0_78 K d G85 l0 l2)
noncomputable def t_13_0_80 (K : gK) (d : Nat) (G81 : gH) (a83 : Nat) (l1 : Int32) (l0 : Nat) (l2 : Int32) (v84 : Int32) : Option gO := yI G81 a83 2 v84 (vp_nar .char l1) (t_13_0_79 K d l0 l2)
noncomputable def t_13_0_81 (K : gK) (d : Nat) (G81 : gH) (l0 : Nat) (l1 : Int32) (l2 : Int32) (a83 : Nat) : Option gO := rI G81 l0 3 7 (t_13_0_80 K d G81 a83 l1 l0 l2)
noncomputable def t_13_0_82 (K : gK) (d : Nat) (l0 : Nat) (l1 : Int32) (l2 : Int32) (v82 : Int32) (G81 : gH) : Option gO := if v82 = 0 then (rR G81 l0 3 8 (t_13_0_81 K d G81 l0 l1 l2)) else (some (.inl (some (.int (0 : Int32))), G81))
noncomputable def t_13_0_83 (K : gK) (d : Nat) (G101 : gH) (v102 : Int32) : Option gO := some (.inl (some (.int (v102 - (1 : Int32)))), G101)
noncomputable def t_13_0_84 (K : gK) (d : Nat) (l0 : Nat) (G101 : gH) : Option gO := rI G101 l0 3 7 (t_13_0_83 K d G101)
noncomputable def t_13_0_85 (K : gK) (d : Nat) (G99 : gH) (l0 : Nat) (v100 : Int32) : Option gO := if narrow .int (.int (v100 + (1 : Int32))) = .int (v100 + (1 : Int32)) ∧ fits .int (.int (v100 + (1 : Int32))) = true then wF G99 l0 3 7 (.int (v100 + (1 : Int32))) (t_13_0_84 K d l0) else none
noncomputable def t_13_0_86 (K : gK) (d : Nat) (l0 : Nat) (G99 : gH) : Option gO := rI G99 l0 3 7 (t_13_0_85 K d G99 l0)
noncomputable def t_13_0_87 (K : gK) (d : Nat) (G96 : gH) (a97 : Nat) (l2 : Int32) (l0 : Nat) (v98 : Int32) : Option gO := yI G96 a97 1 v98 (vp_nar .boolean l2) (t_13_0_86 K d l0)
noncomputable def t_13_0_88 (K : gK) (d : Nat) (G96 : gH) (l0 : Nat) (l2 : Int32) (a97 : Nat) : Option gO := rI G96 l0 3 7 (t_13_0_87 K d G96 a97 l2 l0)
noncomputable def t_13_0_89 (K : gK) (d : Nat) (l0 : Nat) (l2 : Int32) (G96 : gH) : Option gO := rR G96 l0 3 9 (t_13_0_88 K d G96 l0 l2)
noncomputable def t_13_0_90 (K : gK) (d : Nat) (G92 : gH) (a94 : Nat) (l1 : Int32) (l0 : Nat) (l2 : Int32) (v95 : Int32) : Option gO := yI G92 a94 2 v95 (vp_nar .char l1) (t_13_0_89 K d l0 l2)
noncomputable def t_13_0_91 (K : gK) (d : Nat) (G92 : gH) (l0 : Nat) (l1 : Int32) (l2 : Int32) (a94 : Nat) : Option gO := rI G92 l0 3 7 (t_13_0_90 K d G92 a94 l1 l0 l2)
noncomputable def t_13_0_92 (K : gK) (d : Nat) (l0 : Nat) (l1 : Int32) (l2 : Int32) (v93 : Int32) (G92 : gH) : Option gO := if v93 = 0 then (rR G92 l0 3 8 (t_13_0_91 K d G92 l0 l1 l2)) else (some (.inl (some (.int (0 : Int32))), G92))
noncomputable def t_13_0_93 (K : gK) (d : Nat) (G : gH) (l0 : Nat) (l1 : Int32) (l2 : Int32) (v80 : Int32) : Option gO := if v80 = (8 : Int32) then (if g_cls G l0 = some 3 then (cI (gCa K d 90 [.ref l0, .int (2 : Int32)] G) (t_13_0_82 K d l0 l1 l2)) else none) else (if g_cls G l0 = some 3 then (cI (gCa K d 90 [.ref l0, .int (0 : Int32)] G) (t_13_0_92 K d l0 l1 l2)) else none)
noncomputable def t_13_0_94 (K : gK) (d : Nat) (G112 : gH) (v113 : Int32) : Option gO := some (.inl (some (.int (v113 - (1 : Int32)))), G112)
noncomputable def t_13_0_95 (K : gK) (d : Nat) (l0 : Nat) (G112 : gH) : Option gO := rI G112 l0 3 7 (t_13_0_94 K d G112)
noncomputable def t_13_0_96 (K : gK) (d : Nat) (G110 : gH) (l0 : Nat) (v111 : Int32) : Option gO := if narrow .int (.int (v111 + (1 : Int32))) = .int (v111 + (1 : Int32)) ∧ fits .int (.int (v111 + (1 : Int32))) = true then wF G110 l0 3 7 (.int (v111 + (1 : Int32))) (t_13_0_95 K d l0) else none
noncomputable def t_13_0_97 (K : gK) (d : Nat) (l0 : Nat) (G110 : gH) : Option gO := rI G110 l0 3 7 (t_13_0_96 K d G110 l0)
noncomputable def t_13_0_98 (K : gK) (d : Nat) (G107 : gH) (a108 : Nat) (l2 : Int32) (l0 : Nat) (v109 : Int32) : Option gO := yI G107 a108 1 v109 (vp_nar .boolean l2) (t_13_0_97 K d l0)
noncomputable def t_13_0_99 (K : gK) (d : Nat) (G107 : gH) (l0 : Nat) (l2 : Int32) (a108 : Nat) : Option gO := rI G107 l0 3 7 (t_13_0_98 K d G107 a108 l2 l0)
noncomputable def t_13_0_100 (K : gK) (d : Nat) (l0 : Nat) (l2 : Int32) (G107 : gH) : Option gO := rR G107 l0 3 9 (t_13_0_99 K d G107 l0 l2)
noncomputable def t_13_0_101 (K : gK) (d : Nat) (G103 : gH) (a105 : Nat) (l1 : Int32) (l0 : Nat) (l2 : Int32) (v106 : Int32) : Option gO := yI G103 a105 2 v106 (vp_nar .char l1) (t_13_0_100 K d l0 l2)
noncomputable def t_13_0_102 (K : gK) (d : Nat) (G103 : gH) (l0 : Nat) (l1 : Int32) (l2 : Int32) (a105 : Nat) : Option gO := rI G103 l0 3 7 (t_13_0_101 K d G103 a105 l1 l0 l2)
noncomputable def t_13_0_103 (K : gK) (d : Nat) (l0 : Nat) (l1 : Int32) (l2 : Int32) (v104 : Int32) (G103 : gH) : Option gO := if v104 = 0 then (rR G103 l0 3 8 (t_13_0_102 K d G103 l0 l1 l2)) else (some (.inl (some (.int (0 : Int32))), G103))
noncomputable def t_13_0_104 (K : gK) (d : Nat) (G124 : gH) (v125 : Int32) : Option gO := some (.inl (some (.int (v125 - (1 : Int32)))), G124)
noncomputable def t_13_0_105 (K : gK) (d : Nat) (l0 : Nat) (G124 : gH) : Option gO := rI G124 l0 3 7 (t_13_0_104 K d G124)
noncomputable def t_13_0_106 (K : gK) (d : Nat) (G122 : gH) (l0 : Nat) (v123 : Int32) : Option gO := if narrow .int (.int (v123 + (1 : Int32))) = .int (v123 + (1 : Int32)) ∧ fits .int (.int (v123 + (1 : Int32))) = true then wF G122 l0 3 7 (.int (v123 + (1 : Int32))) (t_13_0_105 K d l0) else none
noncomputable def t_13_0_107 (K : gK) (d : Nat) (l0 : Nat) (G122 : gH) : Option gO := rI G122 l0 3 7 (t_13_0_106 K d G122 l0)
noncomputable def t_13_0_108 (K : gK) (d : Nat) (G119 : gH) (a120 : Nat) (l2 : Int32) (l0 : Nat) (v121 : Int32) : Option gO := yI G119 a120 1 v121 (vp_nar .boolean l2) (t_13_0_107 K d l0)
noncomputable def t_13_0_109 (K : gK) (d : Nat) (G119 : gH) (l0 : Nat) (l2 : Int32) (a120 : Nat) : Option gO := rI G119 l0 3 7 (t_13_0_108 K d G119 a120 l2 l0)
noncomputable def t_13_0_110 (K : gK) (d : Nat) (l0 : Nat) (l2 : Int32) (G119 : gH) : Option gO := rR G119 l0 3 9 (t_13_0_109 K d G119 l0 l2)
noncomputable def t_13_0_111 (K : gK) (d : Nat) (G115 : gH) (a117 : Nat) (l1 : Int32) (l0 : Nat) (l2 : Int32) (v118 : Int32) : Option gO := yI G115 a117 2 v118 (vp_nar .char l1) (t_13_0_110 K d l0 l2)
noncomputable def t_13_0_112 (K : gK) (d : Nat) (G115 : gH) (l0 : Nat) (l1 : Int32) (l2 : Int32) (a117 : Nat) : Option gO := rI G115 l0 3 7 (t_13_0_111 K d G115 a117 l1 l0 l2)
noncomputable def t_13_0_113 (K : gK) (d : Nat) (l0 : Nat) (l1 : Int32) (l2 : Int32) (v116 : Int32) (G115 : gH) : Option gO := if v116 = 0 then (rR G115 l0 3 8 (t_13_0_112 K d G115 l0 l1 l2)) else (some (.inl (some (.int (0 : Int32))), G115))
noncomputable def t_13_0_114 (K : gK) (d : Nat) (G135 : gH) (v136 : Int32) : Option gO := some (.inl (some (.int (v136 - (1 : Int32)))), G135)
noncomputable def t_13_0_115 (K : gK) (d : Nat) (l0 : Nat) (G135 : gH) : Option gO := rI G135 l0 3 7 (t_13_0_114 K d G135)
noncomputable def t_13_0_116 (K : gK) (d : Nat) (G133 : gH) (l0 : Nat) (v134 : Int32) : Option gO := if narrow .int (.int (v134 + (1 : Int32))) = .int (v134 + (1 : Int32)) ∧ fits .int (.int (v134 + (1 : Int32))) = true then wF G133 l0 3 7 (.int (v134 + (1 : Int32))) (t_13_0_115 K d l0) else none
noncomputable def t_13_0_117 (K : gK) (d : Nat) (l0 : Nat) (G133 : gH) : Option gO := rI G133 l0 3 7 (t_13_0_116 K d G133 l0)
noncomputable def t_13_0_118 (K : gK) (d : Nat) (G130 : gH) (a131 : Nat) (l2 : Int32) (l0 : Nat) (v132 : Int32) : Option gO := yI G130 a131 1 v132 (vp_nar .boolean l2) (t_13_0_117 K d l0)
noncomputable def t_13_0_119 (K : gK) (d : Nat) (G130 : gH) (l0 : Nat) (l2 : Int32) (a131 : Nat) : Option gO := rI G130 l0 3 7 (t_13_0_118 K d G130 a131 l2 l0)
noncomputable def t_13_0_120 (K : gK) (d : Nat) (l0 : Nat) (l2 : Int32) (G130 : gH) : Option gO := rR G130 l0 3 9 (t_13_0_119 K d G130 l0 l2)
noncomputable def t_13_0_121 (K : gK) (d : Nat) (G126 : gH) (a128 : Nat) (l1 : Int32) (l0 : Nat) (l2 : Int32) (v129 : Int32) : Option gO := yI G126 a128 2 v129 (vp_nar .char l1) (t_13_0_120 K d l0 l2)
noncomputable def t_13_0_122 (K : gK) (d : Nat) (G126 : gH) (l0 : Nat) (l1 : Int32) (l2 : Int32) (a128 : Nat) : Option gO := rI G126 l0 3 7 (t_13_0_121 K d G126 a128 l1 l0 l2)
noncomputable def t_13_0_123 (K : gK) (d : Nat) (l0 : Nat) (l1 : Int32) (l2 : Int32) (v127 : Int32) (G126 : gH) : Option gO := if v127 = 0 then (rR G126 l0 3 8 (t_13_0_122 K d G126 l0 l1 l2)) else (some (.inl (some (.int (0 : Int32))), G126))
noncomputable def t_13_0_124 (K : gK) (d : Nat) (G : gH) (l0 : Nat) (l1 : Int32) (l2 : Int32) (v114 : Int32) : Option gO := if v114 = (8 : Int32) then (if g_cls G l0 = some 3 then (cI (gCa K d 90 [.ref l0, .int (2 : Int32)] G) (t_13_0_113 K d l0 l1 l2)) else none) else (if g_cls G l0 = some 3 then (cI (gCa K d 90 [.ref l0, .int (0 : Int32)] G) (t_13_0_123 K d l0 l1 l2)) else none)
noncomputable def t_13_0 (K : gK) (d : Nat) (l0 : Nat) (l1 : Int32) (l2 : Int32) (G : gH) : Option gO := if l1 = (110 : Int32) then (if (1 : Int32) = 0 then (if g_cls G l0 = some 3 then (cI (gCa K d 90 [.ref l0, .int (1 : Int32)] G) (t_13_0_10 K d l0 l1 l2)) else none) else (rI G l0 3 7 (t_13_0_31 K d G l0 l1 l2))) else (if l1 = (104 : Int32) then (if (1 : Int32) = 0 then (if g_cls G l0 = some 3 then (cI (gCa K d 90 [.ref l0, .int (1 : Int32)] G) (t_13_0_41 K d l0 l1 l2)) else none) else (rI G l0 3 7 (t_13_0_62 K d G l0 l1 l2))) else (if l1 = (113 : Int32) then (if (1 : Int32) = 0 then (if g_cls G l0 = some 3 then (cI (gCa K d 90 [.ref l0, .int (1 : Int32)] G) (t_13_0_72 K d l0 l1 l2)) else none) else (rI G l0 3 7 (t_13_0_93 K d G l0 l1 l2))) else (if (0 : Int32) = 0 then (if g_cls G l0 = some 3 then (cI (gCa K d 90 [.ref l0, .int (1 : Int32)] G) (t_13_0_103 K d l0 l1 l2)) else none) else (rI G l0 3 7 (t_13_0_124 K d G l0 l1 l2)))))
theorem e_13_0 {K : gK} {d : Nat} {l0 : Nat} {l1 : Int32} {l2 : Int32} {G : gH} : gle (t_13_0 K d l0 l1 l2 G) (gRn K d 13 0 [some (.ref l0), some (.int l1), some (.int l2), none] [] G) := by
  unfold t_13_0
  refine g_iload ((q_13 _).trans rfl) rfl ?_
  refine g_push ((q_13 _).trans rfl) ?_
  refine g_cmpeq ((q_13 _).trans rfl) (fun _ => ?_) (fun _ => ?_)
  · refine g_push ((q_13 _).trans rfl) ?_
    refine g_goto ((q_13 _).trans rfl) ?_
    refine g_istore ((q_13 _).trans rfl) ?_
    refine g_aload ((q_13 _).trans rfl) rfl ?_
    refine g_iload ((q_13 _).trans rfl) rfl ?_
    refine g_ifne ((q_13 _).trans rfl) (fun _ => ?_) (fun _ => ?_)
    · refine g_push ((q_13 _).trans rfl) ?_
      refine g_goto ((q_13 _).trans rfl) ?_
      refine g_callV (kk := 1) ((q_13 _).trans rfl) (gHn m_13) rfl (by exact ⟨Nat.le_of_ble_eq_true rfl, rfl⟩) rfl (fun w G1 => gm_I (fun v2 hw => ?_))
      subst hw
      refine g_ifeq ((q_13 _).trans rfl) (fun _ => ?_) (fun _ => ?_)
      · refine g_aload ((q_13 _).trans rfl) rfl ?_
        refine g_getR ((q_13 _).trans rfl) (fun a3 => ?_)
        refine g_aload ((q_13 _).trans rfl) rfl ?_
        refine g_getI ((q_13 _).trans rfl) (fun v4 => ?_)
        refine g_iload ((q_13 _).trans rfl) rfl ?_
        refine g_cast ((q_13 _).trans rfl) (fun G5 => ?_)
        refine g_aload ((q_13 _).trans rfl) rfl ?_
        refine g_getR ((q_13 _).trans rfl) (fun a6 => ?_)
        refine g_aload ((q_13 _).trans rfl) rfl ?_
        refine g_getI ((q_13 _).trans rfl) (fun v7 => ?_)
        refine g_iload ((q_13 _).trans rfl) rfl ?_
        refine g_zast ((q_13 _).trans rfl) (fun G8 => ?_)
        refine g_aload ((q_13 _).trans rfl) rfl ?_
        refine g_dup_ref ((q_13 _).trans rfl) ?_
        refine g_getI ((q_13 _).trans rfl) (fun v9 => ?_)
        refine g_push ((q_13 _).trans rfl) ?_
        refine g_iadd ((q_13 _).trans rfl) ?_
        refine g_putf ((q_13 _).trans rfl) (fun G10 => ?_)
        refine g_aload ((q_13 _).trans rfl) rfl ?_
        refine g_getI ((q_13 _).trans rfl) (fun v11 => ?_)
        refine g_push ((q_13 _).trans rfl) ?_
        refine g_isub ((q_13 _).trans rfl) ?_
        exact g_iret ((q_13 _).trans rfl)
      · refine g_push ((q_13 _).trans rfl) ?_
        exact g_iret ((q_13 _).trans rfl)
    · refine g_aload ((q_13 _).trans rfl) rfl ?_
      refine g_getI ((q_13 _).trans rfl) (fun v12 => ?_)
      refine g_push ((q_13 _).trans rfl) ?_
      refine g_cmpne ((q_13 _).trans rfl) (fun _ => ?_) (fun _ => ?_)
      · refine g_push ((q_13 _).trans rfl) ?_
        refine g_goto ((q_13 _).trans rfl) ?_
        refine g_callV (kk := 1) ((q_13 _).trans rfl) (gHn m_13) rfl (by exact ⟨Nat.le_of_ble_eq_true rfl, rfl⟩) rfl (fun w G13 => gm_I (fun v14 hw => ?_))
        subst hw
        refine g_ifeq ((q_13 _).trans rfl) (fun _ => ?_) (fun _ => ?_)
        · refine g_aload ((q_13 _).trans rfl) rfl ?_
          refine g_getR ((q_13 _).trans rfl) (fun a15 => ?_)
          refine g_aload ((q_13 _).trans rfl) rfl ?_
          refine g_getI ((q_13 _).trans rfl) (fun v16 => ?_)
          refine g_iload ((q_13 _).trans rfl) rfl ?_
          refine g_cast ((q_13 _).trans rfl) (fun G17 => ?_)
          refine g_aload ((q_13 _).trans rfl) rfl ?_
          refine g_getR ((q_13 _).trans rfl) (fun a18 => ?_)
          refine g_aload ((q_13 _).trans rfl) rfl ?_
          refine g_getI ((q_13 _).trans rfl) (fun v19 => ?_)
          refine g_iload ((q_13 _).trans rfl) rfl ?_
          refine g_zast ((q_13 _).trans rfl) (fun G20 => ?_)
          refine g_aload ((q_13 _).trans rfl) rfl ?_
          refine g_dup_ref ((q_13 _).trans rfl) ?_
          refine g_getI ((q_13 _).trans rfl) (fun v21 => ?_)
          refine g_push ((q_13 _).trans rfl) ?_
          refine g_iadd ((q_13 _).trans rfl) ?_
          refine g_putf ((q_13 _).trans rfl) (fun G22 => ?_)
          refine g_aload ((q_13 _).trans rfl) rfl ?_
          refine g_getI ((q_13 _).trans rfl) (fun v23 => ?_)
          refine g_push ((q_13 _).trans rfl) ?_
          refine g_isub ((q_13 _).trans rfl) ?_
          exact g_iret ((q_13 _).trans rfl)
        · refine g_push ((q_13 _).trans rfl) ?_
          exact g_iret ((q_13 _).trans rfl)
      · refine g_push ((q_13 _).trans rfl) ?_
        refine g_callV (kk := 1) ((q_13 _).trans rfl) (gHn m_13) rfl (by exact ⟨Nat.le_of_ble_eq_true rfl, rfl⟩) rfl (fun w G24 => gm_I (fun v25 hw => ?_))
        subst hw
        refine g_ifeq ((q_13 _).trans rfl) (fun _ => ?_) (fun _ => ?_)
        · refine g_aload ((q_13 _).trans rfl) rfl ?_
          refine g_getR ((q_13 _).trans rfl) (fun a26 => ?_)
          refine g_aload ((q_13 _).trans rfl) rfl ?_
          refine g_getI ((q_13 _).trans rfl) (fun v27 => ?_)
          refine g_iload ((q_13 _).trans rfl) rfl ?_
          refine g_cast ((q_13 _).trans rfl) (fun G28 => ?_)
          refine g_aload ((q_13 _).trans rfl) rfl ?_
          refine g_getR ((q_13 _).trans rfl) (fun a29 => ?_)
          refine g_aload ((q_13 _).trans rfl) rfl ?_
          refine g_getI ((q_13 _).trans rfl) (fun v30 => ?_)
          refine g_iload ((q_13 _).trans rfl) rfl ?_
          refine g_zast ((q_13 _).trans rfl) (fun G31 => ?_)
          refine g_aload ((q_13 _).trans rfl) rfl ?_
          refine g_dup_ref ((q_13 _).trans rfl) ?_
          refine g_getI ((q_13 _).trans rfl) (fun v32 => ?_)
          refine g_push ((q_13 _).trans rfl) ?_
          refine g_iadd ((q_13 _).trans rfl) ?_
          refine g_putf ((q_13 _).trans rfl) (fun G33 => ?_)
          refine g_aload ((q_13 _).trans rfl) rfl ?_
          refine g_getI ((q_13 _).trans rfl) (fun v34 => ?_)
          refine g_push ((q_13 _).trans rfl) ?_
          refine g_isub ((q_13 _).trans rfl) ?_
          exact g_iret ((q_13 _).trans rfl)
        · refine g_push ((q_13 _).trans rfl) ?_
          exact g_iret ((q_13 _).trans rfl)
  · refine g_iload ((q_13 _).trans rfl) rfl ?_
    refine g_push ((q_13 _).trans rfl) ?_
    refine g_cmpeq ((q_13 _).trans rfl) (fun _ => ?_) (fun _ => ?_)
    · refine g_push ((q_13 _).trans rfl) ?_
      refine g_goto ((q_13 _).trans rfl) ?_
      refine g_istore ((q_13 _).trans rfl) ?_
      refine g_aload ((q_13 _).trans rfl) rfl ?_
      refine g_iload ((q_13 _).trans rfl) rfl ?_
      refine g_ifne ((q_13 _).trans rfl) (fun _ => ?_) (fun _ => ?_)
      · refine g_push ((q_13 _).trans rfl) ?_
        refine g_goto ((q_13 _).trans rfl) ?_
        refine g_callV (kk := 1) ((q_13 _).trans rfl) (gHn m_13) rfl (by exact ⟨Nat.le_of_ble_eq_true rfl, rfl⟩) rfl (fun w G35 => gm_I (fun v36 hw => ?_))
        subst hw
        refine g_ifeq ((q_13 _).trans rfl) (fun _ => ?_) (fun _ => ?_)
        · refine g_aload ((q_13 _).trans rfl) rfl ?_
          refine g_getR ((q_13 _).trans rfl) (fun a37 => ?_)
          refine g_aload ((q_13 _).trans rfl) rfl ?_
          refine g_getI ((q_13 _).trans rfl) (fun v38 => ?_)
          refine g_iload ((q_13 _).trans rfl) rfl ?_
          refine g_cast ((q_13 _).trans rfl) (fun G39 => ?_)
          refine g_aload ((q_13 _).trans rfl) rfl ?_
          refine g_getR ((q_13 _).trans rfl) (fun a40 => ?_)
          refine g_aload ((q_13 _).trans rfl) rfl ?_
          refine g_getI ((q_13 _).trans rfl) (fun v41 => ?_)
          refine g_iload ((q_13 _).trans rfl) rfl ?_
          refine g_zast ((q_13 _).trans rfl) (fun G42 => ?_)
          refine g_aload ((q_13 _).trans rfl) rfl ?_
          refine g_dup_ref ((q_13 _).trans rfl) ?_
          refine g_getI ((q_13 _).trans rfl) (fun v43 => ?_)
          refine g_push ((q_13 _).trans rfl) ?_
          refine g_iadd ((q_13 _).trans rfl) ?_
          refine g_putf ((q_13 _).trans rfl) (fun G44 => ?_)
          refine g_aload ((q_13 _).trans rfl) rfl ?_
          refine g_getI ((q_13 _).trans rfl) (fun v45 => ?_)
          refine g_push ((q_13 _).trans rfl) ?_
          refine g_isub ((q_13 _).trans rfl) ?_
          exact g_iret ((q_13 _).trans rfl)
        · refine g_push ((q_13 _).trans rfl) ?_
          exact g_iret ((q_13 _).trans rfl)
      · refine g_aload ((q_13 _).trans rfl) rfl ?_
        refine g_getI ((q_13 _).trans rfl) (fun v46 => ?_)
        refine g_push ((q_13 _).trans rfl) ?_
        refine g_cmpne ((q_13 _).trans rfl) (fun _ => ?_) (fun _ => ?_)
        · refine g_push ((q_13 _).trans rfl) ?_
          refine g_goto ((q_13 _).trans rfl) ?_
          refine g_callV (kk := 1) ((q_13 _).trans rfl) (gHn m_13) rfl (by exact ⟨Nat.le_of_ble_eq_true rfl, rfl⟩) rfl (fun w G47 => gm_I (fun v48 hw => ?_))
          subst hw
          refine g_ifeq ((q_13 _).trans rfl) (fun _ => ?_) (fun _ => ?_)
          · refine g_aload ((q_13 _).trans rfl) rfl ?_
            refine g_getR ((q_13 _).trans rfl) (fun a49 => ?_)
            refine g_aload ((q_13 _).trans rfl) rfl ?_
            refine g_getI ((q_13 _).trans rfl) (fun v50 => ?_)
            refine g_iload ((q_13 _).trans rfl) rfl ?_
            refine g_cast ((q_13 _).trans rfl) (fun G51 => ?_)
            refine g_aload ((q_13 _).trans rfl) rfl ?_
            refine g_getR ((q_13 _).trans rfl) (fun a52 => ?_)
            refine g_aload ((q_13 _).trans rfl) rfl ?_
            refine g_getI ((q_13 _).trans rfl) (fun v53 => ?_)
            refine g_iload ((q_13 _).trans rfl) rfl ?_
            refine g_zast ((q_13 _).trans rfl) (fun G54 => ?_)
            refine g_aload ((q_13 _).trans rfl) rfl ?_
            refine g_dup_ref ((q_13 _).trans rfl) ?_
            refine g_getI ((q_13 _).trans rfl) (fun v55 => ?_)
            refine g_push ((q_13 _).trans rfl) ?_
            refine g_iadd ((q_13 _).trans rfl) ?_
            refine g_putf ((q_13 _).trans rfl) (fun G56 => ?_)
            refine g_aload ((q_13 _).trans rfl) rfl ?_
            refine g_getI ((q_13 _).trans rfl) (fun v57 => ?_)
            refine g_push ((q_13 _).trans rfl) ?_
            refine g_isub ((q_13 _).trans rfl) ?_
            exact g_iret ((q_13 _).trans rfl)
          · refine g_push ((q_13 _).trans rfl) ?_
            exact g_iret ((q_13 _).trans rfl)
        · refine g_push ((q_13 _).trans rfl) ?_
          refine g_callV (kk := 1) ((q_13 _).trans rfl) (gHn m_13) rfl (by exact ⟨Nat.le_of_ble_eq_true rfl, rfl⟩) rfl (fun w G58 => gm_I (fun v59 hw => ?_))
          subst hw
          refine g_ifeq ((q_13 _).trans rfl) (fun _ => ?_) (fun _ => ?_)
          · refine g_aload ((q_13 _).trans rfl) rfl ?_
            refine g_getR ((q_13 _).trans rfl) (fun a60 => ?_)
            refine g_aload ((q_13 _).trans rfl) rfl ?_
            refine g_getI ((q_13 _).trans rfl) (fun v61 => ?_)
            refine g_iload ((q_13 _).trans rfl) rfl ?_
            refine g_cast ((q_13 _).trans rfl) (fun G62 => ?_)
            refine g_aload ((q_13 _).trans rfl) rfl ?_
            refine g_getR ((q_13 _).trans rfl) (fun a63 => ?_)
            refine g_aload ((q_13 _).trans rfl) rfl ?_
            refine g_getI ((q_13 _).trans rfl) (fun v64 => ?_)
            refine g_iload ((q_13 _).trans rfl) rfl ?_
            refine g_zast ((q_13 _).trans rfl) (fun G65 => ?_)
            refine g_aload ((q_13 _).trans rfl) rfl ?_
            refine g_dup_ref ((q_13 _).trans rfl) ?_
            refine g_getI ((q_13 _).trans rfl) (fun v66 => ?_)
            refine g_push ((q_13 _).trans rfl) ?_
            refine g_iadd ((q_13 _).trans rfl) ?_
            refine g_putf ((q_13 _).trans rfl) (fun G67 => ?_)
            refine g_aload ((q_13 _).trans rfl) rfl ?_
            refine g_getI ((q_13 _).trans rfl) (fun v68 => ?_)
            refine g_push ((q_13 _).trans rfl) ?_
            refine g_isub ((q_13 _).trans rfl) ?_
            exact g_iret ((q_13 _).trans rfl)
          · refine g_push ((q_13 _).trans rfl) ?_
            exact g_iret ((q_13 _).trans rfl)
    · refine g_iload ((q_13 _).trans rfl) rfl ?_
      refine g_push ((q_13 _).trans rfl) ?_
      refine g_cmpne ((q_13 _).trans rfl) (fun _ => ?_) (fun _ => ?_)
      · refine g_push ((q_13 _).trans rfl) ?_
        refine g_goto ((q_13 _).trans rfl) ?_
        refine g_istore ((q_13 _).trans rfl) ?_
        refine g_aload ((q_13 _).trans rfl) rfl ?_
        refine g_iload ((q_13 _).trans rfl) rfl ?_
        refine g_ifne ((q_13 _).trans rfl) (fun _ => ?_) (fun _ => ?_)
        · refine g_push ((q_13 _).trans rfl) ?_
          refine g_goto ((q_13 _).trans rfl) ?_
          refine g_callV (kk := 1) ((q_13 _).trans rfl) (gHn m_13) rfl (by exact ⟨Nat.le_of_ble_eq_true rfl, rfl⟩) rfl (fun w G69 => gm_I (fun v70 hw => ?_))
          subst hw
          refine g_ifeq ((q_13 _).trans rfl) (fun _ => ?_) (fun _ => ?_)
          · refine g_aload ((q_13 _).trans rfl) rfl ?_
            refine g_getR ((q_13 _).trans rfl) (fun a71 => ?_)
            refine g_aload ((q_13 _).trans rfl) rfl ?_
            refine g_getI ((q_13 _).trans rfl) (fun v72 => ?_)
            refine g_iload ((q_13 _).trans rfl) rfl ?_
            refine g_cast ((q_13 _).trans rfl) (fun G73 => ?_)
            refine g_aload ((q_13 _).trans rfl) rfl ?_
            refine g_getR ((q_13 _).trans rfl) (fun a74 => ?_)
            refine g_aload ((q_13 _).trans rfl) rfl ?_
            refine g_getI ((q_13 _).trans rfl) (fun v75 => ?_)
            refine g_iload ((q_13 _).trans rfl) rfl ?_
            refine g_zast ((q_13 _).trans rfl) (fun G76 => ?_)
            refine g_aload ((q_13 _).trans rfl) rfl ?_
            refine g_dup_ref ((q_13 _).trans rfl) ?_
            refine g_getI ((q_13 _).trans rfl) (fun v77 => ?_)
            refine g_push ((q_13 _).trans rfl) ?_
            refine g_iadd ((q_13 _).trans rfl) ?_
            refine g_putf ((q_13 _).trans rfl) (fun G78 => ?_)
            refine g_aload ((q_13 _).trans rfl) rfl ?_
            refine g_getI ((q_13 _).trans rfl) (fun v79 => ?_)
            refine g_push ((q_13 _).trans rfl) ?_
            refine g_isub ((q_13 _).trans rfl) ?_
            exact g_iret ((q_13 _).trans rfl)
          · refine g_push ((q_13 _).trans rfl) ?_
            exact g_iret ((q_13 _).trans rfl)
        · refine g_aload ((q_13 _).trans rfl) rfl ?_
          refine g_getI ((q_13 _).trans rfl) (fun v80 => ?_)
          refine g_push ((q_13 _).trans rfl) ?_
          refine g_cmpne ((q_13 _).trans rfl) (fun _ => ?_) (fun _ => ?_)
          · refine g_push ((q_13 _).trans rfl) ?_
            refine g_goto ((q_13 _).trans rfl) ?_
            refine g_callV (kk := 1) ((q_13 _).trans rfl) (gHn m_13) rfl (by exact ⟨Nat.le_of_ble_eq_true rfl, rfl⟩) rfl (fun w G81 => gm_I (fun v82 hw => ?_))
            subst hw
            refine g_ifeq ((q_13 _).trans rfl) (fun _ => ?_) (fun _ => ?_)
            · refine g_aload ((q_13 _).trans rfl) rfl ?_
              refine g_getR ((q_13 _).trans rfl) (fun a83 => ?_)
              refine g_aload ((q_13 _).trans rfl) rfl ?_
              refine g_getI ((q_13 _).trans rfl) (fun v84 => ?_)
              refine g_iload ((q_13 _).trans rfl) rfl ?_
              refine g_cast ((q_13 _).trans rfl) (fun G85 => ?_)
              refine g_aload ((q_13 _).trans rfl) rfl ?_
              refine g_getR ((q_13 _).trans rfl) (fun a86 => ?_)
              refine g_aload ((q_13 _).trans rfl) rfl ?_
              refine g_getI ((q_13 _).trans rfl) (fun v87 => ?_)
              refine g_iload ((q_13 _).trans rfl) rfl ?_
              refine g_zast ((q_13 _).trans rfl) (fun G88 => ?_)
              refine g_aload ((q_13 _).trans rfl) rfl ?_
              refine g_dup_ref ((q_13 _).trans rfl) ?_
              refine g_getI ((q_13 _).trans rfl) (fun v89 => ?_)
              refine g_push ((q_13 _).trans rfl) ?_
              refine g_iadd ((q_13 _).trans rfl) ?_
              refine g_putf ((q_13 _).trans rfl) (fun G90 => ?_)
              refine g_aload ((q_13 _).trans rfl) rfl ?_
              refine g_getI ((q_13 _).trans rfl) (fun v91 => ?_)
              refine g_push ((q_13 _).trans rfl) ?_
              refine g_isub ((q_13 _).trans rfl) ?_
              exact g_iret ((q_13 _).trans rfl)
            · refine g_push ((q_13 _).trans rfl) ?_
              exact g_iret ((q_13 _).trans rfl)
          · refine g_push ((q_13 _).trans rfl) ?_
            refine g_callV (kk := 1) ((q_13 _).trans rfl) (gHn m_13) rfl (by exact ⟨Nat.le_of_ble_eq_true rfl, rfl⟩) rfl (fun w G92 => gm_I (fun v93 hw => ?_))
            subst hw
            refine g_ifeq ((q_13 _).trans rfl) (fun _ => ?_) (fun _ => ?_)
            · refine g_aload ((q_13 _).trans rfl) rfl ?_
              refine g_getR ((q_13 _).trans rfl) (fun a94 => ?_)
              refine g_aload ((q_13 _).trans rfl) rfl ?_
              refine g_getI ((q_13 _).trans rfl) (fun v95 => ?_)
              refine g_iload ((q_13 _).trans rfl) rfl ?_
              refine g_cast ((q_13 _).trans rfl) (fun G96 => ?_)
              refine g_aload ((q_13 _).trans rfl) rfl ?_
              refine g_getR ((q_13 _).trans rfl) (fun a97 => ?_)
              refine g_aload ((q_13 _).trans rfl) rfl ?_
              refine g_getI ((q_13 _).trans rfl) (fun v98 => ?_)
              refine g_iload ((q_13 _).trans rfl) rfl ?_
              refine g_zast ((q_13 _).trans rfl) (fun G99 => ?_)
              refine g_aload ((q_13 _).trans rfl) rfl ?_
              refine g_dup_ref ((q_13 _).trans rfl) ?_
              refine g_getI ((q_13 _).trans rfl) (fun v100 => ?_)
              refine g_push ((q_13 _).trans rfl) ?_
              refine g_iadd ((q_13 _).trans rfl) ?_
              refine g_putf ((q_13 _).trans rfl) (fun G101 => ?_)
              refine g_aload ((q_13 _).trans rfl) rfl ?_
              refine g_getI ((q_13 _).trans rfl) (fun v102 => ?_)
              refine g_push ((q_13 _).trans rfl) ?_
              refine g_isub ((q_13 _).trans rfl) ?_
              exact g_iret ((q_13 _).trans rfl)
            · refine g_push ((q_13 _).trans rfl) ?_
              exact g_iret ((q_13 _).trans rfl)
      · refine g_push ((q_13 _).trans rfl) ?_
        refine g_istore ((q_13 _).trans rfl) ?_
        refine g_aload ((q_13 _).trans rfl) rfl ?_
        refine g_iload ((q_13 _).trans rfl) rfl ?_
        refine g_ifne ((q_13 _).trans rfl) (fun _ => ?_) (fun _ => ?_)
        · refine g_push ((q_13 _).trans rfl) ?_
          refine g_goto ((q_13 _).trans rfl) ?_
          refine g_callV (kk := 1) ((q_13 _).trans rfl) (gHn m_13) rfl (by exact ⟨Nat.le_of_ble_eq_true rfl, rfl⟩) rfl (fun w G103 => gm_I (fun v104 hw => ?_))
          subst hw
          refine g_ifeq ((q_13 _).trans rfl) (fun _ => ?_) (fun _ => ?_)
          · refine g_aload ((q_13 _).trans rfl) rfl ?_
            refine g_getR ((q_13 _).trans rfl) (fun a105 => ?_)
            refine g_aload ((q_13 _).trans rfl) rfl ?_
            refine g_getI ((q_13 _).trans rfl) (fun v106 => ?_)
            refine g_iload ((q_13 _).trans rfl) rfl ?_
            refine g_cast ((q_13 _).trans rfl) (fun G107 => ?_)
            refine g_aload ((q_13 _).trans rfl) rfl ?_
            refine g_getR ((q_13 _).trans rfl) (fun a108 => ?_)
            refine g_aload ((q_13 _).trans rfl) rfl ?_
            refine g_getI ((q_13 _).trans rfl) (fun v109 => ?_)
            refine g_iload ((q_13 _).trans rfl) rfl ?_
            refine g_zast ((q_13 _).trans rfl) (fun G110 => ?_)
            refine g_aload ((q_13 _).trans rfl) rfl ?_
            refine g_dup_ref ((q_13 _).trans rfl) ?_
            refine g_getI ((q_13 _).trans rfl) (fun v111 => ?_)
            refine g_push ((q_13 _).trans rfl) ?_
            refine g_iadd ((q_13 _).trans rfl) ?_
            refine g_putf ((q_13 _).trans rfl) (fun G112 => ?_)
            refine g_aload ((q_13 _).trans rfl) rfl ?_
            refine g_getI ((q_13 _).trans rfl) (fun v113 => ?_)
            refine g_push ((q_13 _).trans rfl) ?_
            refine g_isub ((q_13 _).trans rfl) ?_
            exact g_iret ((q_13 _).trans rfl)
          · refine g_push ((q_13 _).trans rfl) ?_
            exact g_iret ((q_13 _).trans rfl)
        · refine g_aload ((q_13 _).trans rfl) rfl ?_
          refine g_getI ((q_13 _).trans rfl) (fun v114 => ?_)
          refine g_push ((q_13 _).trans rfl) ?_
          refine g_cmpne ((q_13 _).trans rfl) (fun _ => ?_) (fun _ => ?_)
          · refine g_push ((q_13 _).trans rfl) ?_
            refine g_goto ((q_13 _).trans rfl) ?_
            refine g_callV (kk := 1) ((q_13 _).trans rfl) (gHn m_13) rfl (by exact ⟨Nat.le_of_ble_eq_true rfl, rfl⟩) rfl (fun w G115 => gm_I (fun v116 hw => ?_))
            subst hw
            refine g_ifeq ((q_13 _).trans rfl) (fun _ => ?_) (fun _ => ?_)
            · refine g_aload ((q_13 _).trans rfl) rfl ?_
              refine g_getR ((q_13 _).trans rfl) (fun a117 => ?_)
              refine g_aload ((q_13 _).trans rfl) rfl ?_
              refine g_getI ((q_13 _).trans rfl) (fun v118 => ?_)
              refine g_iload ((q_13 _).trans rfl) rfl ?_
              refine g_cast ((q_13 _).trans rfl) (fun G119 => ?_)
              refine g_aload ((q_13 _).trans rfl) rfl ?_
              refine g_getR ((q_13 _).trans rfl) (fun a120 => ?_)
              refine g_aload ((q_13 _).trans rfl) rfl ?_
              refine g_getI ((q_13 _).trans rfl) (fun v121 => ?_)
              refine g_iload ((q_13 _).trans rfl) rfl ?_
              refine g_zast ((q_13 _).trans rfl) (fun G122 => ?_)
              refine g_aload ((q_13 _).trans rfl) rfl ?_
              refine g_dup_ref ((q_13 _).trans rfl) ?_
              refine g_getI ((q_13 _).trans rfl) (fun v123 => ?_)
              refine g_push ((q_13 _).trans rfl) ?_
              refine g_iadd ((q_13 _).trans rfl) ?_
              refine g_putf ((q_13 _).trans rfl) (fun G124 => ?_)
              refine g_aload ((q_13 _).trans rfl) rfl ?_
              refine g_getI ((q_13 _).trans rfl) (fun v125 => ?_)
              refine g_push ((q_13 _).trans rfl) ?_
              refine g_isub ((q_13 _).trans rfl) ?_
              exact g_iret ((q_13 _).trans rfl)
            · refine g_push ((q_13 _).trans rfl) ?_
              exact g_iret ((q_13 _).trans rfl)
          · refine g_push ((q_13 _).trans rfl) ?_
            refine g_callV (kk := 1) ((q_13 _).trans rfl) (gHn m_13) rfl (by exact ⟨Nat.le_of_ble_eq_true rfl, rfl⟩) rfl (fun w G126 => gm_I (fun v127 hw => ?_))
            subst hw
            refine g_ifeq ((q_13 _).trans rfl) (fun _ => ?_) (fun _ => ?_)
            · refine g_aload ((q_13 _).trans rfl) rfl ?_
              refine g_getR ((q_13 _).trans rfl) (fun a128 => ?_)
              refine g_aload ((q_13 _).trans rfl) rfl ?_
              refine g_getI ((q_13 _).trans rfl) (fun v129 => ?_)
              refine g_iload ((q_13 _).trans rfl) rfl ?_
              refine g_cast ((q_13 _).trans rfl) (fun G130 => ?_)
              refine g_aload ((q_13 _).trans rfl) rfl ?_
              refine g_getR ((q_13 _).trans rfl) (fun a131 => ?_)
              refine g_aload ((q_13 _).trans rfl) rfl ?_
              refine g_getI ((q_13 _).trans rfl) (fun v132 => ?_)
              refine g_iload ((q_13 _).trans rfl) rfl ?_
              refine g_zast ((q_13 _).trans rfl) (fun G133 => ?_)
              refine g_aload ((q_13 _).trans rfl) rfl ?_
              refine g_dup_ref ((q_13 _).trans rfl) ?_
              refine g_getI ((q_13 _).trans rfl) (fun v134 => ?_)
              refine g_push ((q_13 _).trans rfl) ?_
              refine g_iadd ((q_13 _).trans rfl) ?_
              refine g_putf ((q_13 _).trans rfl) (fun G135 => ?_)
              refine g_aload ((q_13 _).trans rfl) rfl ?_
              refine g_getI ((q_13 _).trans rfl) (fun v136 => ?_)
              refine g_push ((q_13 _).trans rfl) ?_
              refine g_isub ((q_13 _).trans rfl) ?_
              exact g_iret ((q_13 _).trans rfl)
            · refine g_push ((q_13 _).trans rfl) ?_
              exact g_iret ((q_13 _).trans rfl)
theorem c_13 {K : gK} {d : Nat} {l0 : Nat} {l1 : Int32} {l2 : Int32} {G : gH} : gle (t_13_0 K d l0 l1 l2 G) (gCa K (d + 1) 13 [.ref l0, .int l1, .int l2] G) := by
  have h : gent (gMx 13) [.ref l0, .int l1, .int l2] = [some (.ref l0), some (.int l1), some (.int l2), none] := by
    show gent (gT 13).2.2.2.1 _ = _
    rw [m_13]; rfl
  exact fun r e => (congrArg (fun q => gRn K d 13 0 q [] G) h).trans (e_13_0 r e)
theorem q_15 {K : gK} (pc : Nat) : gP K 15 pc = ((gL_15 K).lookup pc).getD o_none := rfl
noncomputable def t_15_0_1 (K : gK) (d : Nat) (G11 : gH) (v13 : Int32) : Option gO := some (.inl (some (.int v13)), G11)
noncomputable def t_15_0_2 (K : gK) (d : Nat) (G11 : gH) (l1 : Int32) (a12 : Nat) : Option gO := xI G11 a12 0 l1 (t_15_0_1 K d G11)
noncomputable def t_15_0_3 (K : gK) (d : Nat) (l0 : Nat) (l1 : Int32) (G11 : gH) : Option gO := rR G11 l0 3 11 (t_15_0_2 K d G11 l1)
noncomputable def t_15_0_4 (K : gK) (d : Nat) (G8 : gH) (a9 : Nat) (l1 : Int32) (l0 : Nat) (v10 : Int32) : Option gO := yI G8 a9 0 l1 (v10 + (1 : Int32)) (t_15_0_3 K d l0 l1)
noncomputable def t_15_0_5 (K : gK) (d : Nat) (G8 : gH) (l1 : Int32) (l0 : Nat) (a9 : Nat) : Option gO := xI G8 a9 0 l1 (t_15_0_4 K d G8 a9 l1 l0)
noncomputable def t_15_0_6 (K : gK) (d : Nat) (l0 : Nat) (l1 : Int32) (G8 : gH) : Option gO := rR G8 l0 3 11 (t_15_0_5 K d G8 l1 l0)
noncomputable def t_15_0_7 (K : gK) (d : Nat) (G5 : gH) (l1 : Int32) (l2 : Int32) (l3 : Int32) (l0 : Nat) (a7 : Nat) : Option gO := yI G5 a7 1 ((((25 : Int32) * l1) + ((5 : Int32) * l2)) + l3) (vp_nar .boolean (1 : Int32)) (t_15_0_6 K d l0 l1)
noncomputable def t_15_0_8 (K : gK) (d : Nat) (l0 : Nat) (l1 : Int32) (l2 : Int32) (l3 : Int32) (v6 : Int32) (G5 : gH) : Option gO := if v6 = 0 then (rR G5 l0 3 10 (t_15_0_7 K d G5 l1 l2 l3 l0)) else (some (.inl (some (.int (0 : Int32))), G5))
noncomputable def t_15_0_9 (K : gK) (d : Nat) (G20 : gH) (v22 : Int32) : Option gO := some (.inl (some (.int v22)), G20)
noncomputable def t_15_0_10 (K : gK) (d : Nat) (G20 : gH) (l1 : Int32) (a21 : Nat) : Option gO := xI G20 a21 0 l1 (t_15_0_9 K d G20)
noncomputable def t_15_0_11 (K : gK) (d : Nat) (l0 : Nat) (l1 : Int32) (G20 : gH) : Option gO := rR G20 l0 3 11 (t_15_0_10 K d G20 l1)
noncomputable def t_15_0_12 (K : gK) (d : Nat) (G17 : gH) (a18 : Nat) (l1 : Int32) (l0 : Nat) (v19 : Int32) : Option gO := yI G17 a18 0 l1 (v19 + (1 : Int32)) (t_15_0_11 K d l0 l1)
noncomputable def t_15_0_13 (K : gK) (d : Nat) (G17 : gH) (l1 : Int32) (l0 : Nat) (a18 : Nat) : Option gO := xI G17 a18 0 l1 (t_15_0_12 K d G17 a18 l1 l0)
noncomputable def t_15_0_14 (K : gK) (d : Nat) (l0 : Nat) (l1 : Int32) (G17 : gH) : Option gO := rR G17 l0 3 11 (t_15_0_13 K d G17 l1 l0)
noncomputable def t_15_0_15 (K : gK) (d : Nat) (G14 : gH) (l1 : Int32) (l2 : Int32) (l3 : Int32) (l0 : Nat) (a16 : Nat) : Option gO := yI G14 a16 1 ((((25 : Int32) * l1) + ((5 : Int32) * l2)) + l3) (vp_nar .boolean (1 : Int32)) (t_15_0_14 K d l0 l1)
noncomputable def t_15_0_16 (K : gK) (d : Nat) (l0 : Nat) (l1 : Int32) (l2 : Int32) (l3 : Int32) (v15 : Int32) (G14 : gH) : Option gO := if v15 = 0 then (rR G14 l0 3 10 (t_15_0_15 K d G14 l1 l2 l3 l0)) else (some (.inl (some (.int (0 : Int32))), G14))
noncomputable def t_15_0_17 (K : gK) (d : Nat) (G35 : gH) (v37 : Int32) : Option gO := some (.inl (some (.int v37)), G35)
noncomputable def t_15_0_18 (K : gK) (d : Nat) (G35 : gH) (l1 : Int32) (a36 : Nat) : Option gO := xI G35 a36 0 l1 (t_15_0_17 K d G35)
noncomputable def t_15_0_19 (K : gK) (d : Nat) (l0 : Nat) (l1 : Int32) (G35 : gH) : Option gO := rR G35 l0 3 11 (t_15_0_18 K d G35 l1)
noncomputable def t_15_0_20 (K : gK) (d : Nat) (G32 : gH) (a33 : Nat) (l1 : Int32) (l0 : Nat) (v34 : Int32) : Option gO := yI G32 a33 0 l1 (v34 + (1 : Int32)) (t_15_0_19 K d l0 l1)
noncomputable def t_15_0_21 (K : gK) (d : Nat) (G32 : gH) (l1 : Int32) (l0 : Nat) (a33 : Nat) : Option gO := xI G32 a33 0 l1 (t_15_0_20 K d G32 a33 l1 l0)
noncomputable def t_15_0_22 (K : gK) (d : Nat) (l0 : Nat) (l1 : Int32) (G32 : gH) : Option gO := rR G32 l0 3 11 (t_15_0_21 K d G32 l1 l0)
noncomputable def t_15_0_23 (K : gK) (d : Nat) (G29 : gH) (l1 : Int32) (l2 : Int32) (l3 : Int32) (l0 : Nat) (a31 : Nat) : Option gO := yI G29 a31 1 ((((25 : Int32) * l1) + ((5 : Int32) * l2)) + l3) (vp_nar .boolean (1 : Int32)) (t_15_0_22 K d l0 l1)
noncomputable def t_15_0_24 (K : gK) (d : Nat) (l0 : Nat) (l1 : Int32) (l2 : Int32) (l3 : Int32) (v30 : Int32) (G29 : gH) : Option gO := if v30 = 0 then (rR G29 l0 3 10 (t_15_0_23 K d G29 l1 l2 l3 l0)) else (some (.inl (some (.int (0 : Int32))), G29))
noncomputable def t_15_0_25 (K : gK) (d : Nat) (G44 : gH) (v46 : Int32) : Option gO := some (.inl (some (.int v46)), G44)
noncomputable def t_15_0_26 (K : gK) (d : Nat) (G44 : gH) (l1 : Int32) (a45 : Nat) : Option gO := xI G44 a45 0 l1 (t_15_0_25 K d G44)
noncomputable def t_15_0_27 (K : gK) (d : Nat) (l0 : Nat) (l1 : Int32) (G44 : gH) : Option gO := rR G44 l0 3 11 (t_15_0_26 K d G44 l1)
noncomputable def t_15_0_28 (K : gK) (d : Nat) (G41 : gH) (a42 : Nat) (l1 : Int32) (l0 : Nat) (v43 : Int32) : Option gO := yI G41 a42 0 l1 (v43 + (1 : Int32)) (t_15_0_27 K d l0 l1)
noncomputable def t_15_0_29 (K : gK) (d : Nat) (G41 : gH) (l1 : Int32) (l0 : Nat) (a42 : Nat) : Option gO := xI G41 a42 0 l1 (t_15_0_28 K d G41 a42 l1 l0)
noncomputable def t_15_0_30 (K : gK) (d : Nat) (l0 : Nat) (l1 : Int32) (G41 : gH) : Option gO := rR G41 l0 3 11 (t_15_0_29 K d G41 l1 l0)
noncomputable def t_15_0_31 (K : gK) (d : Nat) (G38 : gH) (l1 : Int32) (l2 : Int32) (l3 : Int32) (l0 : Nat) (a40 : Nat) : Option gO := yI G38 a40 1 ((((25 : Int32) * l1) + ((5 : Int32) * l2)) + l3) (vp_nar .boolean (1 : Int32)) (t_15_0_30 K d l0 l1)
noncomputable def t_15_0_32 (K : gK) (d : Nat) (l0 : Nat) (l1 : Int32) (l2 : Int32) (l3 : Int32) (v39 : Int32) (G38 : gH) : Option gO := if v39 = 0 then (rR G38 l0 3 10 (t_15_0_31 K d G38 l1 l2 l3 l0)) else (some (.inl (some (.int (0 : Int32))), G38))
noncomputable def t_15_0_33 (K : gK) (d : Nat) (G25 : gH) (l0 : Nat) (l1 : Int32) (l2 : Int32) (l3 : Int32) (v28 : Int32) : Option gO := if v28 = 0 then (if g_cls G25 l0 = some 3 then (cI (gCa K d 90 [.ref l0, .int (0 : Int32)] G25) (t_15_0_24 K d l0 l1 l2 l3)) else none) else (if g_cls G25 l0 = some 3 then (cI (gCa K d 90 [.ref l0, .int (4 : Int32)] G25) (t_15_0_32 K d l0 l1 l2 l3)) else none)
noncomputable def t_15_0_34 (K : gK) (d : Nat) (G25 : gH) (l1 : Int32) (l0 : Nat) (l2 : Int32) (l3 : Int32) (a27 : Nat) : Option gO := xI G25 a27 1 l1 (t_15_0_33 K d G25 l0 l1 l2 l3)
noncomputable def t_15_0_35 (K : gK) (d : Nat) (G53 : gH) (v55 : Int32) : Option gO := some (.inl (some (.int v55)), G53)
noncomputable def t_15_0_36 (K : gK) (d : Nat) (G53 : gH) (l1 : Int32) (a54 : Nat) : Option gO := xI G53 a54 0 l1 (t_15_0_35 K d G53)
noncomputable def t_15_0_37 (K : gK) (d : Nat) (l0 : Nat) (l1 : Int32) (G53 : gH) : Option gO := rR G53 l0 3 11 (t_15_0_36 K d G53 l1)
noncomputable def t_15_0_38 (K : gK) (d : Nat) (G50 : gH) (a51 : Nat) (l1 : Int32) (l0 : Nat) (v52 : Int32) : Option gO := yI G50 a51 0 l1 (v52 + (1 : Int32)) (t_15_0_37 K d l0 l1)
noncomputable def t_15_0_39 (K : gK) (d : Nat) (G50 : gH) (l1 : Int32) (l0 : Nat) (a51 : Nat) : Option gO := xI G50 a51 0 l1 (t_15_0_38 K d G50 a51 l1 l0)
noncomputable def t_15_0_40 (K : gK) (d : Nat) (l0 : Nat) (l1 : Int32) (G50 : gH) : Option gO := rR G50 l0 3 11 (t_15_0_39 K d G50 l1 l0)
noncomputable def t_15_0_41 (K : gK) (d : Nat) (G47 : gH) (l1 : Int32) (l2 : Int32) (l3 : Int32) (l0 : Nat) (a49 : Nat) : Option gO := yI G47 a49 1 ((((25 : Int32) * l1) + ((5 : Int32) * l2)) + l3) (vp_nar .boolean (1 : Int32)) (t_15_0_40 K d l0 l1)
noncomputable def t_15_0_42 (K : gK) (d : Nat) (l0 : Nat) (l1 : Int32) (l2 : Int32) (l3 : Int32) (v48 : Int32) (G47 : gH) : Option gO := if v48 = 0 then (rR G47 l0 3 10 (t_15_0_41 K d G47 l1 l2 l3 l0)) else (some (.inl (some (.int (0 : Int32))), G47))
noncomputable def t_15_0_43 (K : gK) (d : Nat) (l0 : Nat) (l1 : Int32) (l2 : Int32) (l3 : Int32) (v26 : Int32) (G25 : gH) : Option gO := if v26 = 0 then (rR G25 l0 3 15 (t_15_0_34 K d G25 l1 l0 l2 l3)) else (if g_cls G25 l0 = some 3 then (cI (gCa K d 90 [.ref l0, .int (4 : Int32)] G25) (t_15_0_42 K d l0 l1 l2 l3)) else none)
noncomputable def t_15_0_44 (K : gK) (d : Nat) (G62 : gH) (v64 : Int32) : Option gO := some (.inl (some (.int v64)), G62)
noncomputable def t_15_0_45 (K : gK) (d : Nat) (G62 : gH) (l1 : Int32) (a63 : Nat) : Option gO := xI G62 a63 0 l1 (t_15_0_44 K d G62)
noncomputable def t_15_0_46 (K : gK) (d : Nat) (l0 : Nat) (l1 : Int32) (G62 : gH) : Option gO := rR G62 l0 3 11 (t_15_0_45 K d G62 l1)
noncomputable def t_15_0_47 (K : gK) (d : Nat) (G59 : gH) (a60 : Nat) (l1 : Int32) (l0 : Nat) (v61 : Int32) : Option gO := yI G59 a60 0 l1 (v61 + (1 : Int32)) (t_15_0_46 K d l0 l1)
noncomputable def t_15_0_48 (K : gK) (d : Nat) (G59 : gH) (l1 : Int32) (l0 : Nat) (a60 : Nat) : Option gO := xI G59 a60 0 l1 (t_15_0_47 K d G59 a60 l1 l0)
noncomputable def t_15_0_49 (K : gK) (d : Nat) (l0 : Nat) (l1 : Int32) (G59 : gH) : Option gO := rR G59 l0 3 11 (t_15_0_48 K d G59 l1 l0)
noncomputable def t_15_0_50 (K : gK) (d : Nat) (G56 : gH) (l1 : Int32) (l2 : Int32) (l3 : Int32) (l0 : Nat) (a58 : Nat) : Option gO := yI G56 a58 1 ((((25 : Int32) * l1) + ((5 : Int32) * l2)) + l3) (vp_nar .boolean (1 : Int32)) (t_15_0_49 K d l0 l1)
noncomputable def t_15_0_51 (K : gK) (d : Nat) (l0 : Nat) (l1 : Int32) (l2 : Int32) (l3 : Int32) (v57 : Int32) (G56 : gH) : Option gO := if v57 = 0 then (rR G56 l0 3 10 (t_15_0_50 K d G56 l1 l2 l3 l0)) else (some (.inl (some (.int (0 : Int32))), G56))
noncomputable def t_15_0_52 (K : gK) (d : Nat) (G3 : gH) (l0 : Nat) (l1 : Int32) (l2 : Int32) (l3 : Int32) (v24 : Int32) : Option gO := if v24 = 0 then (if g_cls G3 l0 = some 3 then (cI (gCa K d 97 [.ref l0, .int l1] G3) (t_15_0_43 K d l0 l1 l2 l3)) else none) else (if g_cls G3 l0 = some 3 then (cI (gCa K d 90 [.ref l0, .int (3 : Int32)] G3) (t_15_0_51 K d l0 l1 l2 l3)) else none)
noncomputable def t_15_0_53 (K : gK) (d : Nat) (G3 : gH) (l1 : Int32) (l2 : Int32) (l3 : Int32) (l0 : Nat) (a23 : Nat) : Option gO := xI G3 a23 1 ((((25 : Int32) * l1) + ((5 : Int32) * l2)) + l3) (t_15_0_52 K d G3 l0 l1 l2 l3)
noncomputable def t_15_0_54 (K : gK) (d : Nat) (l0 : Nat) (l1 : Int32) (l2 : Int32) (l3 : Int32) (v4 : Int32) (G3 : gH) : Option gO := if v4 = 0 then (if g_cls G3 l0 = some 3 then (cI (gCa K d 90 [.ref l0, .int (1 : Int32)] G3) (t_15_0_8 K d l0 l1 l2 l3)) else none) else (if (0 : Int32) = 0 then (if g_cls G3 l0 = some 3 then (cI (gCa K d 90 [.ref l0, .int (2 : Int32)] G3) (t_15_0_16 K d l0 l1 l2 l3)) else none) else (rR G3 l0 3 10 (t_15_0_53 K d G3 l1 l2 l3 l0)))
noncomputable def t_15_0_55 (K : gK) (d : Nat) (G75 : gH) (v77 : Int32) : Option gO := some (.inl (some (.int v77)), G75)
noncomputable def t_15_0_56 (K : gK) (d : Nat) (G75 : gH) (l1 : Int32) (a76 : Nat) : Option gO := xI G75 a76 0 l1 (t_15_0_55 K d G75)
noncomputable def t_15_0_57 (K : gK) (d : Nat) (l0 : Nat) (l1 : Int32) (G75 : gH) : Option gO := rR G75 l0 3 11 (t_15_0_56 K d G75 l1)
noncomputable def t_15_0_58 (K : gK) (d : Nat) (G72 : gH) (a73 : Nat) (l1 : Int32) (l0 : Nat) (v74 : Int32) : Option gO := yI G72 a73 0 l1 (v74 + (1 : Int32)) (t_15_0_57 K d l0 l1)
noncomputable def t_15_0_59 (K : gK) (d : Nat) (G72 : gH) (l1 : Int32) (l0 : Nat) (a73 : Nat) : Option gO := xI G72 a73 0 l1 (t_15_0_58 K d G72 a73 l1 l0)
noncomputable def t_15_0_60 (K : gK) (d : Nat) (l0 : Nat) (l1 : Int32) (G72 : gH) : Option gO := rR G72 l0 3 11 (t_15_0_59 K d G72 l1 l0)
noncomputable def t_15_0_61 (K : gK) (d : Nat) (G69 : gH) (l1 : Int32) (l2 : Int32) (l3 : Int32) (l0 : Nat) (a71 : Nat) : Option gO := yI G69 a71 1 ((((25 : Int32) * l1) + ((5 : Int32) * l2)) + l3) (vp_nar .boolean (1 : Int32)) (t_15_0_60 K d l0 l1)
noncomputable def t_15_0_62 (K : gK) (d : Nat) (l0 : Nat) (l1 : Int32) (l2 : Int32) (l3 : Int32) (v70 : Int32) (G69 : gH) : Option gO := if v70 = 0 then (rR G69 l0 3 10 (t_15_0_61 K d G69 l1 l2 l3 l0)) else (some (.inl (some (.int (0 : Int32))), G69))
noncomputable def t_15_0_63 (K : gK) (d : Nat) (G84 : gH) (v86 : Int32) : Option gO := some (.inl (some (.int v86)), G84)
noncomputable def t_15_0_64 (K : gK) (d : Nat) (G84 : gH) (l1 : Int32) (a85 : Nat) : Option gO := xI G84 a85 0 l1 (t_15_0_63 K d G84)
noncomputable def t_15_0_65 (K : gK) (d : Nat) (l0 : Nat) (l1 : Int32) (G84 : gH) : Option gO := rR G84 l0 3 11 (t_15_0_64 K d G84 l1)
noncomputable def t_15_0_66 (K : gK) (d : Nat) (G81 : gH) (a82 : Nat) (l1 : Int32) (l0 : Nat) (v83 : Int32) : Option gO := yI G81 a82 0 l1 (v83 + (1 : Int32)) (t_15_0_65 K d l0 l1)
noncomputable def t_15_0_67 (K : gK) (d : Nat) (G81 : gH) (l1 : Int32) (l0 : Nat) (a82 : Nat) : Option gO := xI G81 a82 0 l1 (t_15_0_66 K d G81 a82 l1 l0)
noncomputable def t_15_0_68 (K : gK) (d : Nat) (l0 : Nat) (l1 : Int32) (G81 : gH) : Option gO := rR G81 l0 3 11 (t_15_0_67 K d G81 l1 l0)
noncomputable def t_15_0_69 (K : gK) (d : Nat) (G78 : gH) (l1 : Int32) (l2 : Int32) (l3 : Int32) (l0 : Nat) (a80 : Nat) : Option gO := yI G78 a80 1 ((((25 : Int32) * l1) + ((5 : Int32) * l2)) + l3) (vp_nar .boolean (1 : Int32)) (t_15_0_68 K d l0 l1)
noncomputable def t_15_0_70 (K : gK) (d : Nat) (l0 : Nat) (l1 : Int32) (l2 : Int32) (l3 : Int32) (v79 : Int32) (G78 : gH) : Option gO := if v79 = 0 then (rR G78 l0 3 10 (t_15_0_69 K d G78 l1 l2 l3 l0)) else (some (.inl (some (.int (0 : Int32))), G78))
noncomputable def t_15_0_71 (K : gK) (d : Nat) (G99 : gH) (v101 : Int32) : Option gO := some (.inl (some (.int v101)), G99)
noncomputable def t_15_0_72 (K : gK) (d : Nat) (G99 : gH) (l1 : Int32) (a100 : Nat) : Option gO := xI G99 a100 0 l1 (t_15_0_71 K d G99)
noncomputable def t_15_0_73 (K : gK) (d : Nat) (l0 : Nat) (l1 : Int32) (G99 : gH) : Option gO := rR G99 l0 3 11 (t_15_0_72 K d G99 l1)
noncomputable def t_15_0_74 (K : gK) (d : Nat) (G96 : gH) (a97 : Nat) (l1 : Int32) (l0 : Nat) (v98 : Int32) : Option gO := yI G96 a97 0 l1 (v98 + (1 : Int32)) (t_15_0_73 K d l0 l1)
noncomputable def t_15_0_75 (K : gK) (d : Nat) (G96 : gH) (l1 : Int32) (l0 : Nat) (a97 : Nat) : Option gO := xI G96 a97 0 l1 (t_15_0_74 K d G96 a97 l1 l0)
noncomputable def t_15_0_76 (K : gK) (d : Nat) (l0 : Nat) (l1 : Int32) (G96 : gH) : Option gO := rR G96 l0 3 11 (t_15_0_75 K d G96 l1 l0)
noncomputable def t_15_0_77 (K : gK) (d : Nat) (G93 : gH) (l1 : Int32) (l2 : Int32) (l3 : Int32) (l0 : Nat) (a95 : Nat) : Option gO := yI G93 a95 1 ((((25 : Int32) * l1) + ((5 : Int32) * l2)) + l3) (vp_nar .boolean (1 : Int32)) (t_15_0_76 K d l0 l1)
noncomputable def t_15_0_78 (K : gK) (d : Nat) (l0 : Nat) (l1 : Int32) (l2 : Int32) (l3 : Int32) (v94 : Int32) (G93 : gH) : Option gO := if v94 = 0 then (rR G93 l0 3 10 (t_15_0_77 K d G93 l1 l2 l3 l0)) else (some (.inl (some (.int (0 : Int32))), G93))
noncomputable def t_15_0_79 (K : gK) (d : Nat) (G108 : gH) (v110 : Int32) : Option gO := some (.inl (some (.int v110)), G108)
noncomputable def t_15_0_80 (K : gK) (d : Nat) (G108 : gH) (l1 : Int32) (a109 : Nat) : Option gO := xI G108 a109 0 l1 (t_15_0_79 K d G108)
noncomputable def t_15_0_81 (K : gK) (d : Nat) (l0 : Nat) (l1 : Int32) (G108 : gH) : Option gO := rR G108 l0 3 11 (t_15_0_80 K d G108 l1)
noncomputable def t_15_0_82 (K : gK) (d : Nat) (G105 : gH) (a106 : Nat) (l1 : Int32) (l0 : Nat) (v107 : Int32) : Option gO := yI G105 a106 0 l1 (v107 + (1 : Int32)) (t_15_0_81 K d l0 l1)
noncomputable def t_15_0_83 (K : gK) (d : Nat) (G105 : gH) (l1 : Int32) (l0 : Nat) (a106 : Nat) : Option gO := xI G105 a106 0 l1 (t_15_0_82 K d G105 a106 l1 l0)
noncomputable def t_15_0_84 (K : gK) (d : Nat) (l0 : Nat) (l1 : Int32) (G105 : gH) : Option gO := rR G105 l0 3 11 (t_15_0_83 K d G105 l1 l0)
noncomputable def t_15_0_85 (K : gK) (d : Nat) (G102 : gH) (l1 : Int32) (l2 : Int32) (l3 : Int32) (l0 : Nat) (a104 : Nat) : Option gO := yI G102 a104 1 ((((25 : Int32) * l1) + ((5 : Int32) * l2)) + l3) (vp_nar .boolean (1 : Int32)) (t_15_0_84 K d l0 l1)
noncomputable def t_15_0_86 (K : gK) (d : Nat) (l0 : Nat) (l1 : Int32) (l2 : Int32) (l3 : Int32) (v103 : Int32) (G102 : gH) : Option gO := if v103 = 0 then (rR G102 l0 3 10 (t_15_0_85 K d G102 l1 l2 l3 l0)) else (some (.inl (some (.int (0 : Int32))), G102))
noncomputable def t_15_0_87 (K : gK) (d : Nat) (G89 : gH) (l0 : Nat) (l1 : Int32) (l2 : Int32) (l3 : Int32) (v92 : Int32) : Option gO := if v92 = 0 then (if g_cls G89 l0 = some 3 then (cI (gCa K d 90 [.ref l0, .int (0 : Int32)] G89) (t_15_0_78 K d l0 l1 l2 l3)) else none) else (if g_cls G89 l0 = some 3 then (cI (gCa K d 90 [.ref l0, .int (4 : Int32)] G89) (t_15_0_86 K d l0 l1 l2 l3)) else none)
noncomputable def t_15_0_88 (K : gK) (d : Nat) (G89 : gH) (l1 : Int32) (l0 : Nat) (l2 : Int32) (l3 : Int32) (a91 : Nat) : Option gO := xI G89 a91 1 l1 (t_15_0_87 K d G89 l0 l1 l2 l3)
noncomputable def t_15_0_89 (K : gK) (d : Nat) (G117 : gH) (v119 : Int32) : Option gO := some (.inl (some (.int v119)), G117)
noncomputable def t_15_0_90 (K : gK) (d : Nat) (G117 : gH) (l1 : Int32) (a118 : Nat) : Option gO := xI G117 a118 0 l1 (t_15_0_89 K d G117)
noncomputable def t_15_0_91 (K : gK) (d : Nat) (l0 : Nat) (l1 : Int32) (G117 : gH) : Option gO := rR G117 l0 3 11 (t_15_0_90 K d G117 l1)
noncomputable def t_15_0_92 (K : gK) (d : Nat) (G114 : gH) (a115 : Nat) (l1 : Int32) (l0 : Nat) (v116 : Int32) : Option gO := yI G114 a115 0 l1 (v116 + (1 : Int32)) (t_15_0_91 K d l0 l1)
noncomputable def t_15_0_93 (K : gK) (d : Nat) (G114 : gH) (l1 : Int32) (l0 : Nat) (a115 : Nat) : Option gO := xI G114 a115 0 l1 (t_15_0_92 K d G114 a115 l1 l0)
noncomputable def t_15_0_94 (K : gK) (d : Nat) (l0 : Nat) (l1 : Int32) (G114 : gH) : Option gO := rR G114 l0 3 11 (t_15_0_93 K d G114 l1 l0)
noncomputable def t_15_0_95 (K : gK) (d : Nat) (G111 : gH) (l1 : Int32) (l2 : Int32) (l3 : Int32) (l0 : Nat) (a113 : Nat) : Option gO := yI G111 a113 1 ((((25 : Int32) * l1) + ((5 : Int32) * l2)) + l3) (vp_nar .boolean (1 : Int32)) (t_15_0_94 K d l0 l1)
noncomputable def t_15_0_96 (K : gK) (d : Nat) (l0 : Nat) (l1 : Int32) (l2 : Int32) (l3 : Int32) (v112 : Int32) (G111 : gH) : Option gO := if v112 = 0 then (rR G111 l0 3 10 (t_15_0_95 K d G111 l1 l2 l3 l0)) else (some (.inl (some (.int (0 : Int32))), G111))
noncomputable def t_15_0_97 (K : gK) (d : Nat) (l0 : Nat) (l1 : Int32) (l2 : Int32) (l3 : Int32) (v90 : Int32) (G89 : gH) : Option gO := if v90 = 0 then (rR G89 l0 3 15 (t_15_0_88 K d G89 l1 l0 l2 l3)) else (if g_cls G89 l0 = some 3 then (cI (gCa K d 90 [.ref l0, .int (4 : Int32)] G89) (t_15_0_96 K d l0 l1 l2 l3)) else none)
noncomputable def t_15_0_98 (K : gK) (d : Nat) (G126 : gH) (v128 : Int32) : Option gO := some (.inl (some (.int v128)), G126)
noncomputable def t_15_0_99 (K : gK) (d : Nat) (G126 : gH) (l1 : Int32) (a127 : Nat) : Option gO := xI G126 a127 0 l1 (t_15_0_98 K d G126)
noncomputable def t_15_0_100 (K : gK) (d : Nat) (l0 : Nat) (l1 : Int32) (G126 : gH) : Option gO := rR G126 l0 3 11 (t_15_0_99 K d G126 l1)
noncomputable def t_15_0_101 (K : gK) (d : Nat) (G123 : gH) (a124 : Nat) (l1 : Int32) (l0 : Nat) (v125 : Int32) : Option gO := yI G123 a124 0 l1 (v125 + (1 : Int32)) (t_15_0_100 K d l0 l1)
noncomputable def t_15_0_102 (K : gK) (d : Nat) (G123 : gH) (l1 : Int32) (l0 : Nat) (a124 : Nat) : Option gO := xI G123 a124 0 l1 (t_15_0_101 K d G123 a124 l1 l0)
noncomputable def t_15_0_103 (K : gK) (d : Nat) (l0 : Nat) (l1 : Int32) (G123 : gH) : Option gO := rR G123 l0 3 11 (t_15_0_102 K d G123 l1 l0)
noncomputable def t_15_0_104 (K : gK) (d : Nat) (G120 : gH) (l1 : Int32) (l2 : Int32) (l3 : Int32) (l0 : Nat) (a122 : Nat) : Option gO := yI G120 a122 1 ((((25 : Int32) * l1) + ((5 : Int32) * l2)) + l3) (vp_nar .boolean (1 : Int32)) (t_15_0_103 K d l0 l1)
noncomputable def t_15_0_105 (K : gK) (d : Nat) (l0 : Nat) (l1 : Int32) (l2 : Int32) (l3 : Int32) (v121 : Int32) (G120 : gH) : Option gO := if v121 = 0 then (rR G120 l0 3 10 (t_15_0_104 K d G120 l1 l2 l3 l0)) else (some (.inl (some (.int (0 : Int32))), G120))
noncomputable def t_15_0_106 (K : gK) (d : Nat) (G67 : gH) (l0 : Nat) (l1 : Int32) (l2 : Int32) (l3 : Int32) (v88 : Int32) : Option gO := if v88 = 0 then (if g_cls G67 l0 = some 3 then (cI (gCa K d 97 [.ref l0, .int l1] G67) (t_15_0_97 K d l0 l1 l2 l3)) else none) else (if g_cls G67 l0 = some 3 then (cI (gCa K d 90 [.ref l0, .int (3 : Int32)] G67) (t_15_0_105 K d l0 l1 l2 l3)) else none)
noncomputable def t_15_0_107 (K : gK) (d : Nat) (G67 : gH) (l1 : Int32) (l2 : Int32) (l3 : Int32) (l0 : Nat) (a87 : Nat) : Option gO := xI G67 a87 1 ((((25 : Int32) * l1) + ((5 : Int32) * l2)) + l3) (t_15_0_106 K d G67 l0 l1 l2 l3)
noncomputable def t_15_0_108 (K : gK) (d : Nat) (l0 : Nat) (l1 : Int32) (l2 : Int32) (l3 : Int32) (v68 : Int32) (G67 : gH) : Option gO := if v68 = 0 then (if g_cls G67 l0 = some 3 then (cI (gCa K d 90 [.ref l0, .int (1 : Int32)] G67) (t_15_0_62 K d l0 l1 l2 l3)) else none) else (if (0 : Int32) = 0 then (if g_cls G67 l0 = some 3 then (cI (gCa K d 90 [.ref l0, .int (2 : Int32)] G67) (t_15_0_70 K d l0 l1 l2 l3)) else none) else (rR G67 l0 3 10 (t_15_0_107 K d G67 l1 l2 l3 l0)))
noncomputable def t_15_0_109 (K : gK) (d : Nat) (G137 : gH) (v139 : Int32) : Option gO := some (.inl (some (.int v139)), G137)
noncomputable def t_15_0_110 (K : gK) (d : Nat) (G137 : gH) (l1 : Int32) (a138 : Nat) : Option gO := xI G137 a138 0 l1 (t_15_0_109 K d G137)
noncomputable def t_15_0_111 (K : gK) (d : Nat) (l0 : Nat) (l1 : Int32) (G137 : gH) : Option gO := rR G137 l0 3 11 (t_15_0_110 K d G137 l1)
noncomputable def t_15_0_112 (K : gK) (d : Nat) (G134 : gH) (a135 : Nat) (l1 : Int32) (l0 : Nat) (v136 : Int32) : Option gO := yI G134 a135 0 l1 (v136 + (1 : Int32)) (t_15_0_111 K d l0 l1)
noncomputable def t_15_0_113 (K : gK) (d : Nat) (G134 : gH) (l1 : Int32) (l0 : Nat) (a135 : Nat) : Option gO := xI G134 a135 0 l1 (t_15_0_112 K d G134 a135 l1 l0)
noncomputable def t_15_0_114 (K : gK) (d : Nat) (l0 : Nat) (l1 : Int32) (G134 : gH) : Option gO := rR G134 l0 3 11 (t_15_0_113 K d G134 l1 l0)
noncomputable def t_15_0_115 (K : gK) (d : Nat) (G131 : gH) (l1 : Int32) (l2 : Int32) (l3 : Int32) (l0 : Nat) (a133 : Nat) : Option gO := yI G131 a133 1 ((((25 : Int32) * l1) + ((5 : Int32) * l2)) + l3) (vp_nar .boolean (1 : Int32)) (t_15_0_114 K d l0 l1)
noncomputable def t_15_0_116 (K : gK) (d : Nat) (l0 : Nat) (l1 : Int32) (l2 : Int32) (l3 : Int32) (v132 : Int32) (G131 : gH) : Option gO := if v132 = 0 then (rR G131 l0 3 10 (t_15_0_115 K d G131 l1 l2 l3 l0)) else (some (.inl (some (.int (0 : Int32))), G131))
noncomputable def t_15_0_117 (K : gK) (d : Nat) (G146 : gH) (v148 : Int32) : Option gO := some (.inl (some (.int v148)), G146)
noncomputable def t_15_0_118 (K : gK) (d : Nat) (G146 : gH) (l1 : Int32) (a147 : Nat) : Option gO := xI G146 a147 0 l1 (t_15_0_117 K d G146)
noncomputable def t_15_0_119 (K : gK) (d : Nat) (l0 : Nat) (l1 : Int32) (G146 : gH) : Option gO := rR G146 l0 3 11 (t_15_0_118 K d G146 l1)
noncomputable def t_15_0_120 (K : gK) (d : Nat) (G143 : gH) (a144 : Nat) (l1 : Int32) (l0 : Nat) (v145 : Int32) : Option gO := yI G143 a144 0 l1 (v145 + (1 : Int32)) (t_15_0_119 K d l0 l1)
noncomputable def t_15_0_121 (K : gK) (d : Nat) (G143 : gH) (l1 : Int32) (l0 : Nat) (a144 : Nat) : Option gO := xI G143 a144 0 l1 (t_15_0_120 K d G143 a144 l1 l0)
noncomputable def t_15_0_122 (K : gK) (d : Nat) (l0 : Nat) (l1 : Int32) (G143 : gH) : Option gO := rR G143 l0 3 11 (t_15_0_121 K d G143 l1 l0)
noncomputable def t_15_0_123 (K : gK) (d : Nat) (G140 : gH) (l1 : Int32) (l2 : Int32) (l3 : Int32) (l0 : Nat) (a142 : Nat) : Option gO := yI G140 a142 1 ((((25 : Int32) * l1) + ((5 : Int32) * l2)) + l3) (vp_nar .boolean (1 : Int32)) (t_15_0_122 K d l0 l1)
noncomputable def t_15_0_124 (K : gK) (d : Nat) (l0 : Nat) (l1 : Int32) (l2 : Int32) (l3 : Int32) (v141 : Int32) (G140 : gH) : Option gO := if v141 = 0 then (rR G140 l0 3 10 (t_15_0_123 K d G140 l1 l2 l3 l0)) else (some (.inl (some (.int (0 : Int32))), G140))
noncomputable def t_15_0_125 (K : gK) (d : Nat) (G161 : gH) (v163 : Int32) : Option gO := some (.inl (some (.int v163)), G161)
noncomputable def t_15_0_126 (K : gK) (d : Nat) (G161 : gH) (l1 : Int32) (a162 : Nat) : Option gO := xI G161 a162 0 l1 (t_15_0_125 K d G161)
noncomputable def t_15_0_127 (K : gK) (d : Nat) (l0 : Nat) (l1 : Int32) (G161 : gH) : Option gO := rR G161 l0 3 11 (t_15_0_126 K d G161 l1)
noncomputable def t_15_0_128 (K : gK) (d : Nat) (G158 : gH) (a159 : Nat) (l1 : Int32) (l0 : Nat) (v160 : Int32) : Option gO := yI G158 a159 0 l1 (v160 + (1 : Int32)) (t_15_0_127 K d l0 l1)
noncomputable def t_15_0_129 (K : gK) (d : Nat) (G158 : gH) (l1 : Int32) (l0 : Nat) (a159 : Nat) : Option gO := xI G158 a159 0 l1 (t_15_0_128 K d G158 a159 l1 l0)
noncomputable def t_15_0_130 (K : gK) (d : Nat) (l0 : Nat) (l1 : Int32) (G158 : gH) : Option gO := rR G158 l0 3 11 (t_15_0_129 K d G158 l1 l0)
noncomputable def t_15_0_131 (K : gK) (d : Nat) (G155 : gH) (l1 : Int32) (l2 : Int32) (l3 : Int32) (l0 : Nat) (a157 : Nat) : Option gO := yI G155 a157 1 ((((25 : Int32) * l1) + ((5 : Int32) * l2)) + l3) (vp_nar .boolean (1 : Int32)) (t_15_0_130 K d l0 l1)
noncomputable def t_15_0_132 (K : gK) (d : Nat) (l0 : Nat) (l1 : Int32) (l2 : Int32) (l3 : Int32) (v156 : Int32) (G155 : gH) : Option gO := if v156 = 0 then (rR G155 l0 3 10 (t_15_0_131 K d G155 l1 l2 l3 l0)) else (some (.inl (some (.int (0 : Int32))), G155))
noncomputable def t_15_0_133 (K : gK) (d : Nat) (G170 : gH) (v172 : Int32) : Option gO := some (.inl (some (.int v172)), G170)
noncomputable def t_15_0_134 (K : gK) (d : Nat) (G170 : gH) (l1 : Int32) (a171 : Nat) : Option gO := xI G170 a171 0 l1 (t_15_0_133 K d G170)
noncomputable def t_15_0_135 (K : gK) (d : Nat) (l0 : Nat) (l1 : Int32) (G170 : gH) : Option gO := rR G170 l0 3 11 (t_15_0_134 K d G170 l1)
noncomputable def t_15_0_136 (K : gK) (d : Nat) (G167 : gH) (a168 : Nat) (l1 : Int32) (l0 : Nat) (v169 : Int32) : Option gO := yI G167 a168 0 l1 (v169 + (1 : Int32)) (t_15_0_135 K d l0 l1)
noncomputable def t_15_0_137 (K : gK) (d : Nat) (G167 : gH) (l1 : Int32) (l0 : Nat) (a168 : Nat) : Option gO := xI G167 a168 0 l1 (t_15_0_136 K d G167 a168 l1 l0)
noncomputable def t_15_0_138 (K : gK) (d : Nat) (l0 : Nat) (l1 : Int32) (G167 : gH) : Option gO := rR G167 l0 3 11 (t_15_0_137 K d G167 l1 l0)
noncomputable def t_15_0_139 (K : gK) (d : Nat) (G164 : gH) (l1 : Int32) (l2 : Int32) (l3 : Int32) (l0 : Nat) (a166 : Nat) : Option gO := yI G164 a166 1 ((((25 : Int32) * l1) + ((5 : Int32) * l2)) + l3) (vp_nar .boolean (1 : Int32)) (t_15_0_138 K d l0 l1)
noncomputable def t_15_0_140 (K : gK) (d : Nat) (l0 : Nat) (l1 : Int32) (l2 : Int32) (l3 : Int32) (v165 : Int32) (G164 : gH) : Option gO := if v165 = 0 then (rR G164 l0 3 10 (t_15_0_139 K d G164 l1 l2 l3 l0)) else (some (.inl (some (.int (0 : Int32))), G164))
noncomputable def t_15_0_141 (K : gK) (d : Nat) (G151 : gH) (l0 : Nat) (l1 : Int32) (l2 : Int32) (l3 : Int32) (v154 : Int32) : Option gO := if v154 = 0 then (if g_cls G151 l0 = some 3 then (cI (gCa K d 90 [.ref l0, .int (0 : Int32)] G151) (t_15_0_132 K d l0 l1 l2 l3)) else none) else (if g_cls G151 l0 = some 3 then (cI (gCa K d 90 [.ref l0, .int (4 : Int32)] G151) (t_15_0_140 K d l0 l1 l2 l3)) else none)
noncomputable def t_15_0_142 (K : gK) (d : Nat) (G151 : gH) (l1 : Int32) (l0 : Nat) (l2 : Int32) (l3 : Int32) (a153 : Nat) : Option gO := xI G151 a153 1 l1 (t_15_0_141 K d G151 l0 l1 l2 l3)
noncomputable def t_15_0_143 (K : gK) (d : Nat) (G179 : gH) (v181 : Int32) : Option gO := some (.inl (some (.int v181)), G179)
noncomputable def t_15_0_144 (K : gK) (d : Nat) (G179 : gH) (l1 : Int32) (a180 : Nat) : Option gO := xI G179 a180 0 l1 (t_15_0_143 K d G179)
noncomputable def t_15_0_145 (K : gK) (d : Nat) (l0 : Nat) (l1 : Int32) (G179 : gH) : Option gO := rR G179 l0 3 11 (t_15_0_144 K d G179 l1)
noncomputable def t_15_0_146 (K : gK) (d : Nat) (G176 : gH) (a177 : Nat) (l1 : Int32) (l0 : Nat) (v178 : Int32) : Option gO := yI G176 a177 0 l1 (v178 + (1 : Int32)) (t_15_0_145 K d l0 l1)
noncomputable def t_15_0_147 (K : gK) (d : Nat) (G176 : gH) (l1 : Int32) (l0 : Nat) (a177 : Nat) : Option gO := xI G176 a177 0 l1 (t_15_0_146 K d G176 a177 l1 l0)
noncomputable def t_15_0_148 (K : gK) (d : Nat) (l0 : Nat) (l1 : Int32) (G176 : gH) : Option gO := rR G176 l0 3 11 (t_15_0_147 K d G176 l1 l0)
noncomputable def t_15_0_149 (K : gK) (d : Nat) (G173 : gH) (l1 : Int32) (l2 : Int32) (l3 : Int32) (l0 : Nat) (a175 : Nat) : Option gO := yI G173 a175 1 ((((25 : Int32) * l1) + ((5 : Int32) * l2)) + l3) (vp_nar .boolean (1 : Int32)) (t_15_0_148 K d l0 l1)
noncomputable def t_15_0_150 (K : gK) (d : Nat) (l0 : Nat) (l1 : Int32) (l2 : Int32) (l3 : Int32) (v174 : Int32) (G173 : gH) : Option gO := if v174 = 0 then (rR G173 l0 3 10 (t_15_0_149 K d G173 l1 l2 l3 l0)) else (some (.inl (some (.int (0 : Int32))), G173))
noncomputable def t_15_0_151 (K : gK) (d : Nat) (l0 : Nat) (l1 : Int32) (l2 : Int32) (l3 : Int32) (v152 : Int32) (G151 : gH) : Option gO := if v152 = 0 then (rR G151 l0 3 15 (t_15_0_142 K d G151 l1 l0 l2 l3)) else (if g_cls G151 l0 = some 3 then (cI (gCa K d 90 [.ref l0, .int (4 : Int32)] G151) (t_15_0_150 K d l0 l1 l2 l3)) else none)
noncomputable def t_15_0_152 (K : gK) (d : Nat) (G188 : gH) (v190 : Int32) : Option gO := some (.inl (some (.int v190)), G188)
noncomputable def t_15_0_153 (K : gK) (d : Nat) (G188 : gH) (l1 : Int32) (a189 : Nat) : Option gO := xI G188 a189 0 l1 (t_15_0_152 K d G188)
noncomputable def t_15_0_154 (K : gK) (d : Nat) (l0 : Nat) (l1 : Int32) (G188 : gH) : Option gO := rR G188 l0 3 11 (t_15_0_153 K d G188 l1)
noncomputable def t_15_0_155 (K : gK) (d : Nat) (G185 : gH) (a186 : Nat) (l1 : Int32) (l0 : Nat) (v187 : Int32) : Option gO := yI G185 a186 0 l1 (v187 + (1 : Int32)) (t_15_0_154 K d l0 l1)
noncomputable def t_15_0_156 (K : gK) (d : Nat) (G185 : gH) (l1 : Int32) (l0 : Nat) (a186 : Nat) : Option gO := xI G185 a186 0 l1 (t_15_0_155 K d G185 a186 l1 l0)
noncomputable def t_15_0_157 (K : gK) (d : Nat) (l0 : Nat) (l1 : Int32) (G185 : gH) : Option gO := rR G185 l0 3 11 (t_15_0_156 K d G185 l1 l0)
noncomputable def t_15_0_158 (K : gK) (d : Nat) (G182 : gH) (l1 : Int32) (l2 : Int32) (l3 : Int32) (l0 : Nat) (a184 : Nat) : Option gO := yI G182 a184 1 ((((25 : Int32) * l1) + ((5 : Int32) * l2)) + l3) (vp_nar .boolean (1 : Int32)) (t_15_0_157 K d l0 l1)
noncomputable def t_15_0_159 (K : gK) (d : Nat) (l0 : Nat) (l1 : Int32) (l2 : Int32) (l3 : Int32) (v183 : Int32) (G182 : gH) : Option gO := if v183 = 0 then (rR G182 l0 3 10 (t_15_0_158 K d G182 l1 l2 l3 l0)) else (some (.inl (some (.int (0 : Int32))), G182))
noncomputable def t_15_0_160 (K : gK) (d : Nat) (G129 : gH) (l0 : Nat) (l1 : Int32) (l2 : Int32) (l3 : Int32) (v150 : Int32) : Option gO := if v150 = 0 then (if g_cls G129 l0 = some 3 then (cI (gCa K d 97 [.ref l0, .int l1] G129) (t_15_0_151 K d l0 l1 l2 l3)) else none) else (if g_cls G129 l0 = some 3 then (cI (gCa K d 90 [.ref l0, .int (3 : Int32)] G129) (t_15_0_159 K d l0 l1 l2 l3)) else none)
noncomputable def t_15_0_161 (K : gK) (d : Nat) (G129 : gH) (l1 : Int32) (l2 : Int32) (l3 : Int32) (l0 : Nat) (a149 : Nat) : Option gO := xI G129 a149 1 ((((25 : Int32) * l1) + ((5 : Int32) * l2)) + l3) (t_15_0_160 K d G129 l0 l1 l2 l3)
noncomputable def t_15_0_162 (K : gK) (d : Nat) (l0 : Nat) (l1 : Int32) (l2 : Int32) (l3 : Int32) (v130 : Int32) (G129 : gH) : Option gO := if v130 = 0 then (if g_cls G129 l0 = some 3 then (cI (gCa K d 90 [.ref l0, .int (1 : Int32)] G129) (t_15_0_116 K d l0 l1 l2 l3)) else none) else (if (1 : Int32) = 0 then (if g_cls G129 l0 = some 3 then (cI (gCa K d 90 [.ref l0, .int (2 : Int32)] G129) (t_15_0_124 K d l0 l1 l2 l3)) else none) else (rR G129 l0 3 10 (t_15_0_161 K d G129 l1 l2 l3 l0)))
noncomputable def t_15_0_163 (K : gK) (d : Nat) (l0 : Nat) (l1 : Int32) (l2 : Int32) (l3 : Int32) (v66 : Int32) (G65 : gH) : Option gO := if v66 = 0 then (if g_cls G65 l0 = some 3 then (cI (gCa K d 96 [.ref l0, .int l1] G65) (t_15_0_108 K d l0 l1 l2 l3)) else none) else (if g_cls G65 l0 = some 3 then (cI (gCa K d 96 [.ref l0, .int l1] G65) (t_15_0_162 K d l0 l1 l2 l3)) else none)
noncomputable def t_15_0_164 (K : gK) (d : Nat) (l0 : Nat) (l1 : Int32) (l2 : Int32) (l3 : Int32) (v2 : Int32) (G1 : gH) : Option gO := if v2 = 0 then (if g_cls G1 l0 = some 3 then (cI (gCa K d 96 [.ref l0, .int l1] G1) (t_15_0_54 K d l0 l1 l2 l3)) else none) else (cI (gCa K d 89 [.int l3, .int (0 : Int32), .int (4 : Int32)] G1) (t_15_0_163 K d l0 l1 l2 l3))
noncomputable def t_15_0 (K : gK) (d : Nat) (l0 : Nat) (l1 : Int32) (l2 : Int32) (l3 : Int32) (G : gH) : Option gO := cI (gCa K d 89 [.int l2, .int (0 : Int32), .int (4 : Int32)] G) (t_15_0_164 K d l0 l1 l2 l3)
theorem e_15_0 {K : gK} {d : Nat} {l0 : Nat} {l1 : Int32} {l2 : Int32} {l3 : Int32} {G : gH} : gle (t_15_0 K d l0 l1 l2 l3 G) (gRn K d 15 0 [some (.ref l0), some (.int l1), some (.int l2), some (.int l3), none, none] [] G) := by
  unfold t_15_0
  refine g_iload ((q_15 _).trans rfl) rfl ?_
  refine g_push ((q_15 _).trans rfl) ?_
  refine g_push ((q_15 _).trans rfl) ?_
  refine g_callS (kk := 3) ((q_15 _).trans rfl) (gHn m_15) (by exact ⟨Nat.le_of_ble_eq_true rfl, Nat.le_of_ble_eq_true rfl, rfl⟩) rfl (fun w G1 => gm_I (fun v2 hw => ?_))
  subst hw
  refine g_ifeq ((q_15 _).trans rfl) (fun _ => ?_) (fun _ => ?_)
  · refine g_push ((q_15 _).trans rfl) ?_
    refine g_istore ((q_15 _).trans rfl) ?_
    refine g_push ((q_15 _).trans rfl) ?_
    refine g_iload ((q_15 _).trans rfl) rfl ?_
    refine g_imul ((q_15 _).trans rfl) ?_
    refine g_push ((q_15 _).trans rfl) ?_
    refine g_iload ((q_15 _).trans rfl) rfl ?_
    refine g_imul ((q_15 _).trans rfl) ?_
    refine g_iadd ((q_15 _).trans rfl) ?_
    refine g_iload ((q_15 _).trans rfl) rfl ?_
    refine g_iadd ((q_15 _).trans rfl) ?_
    refine g_istore ((q_15 _).trans rfl) ?_
    refine g_aload ((q_15 _).trans rfl) rfl ?_
    refine g_aload ((q_15 _).trans rfl) rfl ?_
    refine g_iload ((q_15 _).trans rfl) rfl ?_
    refine g_callV (kk := 1) ((q_15 _).trans rfl) (gHn m_15) rfl (by exact ⟨Nat.le_of_ble_eq_true rfl, rfl⟩) rfl (fun w G3 => gm_I (fun v4 hw => ?_))
    subst hw
    refine g_ifne ((q_15 _).trans rfl) (fun _ => ?_) (fun _ => ?_)
    · refine g_push ((q_15 _).trans rfl) ?_
      refine g_goto ((q_15 _).trans rfl) ?_
      refine g_callV (kk := 1) ((q_15 _).trans rfl) (gHn m_15) rfl (by exact ⟨Nat.le_of_ble_eq_true rfl, rfl⟩) rfl (fun w G5 => gm_I (fun v6 hw => ?_))
      subst hw
      refine g_ifeq ((q_15 _).trans rfl) (fun _ => ?_) (fun _ => ?_)
      · refine g_aload ((q_15 _).trans rfl) rfl ?_
        refine g_getR ((q_15 _).trans rfl) (fun a7 => ?_)
        refine g_iload ((q_15 _).trans rfl) rfl ?_
        refine g_push ((q_15 _).trans rfl) ?_
        refine g_zast ((q_15 _).trans rfl) (fun G8 => ?_)
        refine g_aload ((q_15 _).trans rfl) rfl ?_
        refine g_getR ((q_15 _).trans rfl) (fun a9 => ?_)
        refine g_iload ((q_15 _).trans rfl) rfl ?_
        refine g_dup2 ((q_15 _).trans rfl) ?_
        refine g_iald ((q_15 _).trans rfl) (fun v10 => ?_)
        refine g_push ((q_15 _).trans rfl) ?_
        refine g_iadd ((q_15 _).trans rfl) ?_
        refine g_iast ((q_15 _).trans rfl) (fun G11 => ?_)
        refine g_aload ((q_15 _).trans rfl) rfl ?_
        refine g_getR ((q_15 _).trans rfl) (fun a12 => ?_)
        refine g_iload ((q_15 _).trans rfl) rfl ?_
        refine g_iald ((q_15 _).trans rfl) (fun v13 => ?_)
        exact g_iret ((q_15 _).trans rfl)
      · refine g_push ((q_15 _).trans rfl) ?_
        exact g_iret ((q_15 _).trans rfl)
    · refine g_iload ((q_15 _).trans rfl) rfl ?_
      refine g_ifne ((q_15 _).trans rfl) (fun _ => ?_) (fun _ => ?_)
      · refine g_push ((q_15 _).trans rfl) ?_
        refine g_goto ((q_15 _).trans rfl) ?_
        refine g_callV (kk := 1) ((q_15 _).trans rfl) (gHn m_15) rfl (by exact ⟨Nat.le_of_ble_eq_true rfl, rfl⟩) rfl (fun w G14 => gm_I (fun v15 hw => ?_))
        subst hw
        refine g_ifeq ((q_15 _).trans rfl) (fun _ => ?_) (fun _ => ?_)
        · refine g_aload ((q_15 _).trans rfl) rfl ?_
          refine g_getR ((q_15 _).trans rfl) (fun a16 => ?_)
          refine g_iload ((q_15 _).trans rfl) rfl ?_
          refine g_push ((q_15 _).trans rfl) ?_
          refine g_zast ((q_15 _).trans rfl) (fun G17 => ?_)
          refine g_aload ((q_15 _).trans rfl) rfl ?_
          refine g_getR ((q_15 _).trans rfl) (fun a18 => ?_)
          refine g_iload ((q_15 _).trans rfl) rfl ?_
          refine g_dup2 ((q_15 _).trans rfl) ?_
          refine g_iald ((q_15 _).trans rfl) (fun v19 => ?_)
          refine g_push ((q_15 _).trans rfl) ?_
          refine g_iadd ((q_15 _).trans rfl) ?_
          refine g_iast ((q_15 _).trans rfl) (fun G20 => ?_)
          refine g_aload ((q_15 _).trans rfl) rfl ?_
          refine g_getR ((q_15 _).trans rfl) (fun a21 => ?_)
          refine g_iload ((q_15 _).trans rfl) rfl ?_
          refine g_iald ((q_15 _).trans rfl) (fun v22 => ?_)
          exact g_iret ((q_15 _).trans rfl)
        · refine g_push ((q_15 _).trans rfl) ?_
          exact g_iret ((q_15 _).trans rfl)
      · refine g_aload ((q_15 _).trans rfl) rfl ?_
        refine g_getR ((q_15 _).trans rfl) (fun a23 => ?_)
        refine g_iload ((q_15 _).trans rfl) rfl ?_
        refine g_iald ((q_15 _).trans rfl) (fun v24 => ?_)
        refine g_ifeq ((q_15 _).trans rfl) (fun _ => ?_) (fun _ => ?_)
        · refine g_aload ((q_15 _).trans rfl) rfl ?_
          refine g_iload ((q_15 _).trans rfl) rfl ?_
          refine g_callV (kk := 1) ((q_15 _).trans rfl) (gHn m_15) rfl (by exact ⟨Nat.le_of_ble_eq_true rfl, rfl⟩) rfl (fun w G25 => gm_I (fun v26 hw => ?_))
          subst hw
          refine g_ifne ((q_15 _).trans rfl) (fun _ => ?_) (fun _ => ?_)
          · refine g_aload ((q_15 _).trans rfl) rfl ?_
            refine g_getR ((q_15 _).trans rfl) (fun a27 => ?_)
            refine g_iload ((q_15 _).trans rfl) rfl ?_
            refine g_iald ((q_15 _).trans rfl) (fun v28 => ?_)
            refine g_ifeq ((q_15 _).trans rfl) (fun _ => ?_) (fun _ => ?_)
            · refine g_push ((q_15 _).trans rfl) ?_
              refine g_callV (kk := 1) ((q_15 _).trans rfl) (gHn m_15) rfl (by exact ⟨Nat.le_of_ble_eq_true rfl, rfl⟩) rfl (fun w G29 => gm_I (fun v30 hw => ?_))
              subst hw
              refine g_ifeq ((q_15 _).trans rfl) (fun _ => ?_) (fun _ => ?_)
              · refine g_aload ((q_15 _).trans rfl) rfl ?_
                refine g_getR ((q_15 _).trans rfl) (fun a31 => ?_)
                refine g_iload ((q_15 _).trans rfl) rfl ?_
                refine g_push ((q_15 _).trans rfl) ?_
                refine g_zast ((q_15 _).trans rfl) (fun G32 => ?_)
                refine g_aload ((q_15 _).trans rfl) rfl ?_
                refine g_getR ((q_15 _).trans rfl) (fun a33 => ?_)
                refine g_iload ((q_15 _).trans rfl) rfl ?_
                refine g_dup2 ((q_15 _).trans rfl) ?_
                refine g_iald ((q_15 _).trans rfl) (fun v34 => ?_)
                refine g_push ((q_15 _).trans rfl) ?_
                refine g_iadd ((q_15 _).trans rfl) ?_
                refine g_iast ((q_15 _).trans rfl) (fun G35 => ?_)
                refine g_aload ((q_15 _).trans rfl) rfl ?_
                refine g_getR ((q_15 _).trans rfl) (fun a36 => ?_)
                refine g_iload ((q_15 _).trans rfl) rfl ?_
                refine g_iald ((q_15 _).trans rfl) (fun v37 => ?_)
                exact g_iret ((q_15 _).trans rfl)
              · refine g_push ((q_15 _).trans rfl) ?_
                exact g_iret ((q_15 _).trans rfl)
            · refine g_push ((q_15 _).trans rfl) ?_
              refine g_goto ((q_15 _).trans rfl) ?_
              refine g_callV (kk := 1) ((q_15 _).trans rfl) (gHn m_15) rfl (by exact ⟨Nat.le_of_ble_eq_true rfl, rfl⟩) rfl (fun w G38 => gm_I (fun v39 hw => ?_))
              subst hw
              refine g_ifeq ((q_15 _).trans rfl) (fun _ => ?_) (fun _ => ?_)
              · refine g_aload ((q_15 _).trans rfl) rfl ?_
                refine g_getR ((q_15 _).trans rfl) (fun a40 => ?_)
                refine g_iload ((q_15 _).trans rfl) rfl ?_
                refine g_push ((q_15 _).trans rfl) ?_
                refine g_zast ((q_15 _).trans rfl) (fun G41 => ?_)
                refine g_aload ((q_15 _).trans rfl) rfl ?_
                refine g_getR ((q_15 _).trans rfl) (fun a42 => ?_)
                refine g_iload ((q_15 _).trans rfl) rfl ?_
                refine g_dup2 ((q_15 _).trans rfl) ?_
                refine g_iald ((q_15 _).trans rfl) (fun v43 => ?_)
                refine g_push ((q_15 _).trans rfl) ?_
                refine g_iadd ((q_15 _).trans rfl) ?_
                refine g_iast ((q_15 _).trans rfl) (fun G44 => ?_)
                refine g_aload ((q_15 _).trans rfl) rfl ?_
                refine g_getR ((q_15 _).trans rfl) (fun a45 => ?_)
                refine g_iload ((q_15 _).trans rfl) rfl ?_
                refine g_iald ((q_15 _).trans rfl) (fun v46 => ?_)
                exact g_iret ((q_15 _).trans rfl)
              · refine g_push ((q_15 _).trans rfl) ?_
                exact g_iret ((q_15 _).trans rfl)
          · refine g_push ((q_15 _).trans rfl) ?_
            refine g_goto ((q_15 _).trans rfl) ?_
            refine g_callV (kk := 1) ((q_15 _).trans rfl) (gHn m_15) rfl (by exact ⟨Nat.le_of_ble_eq_true rfl, rfl⟩) rfl (fun w G47 => gm_I (fun v48 hw => ?_))
            subst hw
            refine g_ifeq ((q_15 _).trans rfl) (fun _ => ?_) (fun _ => ?_)
            · refine g_aload ((q_15 _).trans rfl) rfl ?_
              refine g_getR ((q_15 _).trans rfl) (fun a49 => ?_)
              refine g_iload ((q_15 _).trans rfl) rfl ?_
              refine g_push ((q_15 _).trans rfl) ?_
              refine g_zast ((q_15 _).trans rfl) (fun G50 => ?_)
              refine g_aload ((q_15 _).trans rfl) rfl ?_
              refine g_getR ((q_15 _).trans rfl) (fun a51 => ?_)
              refine g_iload ((q_15 _).trans rfl) rfl ?_
              refine g_dup2 ((q_15 _).trans rfl) ?_
              refine g_iald ((q_15 _).trans rfl) (fun v52 => ?_)
              refine g_push ((q_15 _).trans rfl) ?_
              refine g_iadd ((q_15 _).trans rfl) ?_
              refine g_iast ((q_15 _).trans rfl) (fun G53 => ?_)
              refine g_aload ((q_15 _).trans rfl) rfl ?_
              refine g_getR ((q_15 _).trans rfl) (fun a54 => ?_)
              refine g_iload ((q_15 _).trans rfl) rfl ?_
              refine g_iald ((q_15 _).trans rfl) (fun v55 => ?_)
              exact g_iret ((q_15 _).trans rfl)
            · refine g_push ((q_15 _).trans rfl) ?_
              exact g_iret ((q_15 _).trans rfl)
        · refine g_push ((q_15 _).trans rfl) ?_
          refine g_goto ((q_15 _).trans rfl) ?_
          refine g_callV (kk := 1) ((q_15 _).trans rfl) (gHn m_15) rfl (by exact ⟨Nat.le_of_ble_eq_true rfl, rfl⟩) rfl (fun w G56 => gm_I (fun v57 hw => ?_))
          subst hw
          refine g_ifeq ((q_15 _).trans rfl) (fun _ => ?_) (fun _ => ?_)
          · refine g_aload ((q_15 _).trans rfl) rfl ?_
            refine g_getR ((q_15 _).trans rfl) (fun a58 => ?_)
            refine g_iload ((q_15 _).trans rfl) rfl ?_
            refine g_push ((q_15 _).trans rfl) ?_
            refine g_zast ((q_15 _).trans rfl) (fun G59 => ?_)
            refine g_aload ((q_15 _).trans rfl) rfl ?_
            refine g_getR ((q_15 _).trans rfl) (fun a60 => ?_)
            refine g_iload ((q_15 _).trans rfl) rfl ?_
            refine g_dup2 ((q_15 _).trans rfl) ?_
            refine g_iald ((q_15 _).trans rfl) (fun v61 => ?_)
            refine g_push ((q_15 _).trans rfl) ?_
            refine g_iadd ((q_15 _).trans rfl) ?_
            refine g_iast ((q_15 _).trans rfl) (fun G62 => ?_)
            refine g_aload ((q_15 _).trans rfl) rfl ?_
            refine g_getR ((q_15 _).trans rfl) (fun a63 => ?_)
            refine g_iload ((q_15 _).trans rfl) rfl ?_
            refine g_iald ((q_15 _).trans rfl) (fun v64 => ?_)
            exact g_iret ((q_15 _).trans rfl)
          · refine g_push ((q_15 _).trans rfl) ?_
            exact g_iret ((q_15 _).trans rfl)
  · refine g_iload ((q_15 _).trans rfl) rfl ?_
    refine g_push ((q_15 _).trans rfl) ?_
    refine g_push ((q_15 _).trans rfl) ?_
    refine g_callS (kk := 3) ((q_15 _).trans rfl) (gHn m_15) (by exact ⟨Nat.le_of_ble_eq_true rfl, Nat.le_of_ble_eq_true rfl, rfl⟩) rfl (fun w G65 => gm_I (fun v66 hw => ?_))
    subst hw
    refine g_ifeq ((q_15 _).trans rfl) (fun _ => ?_) (fun _ => ?_)
    · refine g_push ((q_15 _).trans rfl) ?_
      refine g_istore ((q_15 _).trans rfl) ?_
      refine g_push ((q_15 _).trans rfl) ?_
      refine g_iload ((q_15 _).trans rfl) rfl ?_
      refine g_imul ((q_15 _).trans rfl) ?_
      refine g_push ((q_15 _).trans rfl) ?_
      refine g_iload ((q_15 _).trans rfl) rfl ?_
      refine g_imul ((q_15 _).trans rfl) ?_
      refine g_iadd ((q_15 _).trans rfl) ?_
      refine g_iload ((q_15 _).trans rfl) rfl ?_
      refine g_iadd ((q_15 _).trans rfl) ?_
      refine g_istore ((q_15 _).trans rfl) ?_
      refine g_aload ((q_15 _).trans rfl) rfl ?_
      refine g_aload ((q_15 _).trans rfl) rfl ?_
      refine g_iload ((q_15 _).trans rfl) rfl ?_
      refine g_callV (kk := 1) ((q_15 _).trans rfl) (gHn m_15) rfl (by exact ⟨Nat.le_of_ble_eq_true rfl, rfl⟩) rfl (fun w G67 => gm_I (fun v68 hw => ?_))
      subst hw
      refine g_ifne ((q_15 _).trans rfl) (fun _ => ?_) (fun _ => ?_)
      · refine g_push ((q_15 _).trans rfl) ?_
        refine g_goto ((q_15 _).trans rfl) ?_
        refine g_callV (kk := 1) ((q_15 _).trans rfl) (gHn m_15) rfl (by exact ⟨Nat.le_of_ble_eq_true rfl, rfl⟩) rfl (fun w G69 => gm_I (fun v70 hw => ?_))
        subst hw
        refine g_ifeq ((q_15 _).trans rfl) (fun _ => ?_) (fun _ => ?_)
        · refine g_aload ((q_15 _).trans rfl) rfl ?_
          refine g_getR ((q_15 _).trans rfl) (fun a71 => ?_)
          refine g_iload ((q_15 _).trans rfl) rfl ?_
          refine g_push ((q_15 _).trans rfl) ?_
          refine g_zast ((q_15 _).trans rfl) (fun G72 => ?_)
          refine g_aload ((q_15 _).trans rfl) rfl ?_
          refine g_getR ((q_15 _).trans rfl) (fun a73 => ?_)
          refine g_iload ((q_15 _).trans rfl) rfl ?_
          refine g_dup2 ((q_15 _).trans rfl) ?_
          refine g_iald ((q_15 _).trans rfl) (fun v74 => ?_)
          refine g_push ((q_15 _).trans rfl) ?_
          refine g_iadd ((q_15 _).trans rfl) ?_
          refine g_iast ((q_15 _).trans rfl) (fun G75 => ?_)
          refine g_aload ((q_15 _).trans rfl) rfl ?_
          refine g_getR ((q_15 _).trans rfl) (fun a76 => ?_)
          refine g_iload ((q_15 _).trans rfl) rfl ?_
          refine g_iald ((q_15 _).trans rfl) (fun v77 => ?_)
          exact g_iret ((q_15 _).trans rfl)
        · refine g_push ((q_15 _).trans rfl) ?_
          exact g_iret ((q_15 _).trans rfl)
      · refine g_iload ((q_15 _).trans rfl) rfl ?_
        refine g_ifne ((q_15 _).trans rfl) (fun _ => ?_) (fun _ => ?_)
        · refine g_push ((q_15 _).trans rfl) ?_
          refine g_goto ((q_15 _).trans rfl) ?_
          refine g_callV (kk := 1) ((q_15 _).trans rfl) (gHn m_15) rfl (by exact ⟨Nat.le_of_ble_eq_true rfl, rfl⟩) rfl (fun w G78 => gm_I (fun v79 hw => ?_))
          subst hw
          refine g_ifeq ((q_15 _).trans rfl) (fun _ => ?_) (fun _ => ?_)
          · refine g_aload ((q_15 _).trans rfl) rfl ?_
            refine g_getR ((q_15 _).trans rfl) (fun a80 => ?_)
            refine g_iload ((q_15 _).trans rfl) rfl ?_
            refine g_push ((q_15 _).trans rfl) ?_
            refine g_zast ((q_15 _).trans rfl) (fun G81 => ?_)
            refine g_aload ((q_15 _).trans rfl) rfl ?_
            refine g_getR ((q_15 _).trans rfl) (fun a82 => ?_)
            refine g_iload ((q_15 _).trans rfl) rfl ?_
            refine g_dup2 ((q_15 _).trans rfl) ?_
            refine g_iald ((q_15 _).trans rfl) (fun v83 => ?_)
            refine g_push ((q_15 _).trans rfl) ?_
            refine g_iadd ((q_15 _).trans rfl) ?_
            refine g_iast ((q_15 _).trans rfl) (fun G84 => ?_)
            refine g_aload ((q_15 _).trans rfl) rfl ?_
            refine g_getR ((q_15 _).trans rfl) (fun a85 => ?_)
            refine g_iload ((q_15 _).trans rfl) rfl ?_
            refine g_iald ((q_15 _).trans rfl) (fun v86 => ?_)
            exact g_iret ((q_15 _).trans rfl)
          · refine g_push ((q_15 _).trans rfl) ?_
            exact g_iret ((q_15 _).trans rfl)
        · refine g_aload ((q_15 _).trans rfl) rfl ?_
          refine g_getR ((q_15 _).trans rfl) (fun a87 => ?_)
          refine g_iload ((q_15 _).trans rfl) rfl ?_
          refine g_iald ((q_15 _).trans rfl) (fun v88 => ?_)
          refine g_ifeq ((q_15 _).trans rfl) (fun _ => ?_) (fun _ => ?_)
          · refine g_aload ((q_15 _).trans rfl) rfl ?_
            refine g_iload ((q_15 _).trans rfl) rfl ?_
            refine g_callV (kk := 1) ((q_15 _).trans rfl) (gHn m_15) rfl (by exact ⟨Nat.le_of_ble_eq_true rfl, rfl⟩) rfl (fun w G89 => gm_I (fun v90 hw => ?_))
            subst hw
            refine g_ifne ((q_15 _).trans rfl) (fun _ => ?_) (fun _ => ?_)
            · refine g_aload ((q_15 _).trans rfl) rfl ?_
              refine g_getR ((q_15 _).trans rfl) (fun a91 => ?_)
              refine g_iload ((q_15 _).trans rfl) rfl ?_
              refine g_iald ((q_15 _).trans rfl) (fun v92 => ?_)
              refine g_ifeq ((q_15 _).trans rfl) (fun _ => ?_) (fun _ => ?_)
              · refine g_push ((q_15 _).trans rfl) ?_
                refine g_callV (kk := 1) ((q_15 _).trans rfl) (gHn m_15) rfl (by exact ⟨Nat.le_of_ble_eq_true rfl, rfl⟩) rfl (fun w G93 => gm_I (fun v94 hw => ?_))
                subst hw
                refine g_ifeq ((q_15 _).trans rfl) (fun _ => ?_) (fun _ => ?_)
                · refine g_aload ((q_15 _).trans rfl) rfl ?_
                  refine g_getR ((q_15 _).trans rfl) (fun a95 => ?_)
                  refine g_iload ((q_15 _).trans rfl) rfl ?_
                  refine g_push ((q_15 _).trans rfl) ?_
                  refine g_zast ((q_15 _).trans rfl) (fun G96 => ?_)
                  refine g_aload ((q_15 _).trans rfl) rfl ?_
                  refine g_getR ((q_15 _).trans rfl) (fun a97 => ?_)
                  refine g_iload ((q_15 _).trans rfl) rfl ?_
                  refine g_dup2 ((q_15 _).trans rfl) ?_
                  refine g_iald ((q_15 _).trans rfl) (fun v98 => ?_)
                  refine g_push ((q_15 _).trans rfl) ?_
                  refine g_iadd ((q_15 _).trans rfl) ?_
                  refine g_iast ((q_15 _).trans rfl) (fun G99 => ?_)
                  refine g_aload ((q_15 _).trans rfl) rfl ?_
                  refine g_getR ((q_15 _).trans rfl) (fun a100 => ?_)
                  refine g_iload ((q_15 _).trans rfl) rfl ?_
                  refine g_iald ((q_15 _).trans rfl) (fun v101 => ?_)
                  exact g_iret ((q_15 _).trans rfl)
                · refine g_push ((q_15 _).trans rfl) ?_
                  exact g_iret ((q_15 _).trans rfl)
              · refine g_push ((q_15 _).trans rfl) ?_
                refine g_goto ((q_15 _).trans rfl) ?_
                refine g_callV (kk := 1) ((q_15 _).trans rfl) (gHn m_15) rfl (by exact ⟨Nat.le_of_ble_eq_true rfl, rfl⟩) rfl (fun w G102 => gm_I (fun v103 hw => ?_))
                subst hw
                refine g_ifeq ((q_15 _).trans rfl) (fun _ => ?_) (fun _ => ?_)
                · refine g_aload ((q_15 _).trans rfl) rfl ?_
                  refine g_getR ((q_15 _).trans rfl) (fun a104 => ?_)
                  refine g_iload ((q_15 _).trans rfl) rfl ?_
                  refine g_push ((q_15 _).trans rfl) ?_
                  refine g_zast ((q_15 _).trans rfl) (fun G105 => ?_)
                  refine g_aload ((q_15 _).trans rfl) rfl ?_
                  refine g_getR ((q_15 _).trans rfl) (fun a106 => ?_)
                  refine g_iload ((q_15 _).trans rfl) rfl ?_
                  refine g_dup2 ((q_15 _).trans rfl) ?_
                  refine g_iald ((q_15 _).trans rfl) (fun v107 => ?_)
                  refine g_push ((q_15 _).trans rfl) ?_
                  refine g_iadd ((q_15 _).trans rfl) ?_
                  refine g_iast ((q_15 _).trans rfl) (fun G108 => ?_)
                  refine g_aload ((q_15 _).trans rfl) rfl ?_
                  refine g_getR ((q_15 _).trans rfl) (fun a109 => ?_)
                  refine g_iload ((q_15 _).trans rfl) rfl ?_
                  refine g_iald ((q_15 _).trans rfl) (fun v110 => ?_)
                  exact g_iret ((q_15 _).trans rfl)
                · refine g_push ((q_15 _).trans rfl) ?_
                  exact g_iret ((q_15 _).trans rfl)
            · refine g_push ((q_15 _).trans rfl) ?_
              refine g_goto ((q_15 _).trans rfl) ?_
              refine g_callV (kk := 1) ((q_15 _).trans rfl) (gHn m_15) rfl (by exact ⟨Nat.le_of_ble_eq_true rfl, rfl⟩) rfl (fun w G111 => gm_I (fun v112 hw => ?_))
              subst hw
              refine g_ifeq ((q_15 _).trans rfl) (fun _ => ?_) (fun _ => ?_)
              · refine g_aload ((q_15 _).trans rfl) rfl ?_
                refine g_getR ((q_15 _).trans rfl) (fun a113 => ?_)
                refine g_iload ((q_15 _).trans rfl) rfl ?_
                refine g_push ((q_15 _).trans rfl) ?_
                refine g_zast ((q_15 _).trans rfl) (fun G114 => ?_)
                refine g_aload ((q_15 _).trans rfl) rfl ?_
                refine g_getR ((q_15 _).trans rfl) (fun a115 => ?_)
                refine g_iload ((q_15 _).trans rfl) rfl ?_
                refine g_dup2 ((q_15 _).trans rfl) ?_
                refine g_iald ((q_15 _).trans rfl) (fun v116 => ?_)
                refine g_push ((q_15 _).trans rfl) ?_
                refine g_iadd ((q_15 _).trans rfl) ?_
                refine g_iast ((q_15 _).trans rfl) (fun G117 => ?_)
                refine g_aload ((q_15 _).trans rfl) rfl ?_
                refine g_getR ((q_15 _).trans rfl) (fun a118 => ?_)
                refine g_iload ((q_15 _).trans rfl) rfl ?_
                refine g_iald ((q_15 _).trans rfl) (fun v119 => ?_)
                exact g_iret ((q_15 _).trans rfl)
              · refine g_push ((q_15 _).trans rfl) ?_
                exact g_iret ((q_15 _).trans rfl)
          · refine g_push ((q_15 _).trans rfl) ?_
            refine g_goto ((q_15 _).trans rfl) ?_
            refine g_callV (kk := 1) ((q_15 _).trans rfl) (gHn m_15) rfl (by exact ⟨Nat.le_of_ble_eq_true rfl, rfl⟩) rfl (fun w G120 => gm_I (fun v121 hw => ?_))
            subst hw
            refine g_ifeq ((q_15 _).trans rfl) (fun _ => ?_) (fun _ => ?_)
            · refine g_aload ((q_15 _).trans rfl) rfl ?_
              refine g_getR ((q_15 _).trans rfl) (fun a122 => ?_)
              refine g_iload ((q_15 _).trans rfl) rfl ?_
              refine g_push ((q_15 _).trans rfl) ?_
              refine g_zast ((q_15 _).trans rfl) (fun G123 => ?_)
              refine g_aload ((q_15 _).trans rfl) rfl ?_
              refine g_getR ((q_15 _).trans rfl) (fun a124 => ?_)
              refine g_iload ((q_15 _).trans rfl) rfl ?_
              refine g_dup2 ((q_15 _).trans rfl) ?_
              refine g_iald ((q_15 _).trans rfl) (fun v125 => ?_)
              refine g_push ((q_15 _).trans rfl) ?_
              refine g_iadd ((q_15 _).trans rfl) ?_
              refine g_iast ((q_15 _).trans rfl) (fun G126 => ?_)
              refine g_aload ((q_15 _).trans rfl) rfl ?_
              refine g_getR ((q_15 _).trans rfl) (fun a127 => ?_)
              refine g_iload ((q_15 _).trans rfl) rfl ?_
              refine g_iald ((q_15 _).trans rfl) (fun v128 => ?_)
              exact g_iret ((q_15 _).trans rfl)
            · refine g_push ((q_15 _).trans rfl) ?_
              exact g_iret ((q_15 _).trans rfl)
    · refine g_push ((q_15 _).trans rfl) ?_
      refine g_goto ((q_15 _).trans rfl) ?_
      refine g_istore ((q_15 _).trans rfl) ?_
      refine g_push ((q_15 _).trans rfl) ?_
      refine g_iload ((q_15 _).trans rfl) rfl ?_
      refine g_imul ((q_15 _).trans rfl) ?_
      refine g_push ((q_15 _).trans rfl) ?_
      refine g_iload ((q_15 _).trans rfl) rfl ?_
      refine g_imul ((q_15 _).trans rfl) ?_
      refine g_iadd ((q_15 _).trans rfl) ?_
      refine g_iload ((q_15 _).trans rfl) rfl ?_
      refine g_iadd ((q_15 _).trans rfl) ?_
      refine g_istore ((q_15 _).trans rfl) ?_
      refine g_aload ((q_15 _).trans rfl) rfl ?_
      refine g_aload ((q_15 _).trans rfl) rfl ?_
      refine g_iload ((q_15 _).trans rfl) rfl ?_
      refine g_callV (kk := 1) ((q_15 _).trans rfl) (gHn m_15) rfl (by exact ⟨Nat.le_of_ble_eq_true rfl, rfl⟩) rfl (fun w G129 => gm_I (fun v130 hw => ?_))
      subst hw
      refine g_ifne ((q_15 _).trans rfl) (fun _ => ?_) (fun _ => ?_)
      · refine g_push ((q_15 _).trans rfl) ?_
        refine g_goto ((q_15 _).trans rfl) ?_
        refine g_callV (kk := 1) ((q_15 _).trans rfl) (gHn m_15) rfl (by exact ⟨Nat.le_of_ble_eq_true rfl, rfl⟩) rfl (fun w G131 => gm_I (fun v132 hw => ?_))
        subst hw
        refine g_ifeq ((q_15 _).trans rfl) (fun _ => ?_) (fun _ => ?_)
        · refine g_aload ((q_15 _).trans rfl) rfl ?_
          refine g_getR ((q_15 _).trans rfl) (fun a133 => ?_)
          refine g_iload ((q_15 _).trans rfl) rfl ?_
          refine g_push ((q_15 _).trans rfl) ?_
          refine g_zast ((q_15 _).trans rfl) (fun G134 => ?_)
          refine g_aload ((q_15 _).trans rfl) rfl ?_
          refine g_getR ((q_15 _).trans rfl) (fun a135 => ?_)
          refine g_iload ((q_15 _).trans rfl) rfl ?_
          refine g_dup2 ((q_15 _).trans rfl) ?_
          refine g_iald ((q_15 _).trans rfl) (fun v136 => ?_)
          refine g_push ((q_15 _).trans rfl) ?_
          refine g_iadd ((q_15 _).trans rfl) ?_
          refine g_iast ((q_15 _).trans rfl) (fun G137 => ?_)
          refine g_aload ((q_15 _).trans rfl) rfl ?_
          refine g_getR ((q_15 _).trans rfl) (fun a138 => ?_)
          refine g_iload ((q_15 _).trans rfl) rfl ?_
          refine g_iald ((q_15 _).trans rfl) (fun v139 => ?_)
          exact g_iret ((q_15 _).trans rfl)
        · refine g_push ((q_15 _).trans rfl) ?_
          exact g_iret ((q_15 _).trans rfl)
      · refine g_iload ((q_15 _).trans rfl) rfl ?_
        refine g_ifne ((q_15 _).trans rfl) (fun _ => ?_) (fun _ => ?_)
        · refine g_push ((q_15 _).trans rfl) ?_
          refine g_goto ((q_15 _).trans rfl) ?_
          refine g_callV (kk := 1) ((q_15 _).trans rfl) (gHn m_15) rfl (by exact ⟨Nat.le_of_ble_eq_true rfl, rfl⟩) rfl (fun w G140 => gm_I (fun v141 hw => ?_))
          subst hw
          refine g_ifeq ((q_15 _).trans rfl) (fun _ => ?_) (fun _ => ?_)
          · refine g_aload ((q_15 _).trans rfl) rfl ?_
            refine g_getR ((q_15 _).trans rfl) (fun a142 => ?_)
            refine g_iload ((q_15 _).trans rfl) rfl ?_
            refine g_push ((q_15 _).trans rfl) ?_
            refine g_zast ((q_15 _).trans rfl) (fun G143 => ?_)
            refine g_aload ((q_15 _).trans rfl) rfl ?_
            refine g_getR ((q_15 _).trans rfl) (fun a144 => ?_)
            refine g_iload ((q_15 _).trans rfl) rfl ?_
            refine g_dup2 ((q_15 _).trans rfl) ?_
            refine g_iald ((q_15 _).trans rfl) (fun v145 => ?_)
            refine g_push ((q_15 _).trans rfl) ?_
            refine g_iadd ((q_15 _).trans rfl) ?_
            refine g_iast ((q_15 _).trans rfl) (fun G146 => ?_)
            refine g_aload ((q_15 _).trans rfl) rfl ?_
            refine g_getR ((q_15 _).trans rfl) (fun a147 => ?_)
            refine g_iload ((q_15 _).trans rfl) rfl ?_
            refine g_iald ((q_15 _).trans rfl) (fun v148 => ?_)
            exact g_iret ((q_15 _).trans rfl)
          · refine g_push ((q_15 _).trans rfl) ?_
            exact g_iret ((q_15 _).trans rfl)
        · refine g_aload ((q_15 _).trans rfl) rfl ?_
          refine g_getR ((q_15 _).trans rfl) (fun a149 => ?_)
          refine g_iload ((q_15 _).trans rfl) rfl ?_
          refine g_iald ((q_15 _).trans rfl) (fun v150 => ?_)
          refine g_ifeq ((q_15 _).trans rfl) (fun _ => ?_) (fun _ => ?_)
          · refine g_aload ((q_15 _).trans rfl) rfl ?_
            refine g_iload ((q_15 _).trans rfl) rfl ?_
            refine g_callV (kk := 1) ((q_15 _).trans rfl) (gHn m_15) rfl (by exact ⟨Nat.le_of_ble_eq_true rfl, rfl⟩) rfl (fun w G151 => gm_I (fun v152 hw => ?_))
            subst hw
            refine g_ifne ((q_15 _).trans rfl) (fun _ => ?_) (fun _ => ?_)
            · refine g_aload ((q_15 _).trans rfl) rfl ?_
              refine g_getR ((q_15 _).trans rfl) (fun a153 => ?_)
              refine g_iload ((q_15 _).trans rfl) rfl ?_
              refine g_iald ((q_15 _).trans rfl) (fun v154 => ?_)
              refine g_ifeq ((q_15 _).trans rfl) (fun _ => ?_) (fun _ => ?_)
              · refine g_push ((q_15 _).trans rfl) ?_
                refine g_callV (kk := 1) ((q_15 _).trans rfl) (gHn m_15) rfl (by exact ⟨Nat.le_of_ble_eq_true rfl, rfl⟩) rfl (fun w G155 => gm_I (fun v156 hw => ?_))
                subst hw
                refine g_ifeq ((q_15 _).trans rfl) (fun _ => ?_) (fun _ => ?_)
                · refine g_aload ((q_15 _).trans rfl) rfl ?_
                  refine g_getR ((q_15 _).trans rfl) (fun a157 => ?_)
                  refine g_iload ((q_15 _).trans rfl) rfl ?_
                  refine g_push ((q_15 _).trans rfl) ?_
                  refine g_zast ((q_15 _).trans rfl) (fun G158 => ?_)
                  refine g_aload ((q_15 _).trans rfl) rfl ?_
                  refine g_getR ((q_15 _).trans rfl) (fun a159 => ?_)
                  refine g_iload ((q_15 _).trans rfl) rfl ?_
                  refine g_dup2 ((q_15 _).trans rfl) ?_
                  refine g_iald ((q_15 _).trans rfl) (fun v160 => ?_)
                  refine g_push ((q_15 _).trans rfl) ?_
                  refine g_iadd ((q_15 _).trans rfl) ?_
                  refine g_iast ((q_15 _).trans rfl) (fun G161 => ?_)
                  refine g_aload ((q_15 _).trans rfl) rfl ?_
                  refine g_getR ((q_15 _).trans rfl) (fun a162 => ?_)
                  refine g_iload ((q_15 _).trans rfl) rfl ?_
                  refine g_iald ((q_15 _).trans rfl) (fun v163 => ?_)
                  exact g_iret ((q_15 _).trans rfl)
                · refine g_push ((q_15 _).trans rfl) ?_
                  exact g_iret ((q_15 _).trans rfl)
              · refine g_push ((q_15 _).trans rfl) ?_
                refine g_goto ((q_15 _).trans rfl) ?_
                refine g_callV (kk := 1) ((q_15 _).trans rfl) (gHn m_15) rfl (by exact ⟨Nat.le_of_ble_eq_true rfl, rfl⟩) rfl (fun w G164 => gm_I (fun v165 hw => ?_))
                subst hw
                refine g_ifeq ((q_15 _).trans rfl) (fun _ => ?_) (fun _ => ?_)
                · refine g_aload ((q_15 _).trans rfl) rfl ?_
                  refine g_getR ((q_15 _).trans rfl) (fun a166 => ?_)
                  refine g_iload ((q_15 _).trans rfl) rfl ?_
                  refine g_push ((q_15 _).trans rfl) ?_
                  refine g_zast ((q_15 _).trans rfl) (fun G167 => ?_)
                  refine g_aload ((q_15 _).trans rfl) rfl ?_
                  refine g_getR ((q_15 _).trans rfl) (fun a168 => ?_)
                  refine g_iload ((q_15 _).trans rfl) rfl ?_
                  refine g_dup2 ((q_15 _).trans rfl) ?_
                  refine g_iald ((q_15 _).trans rfl) (fun v169 => ?_)
                  refine g_push ((q_15 _).trans rfl) ?_
                  refine g_iadd ((q_15 _).trans rfl) ?_
                  refine g_iast ((q_15 _).trans rfl) (fun G170 => ?_)
                  refine g_aload ((q_15 _).trans rfl) rfl ?_
                  refine g_getR ((q_15 _).trans rfl) (fun a171 => ?_)
                  refine g_iload ((q_15 _).trans rfl) rfl ?_
                  refine g_iald ((q_15 _).trans rfl) (fun v172 => ?_)
                  exact g_iret ((q_15 _).trans rfl)
                · refine g_push ((q_15 _).trans rfl) ?_
                  exact g_iret ((q_15 _).trans rfl)
            · refine g_push ((q_15 _).trans rfl) ?_
              refine g_goto ((q_15 _).trans rfl) ?_
              refine g_callV (kk := 1) ((q_15 _).trans rfl) (gHn m_15) rfl (by exact ⟨Nat.le_of_ble_eq_true rfl, rfl⟩) rfl (fun w G173 => gm_I (fun v174 hw => ?_))
              subst hw
              refine g_ifeq ((q_15 _).trans rfl) (fun _ => ?_) (fun _ => ?_)
              · refine g_aload ((q_15 _).trans rfl) rfl ?_
                refine g_getR ((q_15 _).trans rfl) (fun a175 => ?_)
                refine g_iload ((q_15 _).trans rfl) rfl ?_
                refine g_push ((q_15 _).trans rfl) ?_
                refine g_zast ((q_15 _).trans rfl) (fun G176 => ?_)
                refine g_aload ((q_15 _).trans rfl) rfl ?_
                refine g_getR ((q_15 _).trans rfl) (fun a177 => ?_)
                refine g_iload ((q_15 _).trans rfl) rfl ?_
                refine g_dup2 ((q_15 _).trans rfl) ?_
                refine g_iald ((q_15 _).trans rfl) (fun v178 => ?_)
                refine g_push ((q_15 _).trans rfl) ?_
                refine g_iadd ((q_15 _).trans rfl) ?_
                refine g_iast ((q_15 _).trans rfl) (fun G179 => ?_)
                refine g_aload ((q_15 _).trans rfl) rfl ?_
                refine g_getR ((q_15 _).trans rfl) (fun a180 => ?_)
                refine g_iload ((q_15 _).trans rfl) rfl ?_
                refine g_iald ((q_15 _).trans rfl) (fun v181 => ?_)
                exact g_iret ((q_15 _).trans rfl)
              · refine g_push ((q_15 _).trans rfl) ?_
                exact g_iret ((q_15 _).trans rfl)
          · refine g_push ((q_15 _).trans rfl) ?_
            refine g_goto ((q_15 _).trans rfl) ?_
            refine g_callV (kk := 1) ((q_15 _).trans rfl) (gHn m_15) rfl (by exact ⟨Nat.le_of_ble_eq_true rfl, rfl⟩) rfl (fun w G182 => gm_I (fun v183 hw => ?_))
            subst hw
            refine g_ifeq ((q_15 _).trans rfl) (fun _ => ?_) (fun _ => ?_)
            · refine g_aload ((q_15 _).trans rfl) rfl ?_
              refine g_getR ((q_15 _).trans rfl) (fun a184 => ?_)
              refine g_iload ((q_15 _).trans rfl) rfl ?_
              refine g_push ((q_15 _).trans rfl) ?_
              refine g_zast ((q_15 _).trans rfl) (fun G185 => ?_)
              refine g_aload ((q_15 _).trans rfl) rfl ?_
              refine g_getR ((q_15 _).trans rfl) (fun a186 => ?_)
              refine g_iload ((q_15 _).trans rfl) rfl ?_
              refine g_dup2 ((q_15 _).trans rfl) ?_
              refine g_iald ((q_15 _).trans rfl) (fun v187 => ?_)
              refine g_push ((q_15 _).trans rfl) ?_
              refine g_iadd ((q_15 _).trans rfl) ?_
              refine g_iast ((q_15 _).trans rfl) (fun G188 => ?_)
              refine g_aload ((q_15 _).trans rfl) rfl ?_
              refine g_getR ((q_15 _).trans rfl) (fun a189 => ?_)
              refine g_iload ((q_15 _).trans rfl) rfl ?_
              refine g_iald ((q_15 _).trans rfl) (fun v190 => ?_)
              exact g_iret ((q_15 _).trans rfl)
            · refine g_push ((q_15 _).trans rfl) ?_
              exact g_iret ((q_15 _).trans rfl)
theorem c_15 {K : gK} {d : Nat} {l0 : Nat} {l1 : Int32} {l2 : Int32} {l3 : Int32} {G : gH} : gle (t_15_0 K d l0 l1 l2 l3 G) (gCa K (d + 1) 15 [.ref l0, .int l1, .int l2, .int l3] G) := by
  have h : gent (gMx 15) [.ref l0, .int l1, .int l2, .int l3] = [some (.ref l0), some (.int l1), some (.int l2), some (.int l3), none, none] := by
    show gent (gT 15).2.2.2.1 _ = _
    rw [m_15]; rfl
  exact fun r e => (congrArg (fun q => gRn K d 15 0 q [] G) h).trans (e_15_0 r e)
theorem q_17 {K : gK} (pc : Nat) : gP K 17 pc = ((gL_17 K).lookup pc).getD o_none := rfl
noncomputable def t_17_0_1 (K : gK) (d : Nat) (v8 : Int32) (G14 : gH) : Option gO := some (.inl (some (.int v8)), G14)
noncomputable def t_17_0_2 (K : gK) (d : Nat) (G12 : gH) (l1 : Int32) (l4 : Int32) (v8 : Int32) (a13 : Nat) : Option gO := yI G12 a13 0 l1 l4 (t_17_0_1 K d v8)
noncomputable def t_17_0_3 (K : gK) (d : Nat) (l0 : Nat) (l1 : Int32) (l4 : Int32) (v8 : Int32) (G12 : gH) : Option gO := rR G12 l0 3 14 (t_17_0_2 K d G12 l1 l4 v8)
noncomputable def t_17_0_4 (K : gK) (d : Nat) (G10 : gH) (l1 : Int32) (l3 : Int32) (l0 : Nat) (l4 : Int32) (v8 : Int32) (a11 : Nat) : Option gO := yI G10 a11 0 l1 l3 (t_17_0_3 K d l0 l1 l4 v8)
noncomputable def t_17_0_5 (K : gK) (d : Nat) (l0 : Nat) (l1 : Int32) (l3 : Int32) (l4 : Int32) (v8 : Int32) (G10 : gH) : Option gO := rR G10 l0 3 13 (t_17_0_4 K d G10 l1 l3 l0 l4 v8)
noncomputable def t_17_0_6 (K : gK) (d : Nat) (G5 : gH) (l1 : Int32) (l2 : Int32) (l0 : Nat) (l3 : Int32) (l4 : Int32) (v8 : Int32) (a9 : Nat) : Option gO := yI G5 a9 0 l1 l2 (t_17_0_5 K d l0 l1 l3 l4 v8)
noncomputable def t_17_0_7 (K : gK) (d : Nat) (G5 : gH) (l0 : Nat) (l1 : Int32) (l2 : Int32) (l3 : Int32) (l4 : Int32) (v8 : Int32) : Option gO := rR G5 l0 3 12 (t_17_0_6 K d G5 l1 l2 l0 l3 l4 v8)
noncomputable def t_17_0_8 (K : gK) (d : Nat) (G5 : gH) (l1 : Int32) (l0 : Nat) (l2 : Int32) (l3 : Int32) (l4 : Int32) (a7 : Nat) : Option gO := xI G5 a7 0 l1 (t_17_0_7 K d G5 l0 l1 l2 l3 l4)
noncomputable def t_17_0_9 (K : gK) (d : Nat) (l0 : Nat) (l1 : Int32) (l2 : Int32) (l3 : Int32) (l4 : Int32) (v6 : Int32) (G5 : gH) : Option gO := if v6 = 0 then (rR G5 l0 3 12 (t_17_0_8 K d G5 l1 l0 l2 l3 l4)) else (some (.inl (some (.int (0 : Int32))), G5))
noncomputable def t_17_0_10 (K : gK) (d : Nat) (v18 : Int32) (G24 : gH) : Option gO := some (.inl (some (.int v18)), G24)
noncomputable def t_17_0_11 (K : gK) (d : Nat) (G22 : gH) (l1 : Int32) (l4 : Int32) (v18 : Int32) (a23 : Nat) : Option gO := yI G22 a23 0 l1 l4 (t_17_0_10 K d v18)
noncomputable def t_17_0_12 (K : gK) (d : Nat) (l0 : Nat) (l1 : Int32) (l4 : Int32) (v18 : Int32) (G22 : gH) : Option gO := rR G22 l0 3 14 (t_17_0_11 K d G22 l1 l4 v18)
noncomputable def t_17_0_13 (K : gK) (d : Nat) (G20 : gH) (l1 : Int32) (l3 : Int32) (l0 : Nat) (l4 : Int32) (v18 : Int32) (a21 : Nat) : Option gO := yI G20 a21 0 l1 l3 (t_17_0_12 K d l0 l1 l4 v18)
noncomputable def t_17_0_14 (K : gK) (d : Nat) (l0 : Nat) (l1 : Int32) (l3 : Int32) (l4 : Int32) (v18 : Int32) (G20 : gH) : Option gO := rR G20 l0 3 13 (t_17_0_13 K d G20 l1 l3 l0 l4 v18)
noncomputable def t_17_0_15 (K : gK) (d : Nat) (G15 : gH) (l1 : Int32) (l2 : Int32) (l0 : Nat) (l3 : Int32) (l4 : Int32) (v18 : Int32) (a19 : Nat) : Option gO := yI G15 a19 0 l1 l2 (t_17_0_14 K d l0 l1 l3 l4 v18)
noncomputable def t_17_0_16 (K : gK) (d : Nat) (G15 : gH) (l0 : Nat) (l1 : Int32) (l2 : Int32) (l3 : Int32) (l4 : Int32) (v18 : Int32) : Option gO := rR G15 l0 3 12 (t_17_0_15 K d G15 l1 l2 l0 l3 l4 v18)
noncomputable def t_17_0_17 (K : gK) (d : Nat) (G15 : gH) (l1 : Int32) (l0 : Nat) (l2 : Int32) (l3 : Int32) (l4 : Int32) (a17 : Nat) : Option gO := xI G15 a17 0 l1 (t_17_0_16 K d G15 l0 l1 l2 l3 l4)
noncomputable def t_17_0_18 (K : gK) (d : Nat) (l0 : Nat) (l1 : Int32) (l2 : Int32) (l3 : Int32) (l4 : Int32) (v16 : Int32) (G15 : gH) : Option gO := if v16 = 0 then (rR G15 l0 3 12 (t_17_0_17 K d G15 l1 l0 l2 l3 l4)) else (some (.inl (some (.int (0 : Int32))), G15))
noncomputable def t_17_0_19 (K : gK) (d : Nat) (v30 : Int32) (G36 : gH) : Option gO := some (.inl (some (.int v30)), G36)
noncomputable def t_17_0_20 (K : gK) (d : Nat) (G34 : gH) (l1 : Int32) (l4 : Int32) (v30 : Int32) (a35 : Nat) : Option gO := yI G34 a35 0 l1 l4 (t_17_0_19 K d v30)
noncomputable def t_17_0_21 (K : gK) (d : Nat) (l0 : Nat) (l1 : Int32) (l4 : Int32) (v30 : Int32) (G34 : gH) : Option gO := rR G34 l0 3 14 (t_17_0_20 K d G34 l1 l4 v30)
noncomputable def t_17_0_22 (K : gK) (d : Nat) (G32 : gH) (l1 : Int32) (l3 : Int32) (l0 : Nat) (l4 : Int32) (v30 : Int32) (a33 : Nat) : Option gO := yI G32 a33 0 l1 l3 (t_17_0_21 K d l0 l1 l4 v30)
noncomputable def t_17_0_23 (K : gK) (d : Nat) (l0 : Nat) (l1 : Int32) (l3 : Int32) (l4 : Int32) (v30 : Int32) (G32 : gH) : Option gO := rR G32 l0 3 13 (t_17_0_22 K d G32 l1 l3 l0 l4 v30)
noncomputable def t_17_0_24 (K : gK) (d : Nat) (G27 : gH) (l1 : Int32) (l2 : Int32) (l0 : Nat) (l3 : Int32) (l4 : Int32) (v30 : Int32) (a31 : Nat) : Option gO := yI G27 a31 0 l1 l2 (t_17_0_23 K d l0 l1 l3 l4 v30)
noncomputable def t_17_0_25 (K : gK) (d : Nat) (G27 : gH) (l0 : Nat) (l1 : Int32) (l2 : Int32) (l3 : Int32) (l4 : Int32) (v30 : Int32) : Option gO := rR G27 l0 3 12 (t_17_0_24 K d G27 l1 l2 l0 l3 l4 v30)
noncomputable def t_17_0_26 (K : gK) (d : Nat) (G27 : gH) (l1 : Int32) (l0 : Nat) (l2 : Int32) (l3 : Int32) (l4 : Int32) (a29 : Nat) : Option gO := xI G27 a29 0 l1 (t_17_0_25 K d G27 l0 l1 l2 l3 l4)
noncomputable def t_17_0_27 (K : gK) (d : Nat) (l0 : Nat) (l1 : Int32) (l2 : Int32) (l3 : Int32) (l4 : Int32) (v28 : Int32) (G27 : gH) : Option gO := if v28 = 0 then (rR G27 l0 3 12 (t_17_0_26 K d G27 l1 l0 l2 l3 l4)) else (some (.inl (some (.int (0 : Int32))), G27))
noncomputable def t_17_0_28 (K : gK) (d : Nat) (v40 : Int32) (G46 : gH) : Option gO := some (.inl (some (.int v40)), G46)
noncomputable def t_17_0_29 (K : gK) (d : Nat) (G44 : gH) (l1 : Int32) (l4 : Int32) (v40 : Int32) (a45 : Nat) : Option gO := yI G44 a45 0 l1 l4 (t_17_0_28 K d v40)
noncomputable def t_17_0_30 (K : gK) (d : Nat) (l0 : Nat) (l1 : Int32) (l4 : Int32) (v40 : Int32) (G44 : gH) : Option gO := rR G44 l0 3 14 (t_17_0_29 K d G44 l1 l4 v40)
noncomputable def t_17_0_31 (K : gK) (d : Nat) (G42 : gH) (l1 : Int32) (l3 : Int32) (l0 : Nat) (l4 : Int32) (v40 : Int32) (a43 : Nat) : Option gO := yI G42 a43 0 l1 l3 (t_17_0_30 K d l0 l1 l4 v40)
noncomputable def t_17_0_32 (K : gK) (d : Nat) (l0 : Nat) (l1 : Int32) (l3 : Int32) (l4 : Int32) (v40 : Int32) (G42 : gH) : Option gO := rR G42 l0 3 13 (t_17_0_31 K d G42 l1 l3 l0 l4 v40)
noncomputable def t_17_0_33 (K : gK) (d : Nat) (G37 : gH) (l1 : Int32) (l2 : Int32) (l0 : Nat) (l3 : Int32) (l4 : Int32) (v40 : Int32) (a41 : Nat) : Option gO := yI G37 a41 0 l1 l2 (t_17_0_32 K d l0 l1 l3 l4 v40)
noncomputable def t_17_0_34 (K : gK) (d : Nat) (G37 : gH) (l0 : Nat) (l1 : Int32) (l2 : Int32) (l3 : Int32) (l4 : Int32) (v40 : Int32) : Option gO := rR G37 l0 3 12 (t_17_0_33 K d G37 l1 l2 l0 l3 l4 v40)
noncomputable def t_17_0_35 (K : gK) (d : Nat) (G37 : gH) (l1 : Int32) (l0 : Nat) (l2 : Int32) (l3 : Int32) (l4 : Int32) (a39 : Nat) : Option gO := xI G37 a39 0 l1 (t_17_0_34 K d G37 l0 l1 l2 l3 l4)
noncomputable def t_17_0_36 (K : gK) (d : Nat) (l0 : Nat) (l1 : Int32) (l2 : Int32) (l3 : Int32) (l4 : Int32) (v38 : Int32) (G37 : gH) : Option gO := if v38 = 0 then (rR G37 l0 3 12 (t_17_0_35 K d G37 l1 l0 l2 l3 l4)) else (some (.inl (some (.int (0 : Int32))), G37))
noncomputable def t_17_0_37 (K : gK) (d : Nat) (l0 : Nat) (l1 : Int32) (l2 : Int32) (l3 : Int32) (l4 : Int32) (v26 : Int32) (G25 : gH) : Option gO := if v26 = 0 then (if g_cls G25 l0 = some 3 then (cI (gCa K d 90 [.ref l0, .int (0 : Int32)] G25) (t_17_0_27 K d l0 l1 l2 l3 l4)) else none) else (if g_cls G25 l0 = some 3 then (cI (gCa K d 90 [.ref l0, .int (3 : Int32)] G25) (t_17_0_36 K d l0 l1 l2 l3 l4)) else none)
noncomputable def t_17_0_38 (K : gK) (d : Nat) (l0 : Nat) (l1 : Int32) (l2 : Int32) (l3 : Int32) (l4 : Int32) (v4 : Int32) (G3 : gH) : Option gO := if v4 = 0 then (if g_cls G3 l0 = some 3 then (cI (gCa K d 90 [.ref l0, .int (1 : Int32)] G3) (t_17_0_9 K d l0 l1 l2 l3 l4)) else none) else (if (0 : Int32) = 0 then (if g_cls G3 l0 = some 3 then (cI (gCa K d 90 [.ref l0, .int (2 : Int32)] G3) (t_17_0_18 K d l0 l1 l2 l3 l4)) else none) else (if g_cls G3 l0 = some 3 then (cI (gCa K d 97 [.ref l0, .int l1] G3) (t_17_0_37 K d l0 l1 l2 l3 l4)) else none))
noncomputable def t_17_0_39 (K : gK) (d : Nat) (v54 : Int32) (G60 : gH) : Option gO := some (.inl (some (.int v54)), G60)
noncomputable def t_17_0_40 (K : gK) (d : Nat) (G58 : gH) (l1 : Int32) (l4 : Int32) (v54 : Int32) (a59 : Nat) : Option gO := yI G58 a59 0 l1 l4 (t_17_0_39 K d v54)
noncomputable def t_17_0_41 (K : gK) (d : Nat) (l0 : Nat) (l1 : Int32) (l4 : Int32) (v54 : Int32) (G58 : gH) : Option gO := rR G58 l0 3 14 (t_17_0_40 K d G58 l1 l4 v54)
noncomputable def t_17_0_42 (K : gK) (d : Nat) (G56 : gH) (l1 : Int32) (l3 : Int32) (l0 : Nat) (l4 : Int32) (v54 : Int32) (a57 : Nat) : Option gO := yI G56 a57 0 l1 l3 (t_17_0_41 K d l0 l1 l4 v54)
noncomputable def t_17_0_43 (K : gK) (d : Nat) (l0 : Nat) (l1 : Int32) (l3 : Int32) (l4 : Int32) (v54 : Int32) (G56 : gH) : Option gO := rR G56 l0 3 13 (t_17_0_42 K d G56 l1 l3 l0 l4 v54)
noncomputable def t_17_0_44 (K : gK) (d : Nat) (G51 : gH) (l1 : Int32) (l2 : Int32) (l0 : Nat) (l3 : Int32) (l4 : Int32) (v54 : Int32) (a55 : Nat) : Option gO := yI G51 a55 0 l1 l2 (t_17_0_43 K d l0 l1 l3 l4 v54)
noncomputable def t_17_0_45 (K : gK) (d : Nat) (G51 : gH) (l0 : Nat) (l1 : Int32) (l2 : Int32) (l3 : Int32) (l4 : Int32) (v54 : Int32) : Option gO := rR G51 l0 3 12 (t_17_0_44 K d G51 l1 l2 l0 l3 l4 v54)
noncomputable def t_17_0_46 (K : gK) (d : Nat) (G51 : gH) (l1 : Int32) (l0 : Nat) (l2 : Int32) (l3 : Int32) (l4 : Int32) (a53 : Nat) : Option gO := xI G51 a53 0 l1 (t_17_0_45 K d G51 l0 l1 l2 l3 l4)
noncomputable def t_17_0_47 (K : gK) (d : Nat) (l0 : Nat) (l1 : Int32) (l2 : Int32) (l3 : Int32) (l4 : Int32) (v52 : Int32) (G51 : gH) : Option gO := if v52 = 0 then (rR G51 l0 3 12 (t_17_0_46 K d G51 l1 l0 l2 l3 l4)) else (some (.inl (some (.int (0 : Int32))), G51))
noncomputable def t_17_0_48 (K : gK) (d : Nat) (v64 : Int32) (G70 : gH) : Option gO := some (.inl (some (.int v64)), G70)
noncomputable def t_17_0_49 (K : gK) (d : Nat) (G68 : gH) (l1 : Int32) (l4 : Int32) (v64 : Int32) (a69 : Nat) : Option gO := yI G68 a69 0 l1 l4 (t_17_0_48 K d v64)
noncomputable def t_17_0_50 (K : gK) (d : Nat) (l0 : Nat) (l1 : Int32) (l4 : Int32) (v64 : Int32) (G68 : gH) : Option gO := rR G68 l0 3 14 (t_17_0_49 K d G68 l1 l4 v64)
noncomputable def t_17_0_51 (K : gK) (d : Nat) (G66 : gH) (l1 : Int32) (l3 : Int32) (l0 : Nat) (l4 : Int32) (v64 : Int32) (a67 : Nat) : Option gO := yI G66 a67 0 l1 l3 (t_17_0_50 K d l0 l1 l4 v64)
noncomputable def t_17_0_52 (K : gK) (d : Nat) (l0 : Nat) (l1 : Int32) (l3 : Int32) (l4 : Int32) (v64 : Int32) (G66 : gH) : Option gO := rR G66 l0 3 13 (t_17_0_51 K d G66 l1 l3 l0 l4 v64)
noncomputable def t_17_0_53 (K : gK) (d : Nat) (G61 : gH) (l1 : Int32) (l2 : Int32) (l0 : Nat) (l3 : Int32) (l4 : Int32) (v64 : Int32) (a65 : Nat) : Option gO := yI G61 a65 0 l1 l2 (t_17_0_52 K d l0 l1 l3 l4 v64)
noncomputable def t_17_0_54 (K : gK) (d : Nat) (G61 : gH) (l0 : Nat) (l1 : Int32) (l2 : Int32) (l3 : Int32) (l4 : Int32) (v64 : Int32) : Option gO := rR G61 l0 3 12 (t_17_0_53 K d G61 l1 l2 l0 l3 l4 v64)
noncomputable def t_17_0_55 (K : gK) (d : Nat) (G61 : gH) (l1 : Int32) (l0 : Nat) (l2 : Int32) (l3 : Int32) (l4 : Int32) (a63 : Nat) : Option gO := xI G61 a63 0 l1 (t_17_0_54 K d G61 l0 l1 l2 l3 l4)
noncomputable def t_17_0_56 (K : gK) (d : Nat) (l0 : Nat) (l1 : Int32) (l2 : Int32) (l3 : Int32) (l4 : Int32) (v62 : Int32) (G61 : gH) : Option gO := if v62 = 0 then (rR G61 l0 3 12 (t_17_0_55 K d G61 l1 l0 l2 l3 l4)) else (some (.inl (some (.int (0 : Int32))), G61))
noncomputable def t_17_0_57 (K : gK) (d : Nat) (v76 : Int32) (G82 : gH) : Option gO := some (.inl (some (.int v76)), G82)
noncomputable def t_17_0_58 (K : gK) (d : Nat) (G80 : gH) (l1 : Int32) (l4 : Int32) (v76 : Int32) (a81 : Nat) : Option gO := yI G80 a81 0 l1 l4 (t_17_0_57 K d v76)
noncomputable def t_17_0_59 (K : gK) (d : Nat) (l0 : Nat) (l1 : Int32) (l4 : Int32) (v76 : Int32) (G80 : gH) : Option gO := rR G80 l0 3 14 (t_17_0_58 K d G80 l1 l4 v76)
noncomputable def t_17_0_60 (K : gK) (d : Nat) (G78 : gH) (l1 : Int32) (l3 : Int32) (l0 : Nat) (l4 : Int32) (v76 : Int32) (a79 : Nat) : Option gO := yI G78 a79 0 l1 l3 (t_17_0_59 K d l0 l1 l4 v76)
noncomputable def t_17_0_61 (K : gK) (d : Nat) (l0 : Nat) (l1 : Int32) (l3 : Int32) (l4 : Int32) (v76 : Int32) (G78 : gH) : Option gO := rR G78 l0 3 13 (t_17_0_60 K d G78 l1 l3 l0 l4 v76)
noncomputable def t_17_0_62 (K : gK) (d : Nat) (G73 : gH) (l1 : Int32) (l2 : Int32) (l0 : Nat) (l3 : Int32) (l4 : Int32) (v76 : Int32) (a77 : Nat) : Option gO := yI G73 a77 0 l1 l2 (t_17_0_61 K d l0 l1 l3 l4 v76)
noncomputable def t_17_0_63 (K : gK) (d : Nat) (G73 : gH) (l0 : Nat) (l1 : Int32) (l2 : Int32) (l3 : Int32) (l4 : Int32) (v76 : Int32) : Option gO := rR G73 l0 3 12 (t_17_0_62 K d G73 l1 l2 l0 l3 l4 v76)
noncomputable def t_17_0_64 (K : gK) (d : Nat) (G73 : gH) (l1 : Int32) (l0 : Nat) (l2 : Int32) (l3 : Int32) (l4 : Int32) (a75 : Nat) : Option gO := xI G73 a75 0 l1 (t_17_0_63 K d G73 l0 l1 l2 l3 l4)
noncomputable def t_17_0_65 (K : gK) (d : Nat) (l0 : Nat) (l1 : Int32) (l2 : Int32) (l3 : Int32) (l4 : Int32) (v74 : Int32) (G73 : gH) : Option gO := if v74 = 0 then (rR G73 l0 3 12 (t_17_0_64 K d G73 l1 l0 l2 l3 l4)) else (some (.inl (some (.int (0 : Int32))), G73))
noncomputable def t_17_0_66 (K : gK) (d : Nat) (v86 : Int32) (G92 : gH) : Option gO := some (.inl (some (.int v86)), G92)
noncomputable def t_17_0_67 (K : gK) (d : Nat) (G90 : gH) (l1 : Int32) (l4 : Int32) (v86 : Int32) (a91 : Nat) : Option gO := yI G90 a91 0 l1 l4 (t_17_0_66 K d v86)
noncomputable def t_17_0_68 (K : gK) (d : Nat) (l0 : Nat) (l1 : Int32) (l4 : Int32) (v86 : Int32) (G90 : gH) : Option gO := rR G90 l0 3 14 (t_17_0_67 K d G90 l1 l4 v86)
noncomputable def t_17_0_69 (K : gK) (d : Nat) (G88 : gH) (l1 : Int32) (l3 : Int32) (l0 : Nat) (l4 : Int32) (v86 : Int32) (a89 : Nat) : Option gO := yI G88 a89 0 l1 l3 (t_17_0_68 K d l0 l1 l4 v86)
noncomputable def t_17_0_70 (K : gK) (d : Nat) (l0 : Nat) (l1 : Int32) (l3 : Int32) (l4 : Int32) (v86 : Int32) (G88 : gH) : Option gO := rR G88 l0 3 13 (t_17_0_69 K d G88 l1 l3 l0 l4 v86)
noncomputable def t_17_0_71 (K : gK) (d : Nat) (G83 : gH) (l1 : Int32) (l2 : Int32) (l0 : Nat) (l3 : Int32) (l4 : Int32) (v86 : Int32) (a87 : Nat) : Option gO := yI G83 a87 0 l1 l2 (t_17_0_70 K d l0 l1 l3 l4 v86)
noncomputable def t_17_0_72 (K : gK) (d : Nat) (G83 : gH) (l0 : Nat) (l1 : Int32) (l2 : Int32) (l3 : Int32) (l4 : Int32) (v86 : Int32) : Option gO := rR G83 l0 3 12 (t_17_0_71 K d G83 l1 l2 l0 l3 l4 v86)
noncomputable def t_17_0_73 (K : gK) (d : Nat) (G83 : gH) (l1 : Int32) (l0 : Nat) (l2 : Int32) (l3 : Int32) (l4 : Int32) (a85 : Nat) : Option gO := xI G83 a85 0 l1 (t_17_0_72 K d G83 l0 l1 l2 l3 l4)
noncomputable def t_17_0_74 (K : gK) (d : Nat) (l0 : Nat) (l1 : Int32) (l2 : Int32) (l3 : Int32) (l4 : Int32) (v84 : Int32) (G83 : gH) : Option gO := if v84 = 0 then (rR G83 l0 3 12 (t_17_0_73 K d G83 l1 l0 l2 l3 l4)) else (some (.inl (some (.int (0 : Int32))), G83))
noncomputable def t_17_0_75 (K : gK) (d : Nat) (l0 : Nat) (l1 : Int32) (l2 : Int32) (l3 : Int32) (l4 : Int32) (v72 : Int32) (G71 : gH) : Option gO := if v72 = 0 then (if g_cls G71 l0 = some 3 then (cI (gCa K d 90 [.ref l0, .int (0 : Int32)] G71) (t_17_0_65 K d l0 l1 l2 l3 l4)) else none) else (if g_cls G71 l0 = some 3 then (cI (gCa K d 90 [.ref l0, .int (3 : Int32)] G71) (t_17_0_74 K d l0 l1 l2 l3 l4)) else none)
noncomputable def t_17_0_76 (K : gK) (d : Nat) (l0 : Nat) (l1 : Int32) (l2 : Int32) (l3 : Int32) (l4 : Int32) (v50 : Int32) (G49 : gH) : Option gO := if v50 = 0 then (if g_cls G49 l0 = some 3 then (cI (gCa K d 90 [.ref l0, .int (1 : Int32)] G49) (t_17_0_47 K d l0 l1 l2 l3 l4)) else none) else (if (0 : Int32) = 0 then (if g_cls G49 l0 = some 3 then (cI (gCa K d 90 [.ref l0, .int (2 : Int32)] G49) (t_17_0_56 K d l0 l1 l2 l3 l4)) else none) else (if g_cls G49 l0 = some 3 then (cI (gCa K d 97 [.ref l0, .int l1] G49) (t_17_0_75 K d l0 l1 l2 l3 l4)) else none))
noncomputable def t_17_0_77 (K : gK) (d : Nat) (v100 : Int32) (G106 : gH) : Option gO := some (.inl (some (.int v100)), G106)
noncomputable def t_17_0_78 (K : gK) (d : Nat) (G104 : gH) (l1 : Int32) (l4 : Int32) (v100 : Int32) (a105 : Nat) : Option gO := yI G104 a105 0 l1 l4 (t_17_0_77 K d v100)
noncomputable def t_17_0_79 (K : gK) (d : Nat) (l0 : Nat) (l1 : Int32) (l4 : Int32) (v100 : Int32) (G104 : gH) : Option gO := rR G104 l0 3 14 (t_17_0_78 K d G104 l1 l4 v100)
noncomputable def t_17_0_80 (K : gK) (d : Nat) (G102 : gH) (l1 : Int32) (l3 : Int32) (l0 : Nat) (l4 : Int32) (v100 : Int32) (a103 : Nat) : Option gO := yI G102 a103 0 l1 l3 (t_17_0_79 K d l0 l1 l4 v100)
noncomputable def t_17_0_81 (K : gK) (d : Nat) (l0 : Nat) (l1 : Int32) (l3 : Int32) (l4 : Int32) (v100 : Int32) (G102 : gH) : Option gO := rR G102 l0 3 13 (t_17_0_80 K d G102 l1 l3 l0 l4 v100)
noncomputable def t_17_0_82 (K : gK) (d : Nat) (G97 : gH) (l1 : Int32) (l2 : Int32) (l0 : Nat) (l3 : Int32) (l4 : Int32) (v100 : Int32) (a101 : Nat) : Option gO := yI G97 a101 0 l1 l2 (t_17_0_81 K d l0 l1 l3 l4 v100)
noncomputable def t_17_0_83 (K : gK) (d : Nat) (G97 : gH) (l0 : Nat) (l1 : Int32) (l2 : Int32) (l3 : Int32) (l4 : Int32) (v100 : Int32) : Option gO := rR G97 l0 3 12 (t_17_0_82 K d G97 l1 l2 l0 l3 l4 v100)
noncomputable def t_17_0_84 (K : gK) (d : Nat) (G97 : gH) (l1 : Int32) (l0 : Nat) (l2 : Int32) (l3 : Int32) (l4 : Int32) (a99 : Nat) : Option gO := xI G97 a99 0 l1 (t_17_0_83 K d G97 l0 l1 l2 l3 l4)
noncomputable def t_17_0_85 (K : gK) (d : Nat) (l0 : Nat) (l1 : Int32) (l2 : Int32) (l3 : Int32) (l4 : Int32) (v98 : Int32) (G97 : gH) : Option gO := if v98 = 0 then (rR G97 l0 3 12 (t_17_0_84 K d G97 l1 l0 l2 l3 l4)) else (some (.inl (some (.int (0 : Int32))), G97))
noncomputable def t_17_0_86 (K : gK) (d : Nat) (v110 : Int32) (G116 : gH) : Option gO := some (.inl (some (.int v110)), G116)
noncomputable def t_17_0_87 (K : gK) (d : Nat) (G114 : gH) (l1 : Int32) (l4 : Int32) (v110 : Int32) (a115 : Nat) : Option gO := yI G114 a115 0 l1 l4 (t_17_0_86 K d v110)
noncomputable def t_17_0_88 (K : gK) (d : Nat) (l0 : Nat) (l1 : Int32) (l4 : Int32) (v110 : Int32) (G114 : gH) : Option gO := rR G114 l0 3 14 (t_17_0_87 K d G114 l1 l4 v110)
noncomputable def t_17_0_89 (K : gK) (d : Nat) (G112 : gH) (l1 : Int32) (l3 : Int32) (l0 : Nat) (l4 : Int32) (v110 : Int32) (a113 : Nat) : Option gO := yI G112 a113 0 l1 l3 (t_17_0_88 K d l0 l1 l4 v110)
noncomputable def t_17_0_90 (K : gK) (d : Nat) (l0 : Nat) (l1 : Int32) (l3 : Int32) (l4 : Int32) (v110 : Int32) (G112 : gH) : Option gO := rR G112 l0 3 13 (t_17_0_89 K d G112 l1 l3 l0 l4 v110)
noncomputable def t_17_0_91 (K : gK) (d : Nat) (G107 : gH) (l1 : Int32) (l2 : Int32) (l0 : Nat) (l3 : Int32) (l4 : Int32) (v110 : Int32) (a111 : Nat) : Option gO := yI G107 a111 0 l1 l2 (t_17_0_90 K d l0 l1 l3 l4 v110)
noncomputable def t_17_0_92 (K : gK) (d : Nat) (G107 : gH) (l0 : Nat) (l1 : Int32) (l2 : Int32) (l3 : Int32) (l4 : Int32) (v110 : Int32) : Option gO := rR G107 l0 3 12 (t_17_0_91 K d G107 l1 l2 l0 l3 l4 v110)
noncomputable def t_17_0_93 (K : gK) (d : Nat) (G107 : gH) (l1 : Int32) (l0 : Nat) (l2 : Int32) (l3 : Int32) (l4 : Int32) (a109 : Nat) : Option gO := xI G107 a109 0 l1 (t_17_0_92 K d G107 l0 l1 l2 l3 l4)
noncomputable def t_17_0_94 (K : gK) (d : Nat) (l0 : Nat) (l1 : Int32) (l2 : Int32) (l3 : Int32) (l4 : Int32) (v108 : Int32) (G107 : gH) : Option gO := if v108 = 0 then (rR G107 l0 3 12 (t_17_0_93 K d G107 l1 l0 l2 l3 l4)) else (some (.inl (some (.int (0 : Int32))), G107))
noncomputable def t_17_0_95 (K : gK) (d : Nat) (v122 : Int32) (G128 : gH) : Option gO := some (.inl (some (.int v122)), G128)
noncomputable def t_17_0_96 (K : gK) (d : Nat) (G126 : gH) (l1 : Int32) (l4 : Int32) (v122 : Int32) (a127 : Nat) : Option gO := yI G126 a127 0 l1 l4 (t_17_0_95 K d v122)
noncomputable def t_17_0_97 (K : gK) (d : Nat) (l0 : Nat) (l1 : Int32) (l4 : Int32) (v122 : Int32) (G126 : gH) : Option gO := rR G126 l0 3 14 (t_17_0_96 K d G126 l1 l4 v122)
noncomputable def t_17_0_98 (K : gK) (d : Nat) (G124 : gH) (l1 : Int32) (l3 : Int32) (l0 : Nat) (l4 : Int32) (v122 : Int32) (a125 : Nat) : Option gO := yI G124 a125 0 l1 l3 (t_17_0_97 K d l0 l1 l4 v122)
noncomputable def t_17_0_99 (K : gK) (d : Nat) (l0 : Nat) (l1 : Int32) (l3 : Int32) (l4 : Int32) (v122 : Int32) (G124 : gH) : Option gO := rR G124 l0 3 13 (t_17_0_98 K d G124 l1 l3 l0 l4 v122)
noncomputable def t_17_0_100 (K : gK) (d : Nat) (G119 : gH) (l1 : Int32) (l2 : Int32) (l0 : Nat) (l3 : Int32) (l4 : Int32) (v122 : Int32) (a123 : Nat) : Option gO := yI G119 a123 0 l1 l2 (t_17_0_99 K d l0 l1 l3 l4 v122)
noncomputable def t_17_0_101 (K : gK) (d : Nat) (G119 : gH) (l0 : Nat) (l1 : Int32) (l2 : Int32) (l3 : Int32) (l4 : Int32) (v122 : Int32) : Option gO := rR G119 l0 3 12 (t_17_0_100 K d G119 l1 l2 l0 l3 l4 v122)
noncomputable def t_17_0_102 (K : gK) (d : Nat) (G119 : gH) (l1 : Int32) (l0 : Nat) (l2 : Int32) (l3 : Int32) (l4 : Int32) (a121 : Nat) : Option gO := xI G119 a121 0 l1 (t_17_0_101 K d G119 l0 l1 l2 l3 l4)
noncomputable def t_17_0_103 (K : gK) (d : Nat) (l0 : Nat) (l1 : Int32) (l2 : Int32) (l3 : Int32) (l4 : Int32) (v120 : Int32) (G119 : gH) : Option gO := if v120 = 0 then (rR G119 l0 3 12 (t_17_0_102 K d G119 l1 l0 l2 l3 l4)) else (some (.inl (some (.int (0 : Int32))), G119))
noncomputable def t_17_0_104 (K : gK) (d : Nat) (v132 : Int32) (G138 : gH) : Option gO := some (.inl (some (.int v132)), G138)
noncomputable def t_17_0_105 (K : gK) (d : Nat) (G136 : gH) (l1 : Int32) (l4 : Int32) (v132 : Int32) (a137 : Nat) : Option gO := yI G136 a137 0 l1 l4 (t_17_0_104 K d v132)
noncomputable def t_17_0_106 (K : gK) (d : Nat) (l0 : Nat) (l1 : Int32) (l4 : Int32) (v132 : Int32) (G136 : gH) : Option gO := rR G136 l0 3 14 (t_17_0_105 K d G136 l1 l4 v132)
noncomputable def t_17_0_107 (K : gK) (d : Nat) (G134 : gH) (l1 : Int32) (l3 : Int32) (l0 : Nat) (l4 : Int32) (v132 : Int32) (a135 : Nat) : Option gO := yI G134 a135 0 l1 l3 (t_17_0_106 K d l0 l1 l4 v132)
noncomputable def t_17_0_108 (K : gK) (d : Nat) (l0 : Nat) (l1 : Int32) (l3 : Int32) (l4 : Int32) (v132 : Int32) (G134 : gH) : Option gO := rR G134 l0 3 13 (t_17_0_107 K d G134 l1 l3 l0 l4 v132)
noncomputable def t_17_0_109 (K : gK) (d : Nat) (G129 : gH) (l1 : Int32) (l2 : Int32) (l0 : Nat) (l3 : Int32) (l4 : Int32) (v132 : Int32) (a133 : Nat) : Option gO := yI G129 a133 0 l1 l2 (t_17_0_108 K d l0 l1 l3 l4 v132)
noncomputable def t_17_0_110 (K : gK) (d : Nat) (G129 : gH) (l0 : Nat) (l1 : Int32) (l2 : Int32) (l3 : Int32) (l4 : Int32) (v132 : Int32) : Option gO := rR G129 l0 3 12 (t_17_0_109 K d G129 l1 l2 l0 l3 l4 v132)
noncomputable def t_17_0_111 (K : gK) (d : Nat) (G129 : gH) (l1 : Int32) (l0 : Nat) (l2 : Int32) (l3 : Int32) (l4 : Int32) (a131 : Nat) : Option gO := xI G129 a131 0 l1 (t_17_0_110 K d G129 l0 l1 l2 l3 l4)
noncomputable def t_17_0_112 (K : gK) (d : Nat) (l0 : Nat) (l1 : Int32) (l2 : Int32) (l3 : Int32) (l4 : Int32) (v130 : Int32) (G129 : gH) : Option gO := if v130 = 0 then (rR G129 l0 3 12 (t_17_0_111 K d G129 l1 l0 l2 l3 l4)) else (some (.inl (some (.int (0 : Int32))), G129))
noncomputable def t_17_0_113 (K : gK) (d : Nat) (l0 : Nat) (l1 : Int32) (l2 : Int32) (l3 : Int32) (l4 : Int32) (v118 : Int32) (G117 : gH) : Option gO := if v118 = 0 then (if g_cls G117 l0 = some 3 then (cI (gCa K d 90 [.ref l0, .int (0 : Int32)] G117) (t_17_0_103 K d l0 l1 l2 l3 l4)) else none) else (if g_cls G117 l0 = some 3 then (cI (gCa K d 90 [.ref l0, .int (3 : Int32)] G117) (t_17_0_112 K d l0 l1 l2 l3 l4)) else none)
noncomputable def t_17_0_114 (K : gK) (d : Nat) (l0 : Nat) (l1 : Int32) (l2 : Int32) (l3 : Int32) (l4 : Int32) (v96 : Int32) (G95 : gH) : Option gO := if v96 = 0 then (if g_cls G95 l0 = some 3 then (cI (gCa K d 90 [.ref l0, .int (1 : Int32)] G95) (t_17_0_85 K d l0 l1 l2 l3 l4)) else none) else (if (0 : Int32) = 0 then (if g_cls G95 l0 = some 3 then (cI (gCa K d 90 [.ref l0, .int (2 : Int32)] G95) (t_17_0_94 K d l0 l1 l2 l3 l4)) else none) else (if g_cls G95 l0 = some 3 then (cI (gCa K d 97 [.ref l0, .int l1] G95) (t_17_0_113 K d l0 l1 l2 l3 l4)) else none))
noncomputable def t_17_0_115 (K : gK) (d : Nat) (v144 : Int32) (G150 : gH) : Option gO := some (.inl (some (.int v144)), G150)
noncomputable def t_17_0_116 (K : gK) (d : Nat) (G148 : gH) (l1 : Int32) (l4 : Int32) (v144 : Int32) (a149 : Nat) : Option gO := yI G148 a149 0 l1 l4 (t_17_0_115 K d v144)
noncomputable def t_17_0_117 (K : gK) (d : Nat) (l0 : Nat) (l1 : Int32) (l4 : Int32) (v144 : Int32) (G148 : gH) : Option gO := rR G148 l0 3 14 (t_17_0_116 K d G148 l1 l4 v144)
noncomputable def t_17_0_118 (K : gK) (d : Nat) (G146 : gH) (l1 : Int32) (l3 : Int32) (l0 : Nat) (l4 : Int32) (v144 : Int32) (a147 : Nat) : Option gO := yI G146 a147 0 l1 l3 (t_17_0_117 K d l0 l1 l4 v144)
noncomputable def t_17_0_119 (K : gK) (d : Nat) (l0 : Nat) (l1 : Int32) (l3 : Int32) (l4 : Int32) (v144 : Int32) (G146 : gH) : Option gO := rR G146 l0 3 13 (t_17_0_118 K d G146 l1 l3 l0 l4 v144)
noncomputable def t_17_0_120 (K : gK) (d : Nat) (G141 : gH) (l1 : Int32) (l2 : Int32) (l0 : Nat) (l3 : Int32) (l4 : Int32) (v144 : Int32) (a145 : Nat) : Option gO := yI G141 a145 0 l1 l2 (t_17_0_119 K d l0 l1 l3 l4 v144)
noncomputable def t_17_0_121 (K : gK) (d : Nat) (G141 : gH) (l0 : Nat) (l1 : Int32) (l2 : Int32) (l3 : Int32) (l4 : Int32) (v144 : Int32) : Option gO := rR G141 l0 3 12 (t_17_0_120 K d G141 l1 l2 l0 l3 l4 v144)
noncomputable def t_17_0_122 (K : gK) (d : Nat) (G141 : gH) (l1 : Int32) (l0 : Nat) (l2 : Int32) (l3 : Int32) (l4 : Int32) (a143 : Nat) : Option gO := xI G141 a143 0 l1 (t_17_0_121 K d G141 l0 l1 l2 l3 l4)
noncomputable def t_17_0_123 (K : gK) (d : Nat) (l0 : Nat) (l1 : Int32) (l2 : Int32) (l3 : Int32) (l4 : Int32) (v142 : Int32) (G141 : gH) : Option gO := if v142 = 0 then (rR G141 l0 3 12 (t_17_0_122 K d G141 l1 l0 l2 l3 l4)) else (some (.inl (some (.int (0 : Int32))), G141))
noncomputable def t_17_0_124 (K : gK) (d : Nat) (v154 : Int32) (G160 : gH) : Option gO := some (.inl (some (.int v154)), G160)
noncomputable def t_17_0_125 (K : gK) (d : Nat) (G158 : gH) (l1 : Int32) (l4 : Int32) (v154 : Int32) (a159 : Nat) : Option gO := yI G158 a159 0 l1 l4 (t_17_0_124 K d v154)
noncomputable def t_17_0_126 (K : gK) (d : Nat) (l0 : Nat) (l1 : Int32) (l4 : Int32) (v154 : Int32) (G158 : gH) : Option gO := rR G158 l0 3 14 (t_17_0_125 K d G158 l1 l4 v154)
noncomputable def t_17_0_127 (K : gK) (d : Nat) (G156 : gH) (l1 : Int32) (l3 : Int32) (l0 : Nat) (l4 : Int32) (v154 : Int32) (a157 : Nat) : Option gO := yI G156 a157 0 l1 l3 (t_17_0_126 K d l0 l1 l4 v154)
noncomputable def t_17_0_128 (K : gK) (d : Nat) (l0 : Nat) (l1 : Int32) (l3 : Int32) (l4 : Int32) (v154 : Int32) (G156 : gH) : Option gO := rR G156 l0 3 13 (t_17_0_127 K d G156 l1 l3 l0 l4 v154)
noncomputable def t_17_0_129 (K : gK) (d : Nat) (G151 : gH) (l1 : Int32) (l2 : Int32) (l0 : Nat) (l3 : Int32) (l4 : Int32) (v154 : Int32) (a155 : Nat) : Option gO := yI G151 a155 0 l1 l2 (t_17_0_128 K d l0 l1 l3 l4 v154)
noncomputable def t_17_0_130 (K : gK) (d : Nat) (G151 : gH) (l0 : Nat) (l1 : Int32) (l2 : Int32) (l3 : Int32) (l4 : Int32) (v154 : Int32) : Option gO := rR G151 l0 3 12 (t_17_0_129 K d G151 l1 l2 l0 l3 l4 v154)
noncomputable def t_17_0_131 (K : gK) (d : Nat) (G151 : gH) (l1 : Int32) (l0 : Nat) (l2 : Int32) (l3 : Int32) (l4 : Int32) (a153 : Nat) : Option gO := xI G151 a153 0 l1 (t_17_0_130 K d G151 l0 l1 l2 l3 l4)
noncomputable def t_17_0_132 (K : gK) (d : Nat) (l0 : Nat) (l1 : Int32) (l2 : Int32) (l3 : Int32) (l4 : Int32) (v152 : Int32) (G151 : gH) : Option gO := if v152 = 0 then (rR G151 l0 3 12 (t_17_0_131 K d G151 l1 l0 l2 l3 l4)) else (some (.inl (some (.int (0 : Int32))), G151))
noncomputable def t_17_0_133 (K : gK) (d : Nat) (v166 : Int32) (G172 : gH) : Option gO := some (.inl (some (.int v166)), G172)
noncomputable def t_17_0_134 (K : gK) (d : Nat) (G170 : gH) (l1 : Int32) (l4 : Int32) (v166 : Int32) (a171 : Nat) : Option gO := yI G170 a171 0 l1 l4 (t_17_0_133 K d v166)
noncomputable def t_17_0_135 (K : gK) (d : Nat) (l0 : Nat) (l1 : Int32) (l4 : Int32) (v166 : Int32) (G170 : gH) : Option gO := rR G170 l0 3 14 (t_17_0_134 K d G170 l1 l4 v166)
noncomputable def t_17_0_136 (K : gK) (d : Nat) (G168 : gH) (l1 : Int32) (l3 : Int32) (l0 : Nat) (l4 : Int32) (v166 : Int32) (a169 : Nat) : Option gO := yI G168 a169 0 l1 l3 (t_17_0_135 K d l0 l1 l4 v166)
noncomputable def t_17_0_137 (K : gK) (d : Nat) (l0 : Nat) (l1 : Int32) (l3 : Int32) (l4 : Int32) (v166 : Int32) (G168 : gH) : Option gO := rR G168 l0 3 13 (t_17_0_136 K d G168 l1 l3 l0 l4 v166)
noncomputable def t_17_0_138 (K : gK) (d : Nat) (G163 : gH) (l1 : Int32) (l2 : Int32) (l0 : Nat) (l3 : Int32) (l4 : Int32) (v166 : Int32) (a167 : Nat) : Option gO := yI G163 a167 0 l1 l2 (t_17_0_137 K d l0 l1 l3 l4 v166)
noncomputable def t_17_0_139 (K : gK) (d : Nat) (G163 : gH) (l0 : Nat) (l1 : Int32) (l2 : Int32) (l3 : Int32) (l4 : Int32) (v166 : Int32) : Option gO := rR G163 l0 3 12 (t_17_0_138 K d G163 l1 l2 l0 l3 l4 v166)
noncomputable def t_17_0_140 (K : gK) (d : Nat) (G163 : gH) (l1 : Int32) (l0 : Nat) (l2 : Int32) (l3 : Int32) (l4 : Int32) (a165 : Nat) : Option gO := xI G163 a165 0 l1 (t_17_0_139 K d G163 l0 l1 l2 l3 l4)
noncomputable def t_17_0_141 (K : gK) (d : Nat) (l0 : Nat) (l1 : Int32) (l2 : Int32) (l3 : Int32) (l4 : Int32) (v164 : Int32) (G163 : gH) : Option gO := if v164 = 0 then (rR G163 l0 3 12 (t_17_0_140 K d G163 l1 l0 l2 l3 l4)) else (some (.inl (some (.int (0 : Int32))), G163))
noncomputable def t_17_0_142 (K : gK) (d : Nat) (v176 : Int32) (G182 : gH) : Option gO := some (.inl (some (.int v176)), G182)
noncomputable def t_17_0_143 (K : gK) (d : Nat) (G180 : gH) (l1 : Int32) (l4 : Int32) (v176 : Int32) (a181 : Nat) : Option gO := yI G180 a181 0 l1 l4 (t_17_0_142 K d v176)
noncomputable def t_17_0_144 (K : gK) (d : Nat) (l0 : Nat) (l1 : Int32) (l4 : Int32) (v176 : Int32) (G180 : gH) : Option gO := rR G180 l0 3 14 (t_17_0_143 K d G180 l1 l4 v176)
noncomputable def t_17_0_145 (K : gK) (d : Nat) (G178 : gH) (l1 : Int32) (l3 : Int32) (l0 : Nat) (l4 : Int32) (v176 : Int32) (a179 : Nat) : Option gO := yI G178 a179 0 l1 l3 (t_17_0_144 K d l0 l1 l4 v176)
noncomputable def t_17_0_146 (K : gK) (d : Nat) (l0 : Nat) (l1 : Int32) (l3 : Int32) (l4 : Int32) (v176 : Int32) (G178 : gH) : Option gO := rR G178 l0 3 13 (t_17_0_145 K d G178 l1 l3 l0 l4 v176)
noncomputable def t_17_0_147 (K : gK) (d : Nat) (G173 : gH) (l1 : Int32) (l2 : Int32) (l0 : Nat) (l3 : Int32) (l4 : Int32) (v176 : Int32) (a177 : Nat) : Option gO := yI G173 a177 0 l1 l2 (t_17_0_146 K d l0 l1 l3 l4 v176)
noncomputable def t_17_0_148 (K : gK) (d : Nat) (G173 : gH) (l0 : Nat) (l1 : Int32) (l2 : Int32) (l3 : Int32) (l4 : Int32) (v176 : Int32) : Option gO := rR G173 l0 3 12 (t_17_0_147 K d G173 l1 l2 l0 l3 l4 v176)
noncomputable def t_17_0_149 (K : gK) (d : Nat) (G173 : gH) (l1 : Int32) (l0 : Nat) (l2 : Int32) (l3 : Int32) (l4 : Int32) (a175 : Nat) : Option gO := xI G173 a175 0 l1 (t_17_0_148 K d G173 l0 l1 l2 l3 l4)
noncomputable def t_17_0_150 (K : gK) (d : Nat) (l0 : Nat) (l1 : Int32) (l2 : Int32) (l3 : Int32) (l4 : Int32) (v174 : Int32) (G173 : gH) : Option gO := if v174 = 0 then (rR G173 l0 3 12 (t_17_0_149 K d G173 l1 l0 l2 l3 l4)) else (some (.inl (some (.int (0 : Int32))), G173))
noncomputable def t_17_0_151 (K : gK) (d : Nat) (l0 : Nat) (l1 : Int32) (l2 : Int32) (l3 : Int32) (l4 : Int32) (v162 : Int32) (G161 : gH) : Option gO := if v162 = 0 then (if g_cls G161 l0 = some 3 then (cI (gCa K d 90 [.ref l0, .int (0 : Int32)] G161) (t_17_0_141 K d l0 l1 l2 l3 l4)) else none) else (if g_cls G161 l0 = some 3 then (cI (gCa K d 90 [.ref l0, .int (3 : Int32)] G161) (t_17_0_150 K d l0 l1 l2 l3 l4)) else none)
noncomputable def t_17_0_152 (K : gK) (d : Nat) (l0 : Nat) (l1 : Int32) (l2 : Int32) (l3 : Int32) (l4 : Int32) (v140 : Int32) (G139 : gH) : Option gO := if v140 = 0 then (if g_cls G139 l0 = some 3 then (cI (gCa K d 90 [.ref l0, .int (1 : Int32)] G139) (t_17_0_123 K d l0 l1 l2 l3 l4)) else none) else (if (1 : Int32) = 0 then (if g_cls G139 l0 = some 3 then (cI (gCa K d 90 [.ref l0, .int (2 : Int32)] G139) (t_17_0_132 K d l0 l1 l2 l3 l4)) else none) else (if g_cls G139 l0 = some 3 then (cI (gCa K d 97 [.ref l0, .int l1] G139) (t_17_0_151 K d l0 l1 l2 l3 l4)) else none))
noncomputable def t_17_0_153 (K : gK) (d : Nat) (l0 : Nat) (l1 : Int32) (l2 : Int32) (l3 : Int32) (l4 : Int32) (v94 : Int32) (G93 : gH) : Option gO := if v94 = 0 then (if g_cls G93 l0 = some 3 then (cI (gCa K d 96 [.ref l0, .int l1] G93) (t_17_0_114 K d l0 l1 l2 l3 l4)) else none) else (if g_cls G93 l0 = some 3 then (cI (gCa K d 96 [.ref l0, .int l1] G93) (t_17_0_152 K d l0 l1 l2 l3 l4)) else none)
noncomputable def t_17_0_154 (K : gK) (d : Nat) (l0 : Nat) (l1 : Int32) (l2 : Int32) (l3 : Int32) (l4 : Int32) (v48 : Int32) (G47 : gH) : Option gO := if v48 = 0 then (if g_cls G47 l0 = some 3 then (cI (gCa K d 96 [.ref l0, .int l1] G47) (t_17_0_76 K d l0 l1 l2 l3 l4)) else none) else (cI (gCa K d 89 [.int l4, .int (0 : Int32), .int (4 : Int32)] G47) (t_17_0_153 K d l0 l1 l2 l3 l4))
noncomputable def t_17_0_155 (K : gK) (d : Nat) (l0 : Nat) (l1 : Int32) (l2 : Int32) (l3 : Int32) (l4 : Int32) (v2 : Int32) (G1 : gH) : Option gO := if v2 = 0 then (if g_cls G1 l0 = some 3 then (cI (gCa K d 96 [.ref l0, .int l1] G1) (t_17_0_38 K d l0 l1 l2 l3 l4)) else none) else (cI (gCa K d 89 [.int l3, .int (0 : Int32), .int (4 : Int32)] G1) (t_17_0_154 K d l0 l1 l2 l3 l4))
noncomputable def t_17_0 (K : gK) (d : Nat) (l0 : Nat) (l1 : Int32) (l2 : Int32) (l3 : Int32) (l4 : Int32) (G : gH) : Option gO := cI (gCa K d 89 [.int l2, .int ((-1) : Int32), .int (3 : Int32)] G) (t_17_0_155 K d l0 l1 l2 l3 l4)
theorem e_17_0 {K : gK} {d : Nat} {l0 : Nat} {l1 : Int32} {l2 : Int32} {l3 : Int32} {l4 : Int32} {G : gH} : gle (t_17_0 K d l0 l1 l2 l3 l4 G) (gRn K d 17 0 [some (.ref l0), some (.int l1), some (.int l2), some (.int l3), some (.int l4), none, none] [] G) := by
  unfold t_17_0
  refine g_iload ((q_17 _).trans rfl) rfl ?_
  refine g_push ((q_17 _).trans rfl) ?_
  refine g_push ((q_17 _).trans rfl) ?_
  refine g_callS (kk := 3) ((q_17 _).trans rfl) (gHn m_17) (by exact ⟨Nat.le_of_ble_eq_true rfl, Nat.le_of_ble_eq_true rfl, rfl⟩) rfl (fun w G1 => gm_I (fun v2 hw => ?_))
  subst hw
  refine g_ifeq ((q_17 _).trans rfl) (fun _ => ?_) (fun _ => ?_)
  · refine g_push ((q_17 _).trans rfl) ?_
    refine g_istore ((q_17 _).trans rfl) ?_
    refine g_aload ((q_17 _).trans rfl) rfl ?_
    refine g_aload ((q_17 _).trans rfl) rfl ?_
    refine g_iload ((q_17 _).trans rfl) rfl ?_
    refine g_callV (kk := 1) ((q_17 _).trans rfl) (gHn m_17) rfl (by exact ⟨Nat.le_of_ble_eq_true rfl, rfl⟩) rfl (fun w G3 => gm_I (fun v4 hw => ?_))
    subst hw
    refine g_ifne ((q_17 _).trans rfl) (fun _ => ?_) (fun _ => ?_)
    · refine g_push ((q_17 _).trans rfl) ?_
      refine g_goto ((q_17 _).trans rfl) ?_
      refine g_callV (kk := 1) ((q_17 _).trans rfl) (gHn m_17) rfl (by exact ⟨Nat.le_of_ble_eq_true rfl, rfl⟩) rfl (fun w G5 => gm_I (fun v6 hw => ?_))
      subst hw
      refine g_ifeq ((q_17 _).trans rfl) (fun _ => ?_) (fun _ => ?_)
      · refine g_aload ((q_17 _).trans rfl) rfl ?_
        refine g_getR ((q_17 _).trans rfl) (fun a7 => ?_)
        refine g_iload ((q_17 _).trans rfl) rfl ?_
        refine g_iald ((q_17 _).trans rfl) (fun v8 => ?_)
        refine g_istore ((q_17 _).trans rfl) ?_
        refine g_aload ((q_17 _).trans rfl) rfl ?_
        refine g_getR ((q_17 _).trans rfl) (fun a9 => ?_)
        refine g_iload ((q_17 _).trans rfl) rfl ?_
        refine g_iload ((q_17 _).trans rfl) rfl ?_
        refine g_iast ((q_17 _).trans rfl) (fun G10 => ?_)
        refine g_aload ((q_17 _).trans rfl) rfl ?_
        refine g_getR ((q_17 _).trans rfl) (fun a11 => ?_)
        refine g_iload ((q_17 _).trans rfl) rfl ?_
        refine g_iload ((q_17 _).trans rfl) rfl ?_
        refine g_iast ((q_17 _).trans rfl) (fun G12 => ?_)
        refine g_aload ((q_17 _).trans rfl) rfl ?_
        refine g_getR ((q_17 _).trans rfl) (fun a13 => ?_)
        refine g_iload ((q_17 _).trans rfl) rfl ?_
        refine g_iload ((q_17 _).trans rfl) rfl ?_
        refine g_iast ((q_17 _).trans rfl) (fun G14 => ?_)
        refine g_iload ((q_17 _).trans rfl) rfl ?_
        exact g_iret ((q_17 _).trans rfl)
      · refine g_push ((q_17 _).trans rfl) ?_
        exact g_iret ((q_17 _).trans rfl)
    · refine g_iload ((q_17 _).trans rfl) rfl ?_
      refine g_ifne ((q_17 _).trans rfl) (fun _ => ?_) (fun _ => ?_)
      · refine g_push ((q_17 _).trans rfl) ?_
        refine g_goto ((q_17 _).trans rfl) ?_
        refine g_callV (kk := 1) ((q_17 _).trans rfl) (gHn m_17) rfl (by exact ⟨Nat.le_of_ble_eq_true rfl, rfl⟩) rfl (fun w G15 => gm_I (fun v16 hw => ?_))
        subst hw
        refine g_ifeq ((q_17 _).trans rfl) (fun _ => ?_) (fun _ => ?_)
        · refine g_aload ((q_17 _).trans rfl) rfl ?_
          refine g_getR ((q_17 _).trans rfl) (fun a17 => ?_)
          refine g_iload ((q_17 _).trans rfl) rfl ?_
          refine g_iald ((q_17 _).trans rfl) (fun v18 => ?_)
          refine g_istore ((q_17 _).trans rfl) ?_
          refine g_aload ((q_17 _).trans rfl) rfl ?_
          refine g_getR ((q_17 _).trans rfl) (fun a19 => ?_)
          refine g_iload ((q_17 _).trans rfl) rfl ?_
          refine g_iload ((q_17 _).trans rfl) rfl ?_
          refine g_iast ((q_17 _).trans rfl) (fun G20 => ?_)
          refine g_aload ((q_17 _).trans rfl) rfl ?_
          refine g_getR ((q_17 _).trans rfl) (fun a21 => ?_)
          refine g_iload ((q_17 _).trans rfl) rfl ?_
          refine g_iload ((q_17 _).trans rfl) rfl ?_
          refine g_iast ((q_17 _).trans rfl) (fun G22 => ?_)
          refine g_aload ((q_17 _).trans rfl) rfl ?_
          refine g_getR ((q_17 _).trans rfl) (fun a23 => ?_)
          refine g_iload ((q_17 _).trans rfl) rfl ?_
          refine g_iload ((q_17 _).trans rfl) rfl ?_
          refine g_iast ((q_17 _).trans rfl) (fun G24 => ?_)
          refine g_iload ((q_17 _).trans rfl) rfl ?_
          exact g_iret ((q_17 _).trans rfl)
        · refine g_push ((q_17 _).trans rfl) ?_
          exact g_iret ((q_17 _).trans rfl)
      · refine g_aload ((q_17 _).trans rfl) rfl ?_
        refine g_iload ((q_17 _).trans rfl) rfl ?_
        refine g_callV (kk := 1) ((q_17 _).trans rfl) (gHn m_17) rfl (by exact ⟨Nat.le_of_ble_eq_true rfl, rfl⟩) rfl (fun w G25 => gm_I (fun v26 hw => ?_))
        subst hw
        refine g_ifeq ((q_17 _).trans rfl) (fun _ => ?_) (fun _ => ?_)
        · refine g_push ((q_17 _).trans rfl) ?_
          refine g_callV (kk := 1) ((q_17 _).trans rfl) (gHn m_17) rfl (by exact ⟨Nat.le_of_ble_eq_true rfl, rfl⟩) rfl (fun w G27 => gm_I (fun v28 hw => ?_))
          subst hw
          refine g_ifeq ((q_17 _).trans rfl) (fun _ => ?_) (fun _ => ?_)
          · refine g_aload ((q_17 _).trans rfl) rfl ?_
            refine g_getR ((q_17 _).trans rfl) (fun a29 => ?_)
            refine g_iload ((q_17 _).trans rfl) rfl ?_
            refine g_iald ((q_17 _).trans rfl) (fun v30 => ?_)
            refine g_istore ((q_17 _).trans rfl) ?_
            refine g_aload ((q_17 _).trans rfl) rfl ?_
            refine g_getR ((q_17 _).trans rfl) (fun a31 => ?_)
            refine g_iload ((q_17 _).trans rfl) rfl ?_
            refine g_iload ((q_17 _).trans rfl) rfl ?_
            refine g_iast ((q_17 _).trans rfl) (fun G32 => ?_)
            refine g_aload ((q_17 _).trans rfl) rfl ?_
            refine g_getR ((q_17 _).trans rfl) (fun a33 => ?_)
            refine g_iload ((q_17 _).trans rfl) rfl ?_
            refine g_iload ((q_17 _).trans rfl) rfl ?_
            refine g_iast ((q_17 _).trans rfl) (fun G34 => ?_)
            refine g_aload ((q_17 _).trans rfl) rfl ?_
            refine g_getR ((q_17 _).trans rfl) (fun a35 => ?_)
            refine g_iload ((q_17 _).trans rfl) rfl ?_
            refine g_iload ((q_17 _).trans rfl) rfl ?_
            refine g_iast ((q_17 _).trans rfl) (fun G36 => ?_)
            refine g_iload ((q_17 _).trans rfl) rfl ?_
            exact g_iret ((q_17 _).trans rfl)
          · refine g_push ((q_17 _).trans rfl) ?_
            exact g_iret ((q_17 _).trans rfl)
        · refine g_push ((q_17 _).trans rfl) ?_
          refine g_goto ((q_17 _).trans rfl) ?_
          refine g_callV (kk := 1) ((q_17 _).trans rfl) (gHn m_17) rfl (by exact ⟨Nat.le_of_ble_eq_true rfl, rfl⟩) rfl (fun w G37 => gm_I (fun v38 hw => ?_))
          subst hw
          refine g_ifeq ((q_17 _).trans rfl) (fun _ => ?_) (fun _ => ?_)
          · refine g_aload ((q_17 _).trans rfl) rfl ?_
            refine g_getR ((q_17 _).trans rfl) (fun a39 => ?_)
            refine g_iload ((q_17 _).trans rfl) rfl ?_
            refine g_iald ((q_17 _).trans rfl) (fun v40 => ?_)
            refine g_istore ((q_17 _).trans rfl) ?_
            refine g_aload ((q_17 _).trans rfl) rfl ?_
            refine g_getR ((q_17 _).trans rfl) (fun a41 => ?_)
            refine g_iload ((q_17 _).trans rfl) rfl ?_
            refine g_iload ((q_17 _).trans rfl) rfl ?_
            refine g_iast ((q_17 _).trans rfl) (fun G42 => ?_)
            refine g_aload ((q_17 _).trans rfl) rfl ?_
            refine g_getR ((q_17 _).trans rfl) (fun a43 => ?_)
            refine g_iload ((q_17 _).trans rfl) rfl ?_
            refine g_iload ((q_17 _).trans rfl) rfl ?_
            refine g_iast ((q_17 _).trans rfl) (fun G44 => ?_)
            refine g_aload ((q_17 _).trans rfl) rfl ?_
            refine g_getR ((q_17 _).trans rfl) (fun a45 => ?_)
            refine g_iload ((q_17 _).trans rfl) rfl ?_
            refine g_iload ((q_17 _).trans rfl) rfl ?_
            refine g_iast ((q_17 _).trans rfl) (fun G46 => ?_)
            refine g_iload ((q_17 _).trans rfl) rfl ?_
            exact g_iret ((q_17 _).trans rfl)
          · refine g_push ((q_17 _).trans rfl) ?_
            exact g_iret ((q_17 _).trans rfl)
  · refine g_iload ((q_17 _).trans rfl) rfl ?_
    refine g_push ((q_17 _).trans rfl) ?_
    refine g_push ((q_17 _).trans rfl) ?_
    refine g_callS (kk := 3) ((q_17 _).trans rfl) (gHn m_17) (by exact ⟨Nat.le_of_ble_eq_true rfl, Nat.le_of_ble_eq_true rfl, rfl⟩) rfl (fun w G47 => gm_I (fun v48 hw => ?_))
    subst hw
    refine g_ifeq ((q_17 _).trans rfl) (fun _ => ?_) (fun _ => ?_)
    · refine g_push ((q_17 _).trans rfl) ?_
      refine g_istore ((q_17 _).trans rfl) ?_
      refine g_aload ((q_17 _).trans rfl) rfl ?_
      refine g_aload ((q_17 _).trans rfl) rfl ?_
      refine g_iload ((q_17 _).trans rfl) rfl ?_
      refine g_callV (kk := 1) ((q_17 _).trans rfl) (gHn m_17) rfl (by exact ⟨Nat.le_of_ble_eq_true rfl, rfl⟩) rfl (fun w G49 => gm_I (fun v50 hw => ?_))
      subst hw
      refine g_ifne ((q_17 _).trans rfl) (fun _ => ?_) (fun _ => ?_)
      · refine g_push ((q_17 _).trans rfl) ?_
        refine g_goto ((q_17 _).trans rfl) ?_
        refine g_callV (kk := 1) ((q_17 _).trans rfl) (gHn m_17) rfl (by exact ⟨Nat.le_of_ble_eq_true rfl, rfl⟩) rfl (fun w G51 => gm_I (fun v52 hw => ?_))
        subst hw
        refine g_ifeq ((q_17 _).trans rfl) (fun _ => ?_) (fun _ => ?_)
        · refine g_aload ((q_17 _).trans rfl) rfl ?_
          refine g_getR ((q_17 _).trans rfl) (fun a53 => ?_)
          refine g_iload ((q_17 _).trans rfl) rfl ?_
          refine g_iald ((q_17 _).trans rfl) (fun v54 => ?_)
          refine g_istore ((q_17 _).trans rfl) ?_
          refine g_aload ((q_17 _).trans rfl) rfl ?_
          refine g_getR ((q_17 _).trans rfl) (fun a55 => ?_)
          refine g_iload ((q_17 _).trans rfl) rfl ?_
          refine g_iload ((q_17 _).trans rfl) rfl ?_
          refine g_iast ((q_17 _).trans rfl) (fun G56 => ?_)
          refine g_aload ((q_17 _).trans rfl) rfl ?_
          refine g_getR ((q_17 _).trans rfl) (fun a57 => ?_)
          refine g_iload ((q_17 _).trans rfl) rfl ?_
          refine g_iload ((q_17 _).trans rfl) rfl ?_
          refine g_iast ((q_17 _).trans rfl) (fun G58 => ?_)
          refine g_aload ((q_17 _).trans rfl) rfl ?_
          refine g_getR ((q_17 _).trans rfl) (fun a59 => ?_)
          refine g_iload ((q_17 _).trans rfl) rfl ?_
          refine g_iload ((q_17 _).trans rfl) rfl ?_
          refine g_iast ((q_17 _).trans rfl) (fun G60 => ?_)
          refine g_iload ((q_17 _).trans rfl) rfl ?_
          exact g_iret ((q_17 _).trans rfl)
        · refine g_push ((q_17 _).trans rfl) ?_
          exact g_iret ((q_17 _).trans rfl)
      · refine g_iload ((q_17 _).trans rfl) rfl ?_
        refine g_ifne ((q_17 _).trans rfl) (fun _ => ?_) (fun _ => ?_)
        · refine g_push ((q_17 _).trans rfl) ?_
          refine g_goto ((q_17 _).trans rfl) ?_
          refine g_callV (kk := 1) ((q_17 _).trans rfl) (gHn m_17) rfl (by exact ⟨Nat.le_of_ble_eq_true rfl, rfl⟩) rfl (fun w G61 => gm_I (fun v62 hw => ?_))
          subst hw
          refine g_ifeq ((q_17 _).trans rfl) (fun _ => ?_) (fun _ => ?_)
          · refine g_aload ((q_17 _).trans rfl) rfl ?_
            refine g_getR ((q_17 _).trans rfl) (fun a63 => ?_)
            refine g_iload ((q_17 _).trans rfl) rfl ?_
            refine g_iald ((q_17 _).trans rfl) (fun v64 => ?_)
            refine g_istore ((q_17 _).trans rfl) ?_
            refine g_aload ((q_17 _).trans rfl) rfl ?_
            refine g_getR ((q_17 _).trans rfl) (fun a65 => ?_)
            refine g_iload ((q_17 _).trans rfl) rfl ?_
            refine g_iload ((q_17 _).trans rfl) rfl ?_
            refine g_iast ((q_17 _).trans rfl) (fun G66 => ?_)
            refine g_aload ((q_17 _).trans rfl) rfl ?_
            refine g_getR ((q_17 _).trans rfl) (fun a67 => ?_)
            refine g_iload ((q_17 _).trans rfl) rfl ?_
            refine g_iload ((q_17 _).trans rfl) rfl ?_
            refine g_iast ((q_17 _).trans rfl) (fun G68 => ?_)
            refine g_aload ((q_17 _).trans rfl) rfl ?_
            refine g_getR ((q_17 _).trans rfl) (fun a69 => ?_)
            refine g_iload ((q_17 _).trans rfl) rfl ?_
            refine g_iload ((q_17 _).trans rfl) rfl ?_
            refine g_iast ((q_17 _).trans rfl) (fun G70 => ?_)
            refine g_iload ((q_17 _).trans rfl) rfl ?_
            exact g_iret ((q_17 _).trans rfl)
          · refine g_push ((q_17 _).trans rfl) ?_
            exact g_iret ((q_17 _).trans rfl)
        · refine g_aload ((q_17 _).trans rfl) rfl ?_
          refine g_iload ((q_17 _).trans rfl) rfl ?_
          refine g_callV (kk := 1) ((q_17 _).trans rfl) (gHn m_17) rfl (by exact ⟨Nat.le_of_ble_eq_true rfl, rfl⟩) rfl (fun w G71 => gm_I (fun v72 hw => ?_))
          subst hw
          refine g_ifeq ((q_17 _).trans rfl) (fun _ => ?_) (fun _ => ?_)
          · refine g_push ((q_17 _).trans rfl) ?_
            refine g_callV (kk := 1) ((q_17 _).trans rfl) (gHn m_17) rfl (by exact ⟨Nat.le_of_ble_eq_true rfl, rfl⟩) rfl (fun w G73 => gm_I (fun v74 hw => ?_))
            subst hw
            refine g_ifeq ((q_17 _).trans rfl) (fun _ => ?_) (fun _ => ?_)
            · refine g_aload ((q_17 _).trans rfl) rfl ?_
              refine g_getR ((q_17 _).trans rfl) (fun a75 => ?_)
              refine g_iload ((q_17 _).trans rfl) rfl ?_
              refine g_iald ((q_17 _).trans rfl) (fun v76 => ?_)
              refine g_istore ((q_17 _).trans rfl) ?_
              refine g_aload ((q_17 _).trans rfl) rfl ?_
              refine g_getR ((q_17 _).trans rfl) (fun a77 => ?_)
              refine g_iload ((q_17 _).trans rfl) rfl ?_
              refine g_iload ((q_17 _).trans rfl) rfl ?_
              refine g_iast ((q_17 _).trans rfl) (fun G78 => ?_)
              refine g_aload ((q_17 _).trans rfl) rfl ?_
              refine g_getR ((q_17 _).trans rfl) (fun a79 => ?_)
              refine g_iload ((q_17 _).trans rfl) rfl ?_
              refine g_iload ((q_17 _).trans rfl) rfl ?_
              refine g_iast ((q_17 _).trans rfl) (fun G80 => ?_)
              refine g_aload ((q_17 _).trans rfl) rfl ?_
              refine g_getR ((q_17 _).trans rfl) (fun a81 => ?_)
              refine g_iload ((q_17 _).trans rfl) rfl ?_
              refine g_iload ((q_17 _).trans rfl) rfl ?_
              refine g_iast ((q_17 _).trans rfl) (fun G82 => ?_)
              refine g_iload ((q_17 _).trans rfl) rfl ?_
              exact g_iret ((q_17 _).trans rfl)
            · refine g_push ((q_17 _).trans rfl) ?_
              exact g_iret ((q_17 _).trans rfl)
          · refine g_push ((q_17 _).trans rfl) ?_
            refine g_goto ((q_17 _).trans rfl) ?_
            refine g_callV (kk := 1) ((q_17 _).trans rfl) (gHn m_17) rfl (by exact ⟨Nat.le_of_ble_eq_true rfl, rfl⟩) rfl (fun w G83 => gm_I (fun v84 hw => ?_))
            subst hw
            refine g_ifeq ((q_17 _).trans rfl) (fun _ => ?_) (fun _ => ?_)
            · refine g_aload ((q_17 _).trans rfl) rfl ?_
              refine g_getR ((q_17 _).trans rfl) (fun a85 => ?_)
              refine g_iload ((q_17 _).trans rfl) rfl ?_
              refine g_iald ((q_17 _).trans rfl) (fun v86 => ?_)
              refine g_istore ((q_17 _).trans rfl) ?_
              refine g_aload ((q_17 _).trans rfl) rfl ?_
              refine g_getR ((q_17 _).trans rfl) (fun a87 => ?_)
              refine g_iload ((q_17 _).trans rfl) rfl ?_
              refine g_iload ((q_17 _).trans rfl) rfl ?_
              refine g_iast ((q_17 _).trans rfl) (fun G88 => ?_)
              refine g_aload ((q_17 _).trans rfl) rfl ?_
              refine g_getR ((q_17 _).trans rfl) (fun a89 => ?_)
              refine g_iload ((q_17 _).trans rfl) rfl ?_
              refine g_iload ((q_17 _).trans rfl) rfl ?_
              refine g_iast ((q_17 _).trans rfl) (fun G90 => ?_)
              refine g_aload ((q_17 _).trans rfl) rfl ?_
              refine g_getR ((q_17 _).trans rfl) (fun a91 => ?_)
              refine g_iload ((q_17 _).trans rfl) rfl ?_
              refine g_iload ((q_17 _).trans rfl) rfl ?_
              refine g_iast ((q_17 _).trans rfl) (fun G92 => ?_)
              refine g_iload ((q_17 _).trans rfl) rfl ?_
              exact g_iret ((q_17 _).trans rfl)
            · refine g_push ((q_17 _).trans rfl) ?_
              exact g_iret ((q_17 _).trans rfl)
    · refine g_iload ((q_17 _).trans rfl) rfl ?_
      refine g_push ((q_17 _).trans rfl) ?_
      refine g_push ((q_17 _).trans rfl) ?_
      refine g_callS (kk := 3) ((q_17 _).trans rfl) (gHn m_17) (by exact ⟨Nat.le_of_ble_eq_true rfl, Nat.le_of_ble_eq_true rfl, rfl⟩) rfl (fun w G93 => gm_I (fun v94 hw => ?_))
      subst hw
      refine g_ifeq ((q_17 _).trans rfl) (fun _ => ?_) (fun _ => ?_)
      · refine g_push ((q_17 _).trans rfl) ?_
        refine g_istore ((q_17 _).trans rfl) ?_
        refine g_aload ((q_17 _).trans rfl) rfl ?_
        refine g_aload ((q_17 _).trans rfl) rfl ?_
        refine g_iload ((q_17 _).trans rfl) rfl ?_
        refine g_callV (kk := 1) ((q_17 _).trans rfl) (gHn m_17) rfl (by exact ⟨Nat.le_of_ble_eq_true rfl, rfl⟩) rfl (fun w G95 => gm_I (fun v96 hw => ?_))
        subst hw
        refine g_ifne ((q_17 _).trans rfl) (fun _ => ?_) (fun _ => ?_)
        · refine g_push ((q_17 _).trans rfl) ?_
          refine g_goto ((q_17 _).trans rfl) ?_
          refine g_callV (kk := 1) ((q_17 _).trans rfl) (gHn m_17) rfl (by exact ⟨Nat.le_of_ble_eq_true rfl, rfl⟩) rfl (fun w G97 => gm_I (fun v98 hw => ?_))
          subst hw
          refine g_ifeq ((q_17 _).trans rfl) (fun _ => ?_) (fun _ => ?_)
          · refine g_aload ((q_17 _).trans rfl) rfl ?_
            refine g_getR ((q_17 _).trans rfl) (fun a99 => ?_)
            refine g_iload ((q_17 _).trans rfl) rfl ?_
            refine g_iald ((q_17 _).trans rfl) (fun v100 => ?_)
            refine g_istore ((q_17 _).trans rfl) ?_
            refine g_aload ((q_17 _).trans rfl) rfl ?_
            refine g_getR ((q_17 _).trans rfl) (fun a101 => ?_)
            refine g_iload ((q_17 _).trans rfl) rfl ?_
            refine g_iload ((q_17 _).trans rfl) rfl ?_
            refine g_iast ((q_17 _).trans rfl) (fun G102 => ?_)
            refine g_aload ((q_17 _).trans rfl) rfl ?_
            refine g_getR ((q_17 _).trans rfl) (fun a103 => ?_)
            refine g_iload ((q_17 _).trans rfl) rfl ?_
            refine g_iload ((q_17 _).trans rfl) rfl ?_
            refine g_iast ((q_17 _).trans rfl) (fun G104 => ?_)
            refine g_aload ((q_17 _).trans rfl) rfl ?_
            refine g_getR ((q_17 _).trans rfl) (fun a105 => ?_)
            refine g_iload ((q_17 _).trans rfl) rfl ?_
            refine g_iload ((q_17 _).trans rfl) rfl ?_
            refine g_iast ((q_17 _).trans rfl) (fun G106 => ?_)
            refine g_iload ((q_17 _).trans rfl) rfl ?_
            exact g_iret ((q_17 _).trans rfl)
          · refine g_push ((q_17 _).trans rfl) ?_
            exact g_iret ((q_17 _).trans rfl)
        · refine g_iload ((q_17 _).trans rfl) rfl ?_
          refine g_ifne ((q_17 _).trans rfl) (fun _ => ?_) (fun _ => ?_)
          · refine g_push ((q_17 _).trans rfl) ?_
            refine g_goto ((q_17 _).trans rfl) ?_
            refine g_callV (kk := 1) ((q_17 _).trans rfl) (gHn m_17) rfl (by exact ⟨Nat.le_of_ble_eq_true rfl, rfl⟩) rfl (fun w G107 => gm_I (fun v108 hw => ?_))
            subst hw
            refine g_ifeq ((q_17 _).trans rfl) (fun _ => ?_) (fun _ => ?_)
            · refine g_aload ((q_17 _).trans rfl) rfl ?_
              refine g_getR ((q_17 _).trans rfl) (fun a109 => ?_)
              refine g_iload ((q_17 _).trans rfl) rfl ?_
              refine g_iald ((q_17 _).trans rfl) (fun v110 => ?_)
              refine g_istore ((q_17 _).trans rfl) ?_
              refine g_aload ((q_17 _).trans rfl) rfl ?_
              refine g_getR ((q_17 _).trans rfl) (fun a111 => ?_)
              refine g_iload ((q_17 _).trans rfl) rfl ?_
              refine g_iload ((q_17 _).trans rfl) rfl ?_
              refine g_iast ((q_17 _).trans rfl) (fun G112 => ?_)
              refine g_aload ((q_17 _).trans rfl) rfl ?_
              refine g_getR ((q_17 _).trans rfl) (fun a113 => ?_)
              refine g_iload ((q_17 _).trans rfl) rfl ?_
              refine g_iload ((q_17 _).trans rfl) rfl ?_
              refine g_iast ((q_17 _).trans rfl) (fun G114 => ?_)
              refine g_aload ((q_17 _).trans rfl) rfl ?_
              refine g_getR ((q_17 _).trans rfl) (fun a115 => ?_)
              refine g_iload ((q_17 _).trans rfl) rfl ?_
              refine g_iload ((q_17 _).trans rfl) rfl ?_
              refine g_iast ((q_17 _).trans rfl) (fun G116 => ?_)
              refine g_iload ((q_17 _).trans rfl) rfl ?_
              exact g_iret ((q_17 _).trans rfl)
            · refine g_push ((q_17 _).trans rfl) ?_
              exact g_iret ((q_17 _).trans rfl)
          · refine g_aload ((q_17 _).trans rfl) rfl ?_
            refine g_iload ((q_17 _).trans rfl) rfl ?_
            refine g_callV (kk := 1) ((q_17 _).trans rfl) (gHn m_17) rfl (by exact ⟨Nat.le_of_ble_eq_true rfl, rfl⟩) rfl (fun w G117 => gm_I (fun v118 hw => ?_))
            subst hw
            refine g_ifeq ((q_17 _).trans rfl) (fun _ => ?_) (fun _ => ?_)
            · refine g_push ((q_17 _).trans rfl) ?_
              refine g_callV (kk := 1) ((q_17 _).trans rfl) (gHn m_17) rfl (by exact ⟨Nat.le_of_ble_eq_true rfl, rfl⟩) rfl (fun w G119 => gm_I (fun v120 hw => ?_))
              subst hw
              refine g_ifeq ((q_17 _).trans rfl) (fun _ => ?_) (fun _ => ?_)
              · refine g_aload ((q_17 _).trans rfl) rfl ?_
                refine g_getR ((q_17 _).trans rfl) (fun a121 => ?_)
                refine g_iload ((q_17 _).trans rfl) rfl ?_
                refine g_iald ((q_17 _).trans rfl) (fun v122 => ?_)
                refine g_istore ((q_17 _).trans rfl) ?_
                refine g_aload ((q_17 _).trans rfl) rfl ?_
                refine g_getR ((q_17 _).trans rfl) (fun a123 => ?_)
                refine g_iload ((q_17 _).trans rfl) rfl ?_
                refine g_iload ((q_17 _).trans rfl) rfl ?_
                refine g_iast ((q_17 _).trans rfl) (fun G124 => ?_)
                refine g_aload ((q_17 _).trans rfl) rfl ?_
                refine g_getR ((q_17 _).trans rfl) (fun a125 => ?_)
                refine g_iload ((q_17 _).trans rfl) rfl ?_
                refine g_iload ((q_17 _).trans rfl) rfl ?_
                refine g_iast ((q_17 _).trans rfl) (fun G126 => ?_)
                refine g_aload ((q_17 _).trans rfl) rfl ?_
                refine g_getR ((q_17 _).trans rfl) (fun a127 => ?_)
                refine g_iload ((q_17 _).trans rfl) rfl ?_
                refine g_iload ((q_17 _).trans rfl) rfl ?_
                refine g_iast ((q_17 _).trans rfl) (fun G128 => ?_)
                refine g_iload ((q_17 _).trans rfl) rfl ?_
                exact g_iret ((q_17 _).trans rfl)
              · refine g_push ((q_17 _).trans rfl) ?_
                exact g_iret ((q_17 _).trans rfl)
            · refine g_push ((q_17 _).trans rfl) ?_
              refine g_goto ((q_17 _).trans rfl) ?_
              refine g_callV (kk := 1) ((q_17 _).trans rfl) (gHn m_17) rfl (by exact ⟨Nat.le_of_ble_eq_true rfl, rfl⟩) rfl (fun w G129 => gm_I (fun v130 hw => ?_))
              subst hw
              refine g_ifeq ((q_17 _).trans rfl) (fun _ => ?_) (fun _ => ?_)
              · refine g_aload ((q_17 _).trans rfl) rfl ?_
                refine g_getR ((q_17 _).trans rfl) (fun a131 => ?_)
                refine g_iload ((q_17 _).trans rfl) rfl ?_
                refine g_iald ((q_17 _).trans rfl) (fun v132 => ?_)
                refine g_istore ((q_17 _).trans rfl) ?_
                refine g_aload ((q_17 _).trans rfl) rfl ?_
                refine g_getR ((q_17 _).trans rfl) (fun a133 => ?_)
                refine g_iload ((q_17 _).trans rfl) rfl ?_
                refine g_iload ((q_17 _).trans rfl) rfl ?_
                refine g_iast ((q_17 _).trans rfl) (fun G134 => ?_)
                refine g_aload ((q_17 _).trans rfl) rfl ?_
                refine g_getR ((q_17 _).trans rfl) (fun a135 => ?_)
                refine g_iload ((q_17 _).trans rfl) rfl ?_
                refine g_iload ((q_17 _).trans rfl) rfl ?_
                refine g_iast ((q_17 _).trans rfl) (fun G136 => ?_)
                refine g_aload ((q_17 _).trans rfl) rfl ?_
                refine g_getR ((q_17 _).trans rfl) (fun a137 => ?_)
                refine g_iload ((q_17 _).trans rfl) rfl ?_
                refine g_iload ((q_17 _).trans rfl) rfl ?_
                refine g_iast ((q_17 _).trans rfl) (fun G138 => ?_)
                refine g_iload ((q_17 _).trans rfl) rfl ?_
                exact g_iret ((q_17 _).trans rfl)
              · refine g_push ((q_17 _).trans rfl) ?_
                exact g_iret ((q_17 _).trans rfl)
      · refine g_push ((q_17 _).trans rfl) ?_
        refine g_goto ((q_17 _).trans rfl) ?_
        refine g_istore ((q_17 _).trans rfl) ?_
        refine g_aload ((q_17 _).trans rfl) rfl ?_
        refine g_aload ((q_17 _).trans rfl) rfl ?_
        refine g_iload ((q_17 _).trans rfl) rfl ?_
        refine g_callV (kk := 1) ((q_17 _).trans rfl) (gHn m_17) rfl (by exact ⟨Nat.le_of_ble_eq_true rfl, rfl⟩) rfl (fun w G139 => gm_I (fun v140 hw => ?_))
        subst hw
        refine g_ifne ((q_17 _).trans rfl) (fun _ => ?_) (fun _ => ?_)
        · refine g_push ((q_17 _).trans rfl) ?_
          refine g_goto ((q_17 _).trans rfl) ?_
          refine g_callV (kk := 1) ((q_17 _).trans rfl) (gHn m_17) rfl (by exact ⟨Nat.le_of_ble_eq_true rfl, rfl⟩) rfl (fun w G141 => gm_I (fun v142 hw => ?_))
          subst hw
          refine g_ifeq ((q_17 _).trans rfl) (fun _ => ?_) (fun _ => ?_)
          · refine g_aload ((q_17 _).trans rfl) rfl ?_
            refine g_getR ((q_17 _).trans rfl) (fun a143 => ?_)
            refine g_iload ((q_17 _).trans rfl) rfl ?_
            refine g_iald ((q_17 _).trans rfl) (fun v144 => ?_)
            refine g_istore ((q_17 _).trans rfl) ?_
            refine g_aload ((q_17 _).trans rfl) rfl ?_
            refine g_getR ((q_17 _).trans rfl) (fun a145 => ?_)
            refine g_iload ((q_17 _).trans rfl) rfl ?_
            refine g_iload ((q_17 _).trans rfl) rfl ?_
            refine g_iast ((q_17 _).trans rfl) (fun G146 => ?_)
            refine g_aload ((q_17 _).trans rfl) rfl ?_
            refine g_getR ((q_17 _).trans rfl) (fun a147 => ?_)
            refine g_iload ((q_17 _).trans rfl) rfl ?_
            refine g_iload ((q_17 _).trans rfl) rfl ?_
            refine g_iast ((q_17 _).trans rfl) (fun G148 => ?_)
            refine g_aload ((q_17 _).trans rfl) rfl ?_
            refine g_getR ((q_17 _).trans rfl) (fun a149 => ?_)
            refine g_iload ((q_17 _).trans rfl) rfl ?_
            refine g_iload ((q_17 _).trans rfl) rfl ?_
            refine g_iast ((q_17 _).trans rfl) (fun G150 => ?_)
            refine g_iload ((q_17 _).trans rfl) rfl ?_
            exact g_iret ((q_17 _).trans rfl)
          · refine g_push ((q_17 _).trans rfl) ?_
            exact g_iret ((q_17 _).trans rfl)
        · refine g_iload ((q_17 _).trans rfl) rfl ?_
          refine g_ifne ((q_17 _).trans rfl) (fun _ => ?_) (fun _ => ?_)
          · refine g_push ((q_17 _).trans rfl) ?_
            refine g_goto ((q_17 _).trans rfl) ?_
            refine g_callV (kk := 1) ((q_17 _).trans rfl) (gHn m_17) rfl (by exact ⟨Nat.le_of_ble_eq_true rfl, rfl⟩) rfl (fun w G151 => gm_I (fun v152 hw => ?_))
            subst hw
            refine g_ifeq ((q_17 _).trans rfl) (fun _ => ?_) (fun _ => ?_)
            · refine g_aload ((q_17 _).trans rfl) rfl ?_
              refine g_getR ((q_17 _).trans rfl) (fun a153 => ?_)
              refine g_iload ((q_17 _).trans rfl) rfl ?_
              refine g_iald ((q_17 _).trans rfl) (fun v154 => ?_)
              refine g_istore ((q_17 _).trans rfl) ?_
              refine g_aload ((q_17 _).trans rfl) rfl ?_
              refine g_getR ((q_17 _).trans rfl) (fun a155 => ?_)
              refine g_iload ((q_17 _).trans rfl) rfl ?_
              refine g_iload ((q_17 _).trans rfl) rfl ?_
              refine g_iast ((q_17 _).trans rfl) (fun G156 => ?_)
              refine g_aload ((q_17 _).trans rfl) rfl ?_
              refine g_getR ((q_17 _).trans rfl) (fun a157 => ?_)
              refine g_iload ((q_17 _).trans rfl) rfl ?_
              refine g_iload ((q_17 _).trans rfl) rfl ?_
              refine g_iast ((q_17 _).trans rfl) (fun G158 => ?_)
              refine g_aload ((q_17 _).trans rfl) rfl ?_
              refine g_getR ((q_17 _).trans rfl) (fun a159 => ?_)
              refine g_iload ((q_17 _).trans rfl) rfl ?_
              refine g_iload ((q_17 _).trans rfl) rfl ?_
              refine g_iast ((q_17 _).trans rfl) (fun G160 => ?_)
              refine g_iload ((q_17 _).trans rfl) rfl ?_
              exact g_iret ((q_17 _).trans rfl)
            · refine g_push ((q_17 _).trans rfl) ?_
              exact g_iret ((q_17 _).trans rfl)
          · refine g_aload ((q_17 _).trans rfl) rfl ?_
            refine g_iload ((q_17 _).trans rfl) rfl ?_
            refine g_callV (kk := 1) ((q_17 _).trans rfl) (gHn m_17) rfl (by exact ⟨Nat.le_of_ble_eq_true rfl, rfl⟩) rfl (fun w G161 => gm_I (fun v162 hw => ?_))
            subst hw
            refine g_ifeq ((q_17 _).trans rfl) (fun _ => ?_) (fun _ => ?_)
            · refine g_push ((q_17 _).trans rfl) ?_
              refine g_callV (kk := 1) ((q_17 _).trans rfl) (gHn m_17) rfl (by exact ⟨Nat.le_of_ble_eq_true rfl, rfl⟩) rfl (fun w G163 => gm_I (fun v164 hw => ?_))
              subst hw
              refine g_ifeq ((q_17 _).trans rfl) (fun _ => ?_) (fun _ => ?_)
              · refine g_aload ((q_17 _).trans rfl) rfl ?_
                refine g_getR ((q_17 _).trans rfl) (fun a165 => ?_)
                refine g_iload ((q_17 _).trans rfl) rfl ?_
                refine g_iald ((q_17 _).trans rfl) (fun v166 => ?_)
                refine g_istore ((q_17 _).trans rfl) ?_
                refine g_aload ((q_17 _).trans rfl) rfl ?_
                refine g_getR ((q_17 _).trans rfl) (fun a167 => ?_)
                refine g_iload ((q_17 _).trans rfl) rfl ?_
                refine g_iload ((q_17 _).trans rfl) rfl ?_
                refine g_iast ((q_17 _).trans rfl) (fun G168 => ?_)
                refine g_aload ((q_17 _).trans rfl) rfl ?_
                refine g_getR ((q_17 _).trans rfl) (fun a169 => ?_)
                refine g_iload ((q_17 _).trans rfl) rfl ?_
                refine g_iload ((q_17 _).trans rfl) rfl ?_
                refine g_iast ((q_17 _).trans rfl) (fun G170 => ?_)
                refine g_aload ((q_17 _).trans rfl) rfl ?_
                refine g_getR ((q_17 _).trans rfl) (fun a171 => ?_)
                refine g_iload ((q_17 _).trans rfl) rfl ?_
                refine g_iload ((q_17 _).trans rfl) rfl ?_
                refine g_iast ((q_17 _).trans rfl) (fun G172 => ?_)
                refine g_iload ((q_17 _).trans rfl) rfl ?_
                exact g_iret ((q_17 _).trans rfl)
              · refine g_push ((q_17 _).trans rfl) ?_
                exact g_iret ((q_17 _).trans rfl)
            · refine g_push ((q_17 _).trans rfl) ?_
              refine g_goto ((q_17 _).trans rfl) ?_
              refine g_callV (kk := 1) ((q_17 _).trans rfl) (gHn m_17) rfl (by exact ⟨Nat.le_of_ble_eq_true rfl, rfl⟩) rfl (fun w G173 => gm_I (fun v174 hw => ?_))
              subst hw
              refine g_ifeq ((q_17 _).trans rfl) (fun _ => ?_) (fun _ => ?_)
              · refine g_aload ((q_17 _).trans rfl) rfl ?_
                refine g_getR ((q_17 _).trans rfl) (fun a175 => ?_)
                refine g_iload ((q_17 _).trans rfl) rfl ?_
                refine g_iald ((q_17 _).trans rfl) (fun v176 => ?_)
                refine g_istore ((q_17 _).trans rfl) ?_
                refine g_aload ((q_17 _).trans rfl) rfl ?_
                refine g_getR ((q_17 _).trans rfl) (fun a177 => ?_)
                refine g_iload ((q_17 _).trans rfl) rfl ?_
                refine g_iload ((q_17 _).trans rfl) rfl ?_
                refine g_iast ((q_17 _).trans rfl) (fun G178 => ?_)
                refine g_aload ((q_17 _).trans rfl) rfl ?_
                refine g_getR ((q_17 _).trans rfl) (fun a179 => ?_)
                refine g_iload ((q_17 _).trans rfl) rfl ?_
                refine g_iload ((q_17 _).trans rfl) rfl ?_
                refine g_iast ((q_17 _).trans rfl) (fun G180 => ?_)
                refine g_aload ((q_17 _).trans rfl) rfl ?_
                refine g_getR ((q_17 _).trans rfl) (fun a181 => ?_)
                refine g_iload ((q_17 _).trans rfl) rfl ?_
                refine g_iload ((q_17 _).trans rfl) rfl ?_
                refine g_iast ((q_17 _).trans rfl) (fun G182 => ?_)
                refine g_iload ((q_17 _).trans rfl) rfl ?_
                exact g_iret ((q_17 _).trans rfl)
              · refine g_push ((q_17 _).trans rfl) ?_
                exact g_iret ((q_17 _).trans rfl)
theorem c_17 {K : gK} {d : Nat} {l0 : Nat} {l1 : Int32} {l2 : Int32} {l3 : Int32} {l4 : Int32} {G : gH} : gle (t_17_0 K d l0 l1 l2 l3 l4 G) (gCa K (d + 1) 17 [.ref l0, .int l1, .int l2, .int l3, .int l4] G) := by
  have h : gent (gMx 17) [.ref l0, .int l1, .int l2, .int l3, .int l4] = [some (.ref l0), some (.int l1), some (.int l2), some (.int l3), some (.int l4), none, none] := by
    show gent (gT 17).2.2.2.1 _ = _
    rw [m_17]; rfl
  exact fun r e => (congrArg (fun q => gRn K d 17 0 q [] G) h).trans (e_17_0 r e)
