/-! PURE 6: methods as trees, 2 (printed by mkpure.py) -/
set_option maxRecDepth 100000
theorem q_67 {K : gK} (pc : Nat) : gP K 67 pc = ((gL_67 K).lookup pc).getD o_none := rfl
noncomputable def t_67_0_1 (K : gK) (d : Nat) (v6 : Int32) (G5 : gH) : Option gO := some (.inl (some (.int v6)), G5)
noncomputable def t_67_0_2 (K : gK) (d : Nat) (l0 : Nat) (l1 : Int32) (v4 : Int32) (G3 : gH) : Option gO := if v4 = 0 then (if g_cls G3 l0 = some 3 then (cI (gCa K d 137 [.ref l0, .int l1, .int (0 : Int32)] G3) (t_67_0_1 K d)) else none) else (some (.inl (some (.int (0 : Int32))), G3))
noncomputable def t_67_0_3 (K : gK) (d : Nat) (v12 : Int32) (G11 : gH) : Option gO := some (.inl (some (.int v12)), G11)
noncomputable def t_67_0_4 (K : gK) (d : Nat) (l0 : Nat) (l1 : Int32) (v10 : Int32) (G9 : gH) : Option gO := if v10 = 0 then (if g_cls G9 l0 = some 3 then (cI (gCa K d 137 [.ref l0, .int l1, .int (0 : Int32)] G9) (t_67_0_3 K d)) else none) else (some (.inl (some (.int (0 : Int32))), G9))
noncomputable def t_67_0_5 (K : gK) (d : Nat) (v16 : Int32) (G15 : gH) : Option gO := some (.inl (some (.int v16)), G15)
noncomputable def t_67_0_6 (K : gK) (d : Nat) (l0 : Nat) (l1 : Int32) (v14 : Int32) (G13 : gH) : Option gO := if v14 = 0 then (if g_cls G13 l0 = some 3 then (cI (gCa K d 137 [.ref l0, .int l1, .int (0 : Int32)] G13) (t_67_0_5 K d)) else none) else (some (.inl (some (.int (0 : Int32))), G13))
noncomputable def t_67_0_7 (K : gK) (d : Nat) (l0 : Nat) (l1 : Int32) (v8 : Int32) (G7 : gH) : Option gO := if v8 = 0 then (if g_cls G7 l0 = some 3 then (cI (gCa K d 90 [.ref l0, .int (2 : Int32)] G7) (t_67_0_4 K d l0 l1)) else none) else (if g_cls G7 l0 = some 3 then (cI (gCa K d 90 [.ref l0, .int (0 : Int32)] G7) (t_67_0_6 K d l0 l1)) else none)
noncomputable def t_67_0_8 (K : gK) (d : Nat) (l0 : Nat) (l1 : Int32) (v2 : Int32) (G1 : gH) : Option gO := if v2 = 0 then (if g_cls G1 l0 = some 3 then (cI (gCa K d 90 [.ref l0, .int (1 : Int32)] G1) (t_67_0_2 K d l0 l1)) else none) else (if g_cls G1 l0 = some 3 then (cI (gCa K d 124 [.ref l0, .int l1] G1) (t_67_0_7 K d l0 l1)) else none)
noncomputable def t_67_0 (K : gK) (d : Nat) (l0 : Nat) (l1 : Int32) (G : gH) : Option gO := if g_cls G l0 = some 3 then (cI (gCa K d 123 [.ref l0, .int l1] G) (t_67_0_8 K d l0 l1)) else none
theorem e_67_0 {K : gK} {d : Nat} {l0 : Nat} {l1 : Int32} {G : gH} : gle (t_67_0 K d l0 l1 G) (gRn K d 67 0 [some (.ref l0), some (.int l1)] [] G) := by
  unfold t_67_0
  refine g_aload ((q_67 _).trans rfl) rfl ?_
  refine g_aload ((q_67 _).trans rfl) rfl ?_
  refine g_iload ((q_67 _).trans rfl) rfl ?_
  refine g_callV (kk := 1) ((q_67 _).trans rfl) (gHn m_67) rfl (by exact ⟨Nat.le_of_ble_eq_true rfl, rfl⟩) rfl (fun w G1 => gm_I (fun v2 hw => ?_))
  subst hw
  refine g_ifne ((q_67 _).trans rfl) (fun _ => ?_) (fun _ => ?_)
  · refine g_push ((q_67 _).trans rfl) ?_
    refine g_goto ((q_67 _).trans rfl) ?_
    refine g_callV (kk := 1) ((q_67 _).trans rfl) (gHn m_67) rfl (by exact ⟨Nat.le_of_ble_eq_true rfl, rfl⟩) rfl (fun w G3 => gm_I (fun v4 hw => ?_))
    subst hw
    refine g_ifeq ((q_67 _).trans rfl) (fun _ => ?_) (fun _ => ?_)
    · refine g_aload ((q_67 _).trans rfl) rfl ?_
      refine g_iload ((q_67 _).trans rfl) rfl ?_
      refine g_push ((q_67 _).trans rfl) ?_
      refine g_callV (kk := 2) ((q_67 _).trans rfl) (gHn m_67) rfl (by exact ⟨Nat.le_of_ble_eq_true rfl, rfl⟩) rfl (fun w G5 => gm_I (fun v6 hw => ?_))
      subst hw
      exact g_iret ((q_67 _).trans rfl)
    · refine g_push ((q_67 _).trans rfl) ?_
      refine g_goto ((q_67 _).trans rfl) ?_
      exact g_iret ((q_67 _).trans rfl)
  · refine g_aload ((q_67 _).trans rfl) rfl ?_
    refine g_iload ((q_67 _).trans rfl) rfl ?_
    refine g_callV (kk := 1) ((q_67 _).trans rfl) (gHn m_67) rfl (by exact ⟨Nat.le_of_ble_eq_true rfl, rfl⟩) rfl (fun w G7 => gm_I (fun v8 hw => ?_))
    subst hw
    refine g_ifne ((q_67 _).trans rfl) (fun _ => ?_) (fun _ => ?_)
    · refine g_push ((q_67 _).trans rfl) ?_
      refine g_goto ((q_67 _).trans rfl) ?_
      refine g_callV (kk := 1) ((q_67 _).trans rfl) (gHn m_67) rfl (by exact ⟨Nat.le_of_ble_eq_true rfl, rfl⟩) rfl (fun w G9 => gm_I (fun v10 hw => ?_))
      subst hw
      refine g_ifeq ((q_67 _).trans rfl) (fun _ => ?_) (fun _ => ?_)
      · refine g_aload ((q_67 _).trans rfl) rfl ?_
        refine g_iload ((q_67 _).trans rfl) rfl ?_
        refine g_push ((q_67 _).trans rfl) ?_
        refine g_callV (kk := 2) ((q_67 _).trans rfl) (gHn m_67) rfl (by exact ⟨Nat.le_of_ble_eq_true rfl, rfl⟩) rfl (fun w G11 => gm_I (fun v12 hw => ?_))
        subst hw
        exact g_iret ((q_67 _).trans rfl)
      · refine g_push ((q_67 _).trans rfl) ?_
        refine g_goto ((q_67 _).trans rfl) ?_
        exact g_iret ((q_67 _).trans rfl)
    · refine g_push ((q_67 _).trans rfl) ?_
      refine g_callV (kk := 1) ((q_67 _).trans rfl) (gHn m_67) rfl (by exact ⟨Nat.le_of_ble_eq_true rfl, rfl⟩) rfl (fun w G13 => gm_I (fun v14 hw => ?_))
      subst hw
      refine g_ifeq ((q_67 _).trans rfl) (fun _ => ?_) (fun _ => ?_)
      · refine g_aload ((q_67 _).trans rfl) rfl ?_
        refine g_iload ((q_67 _).trans rfl) rfl ?_
        refine g_push ((q_67 _).trans rfl) ?_
        refine g_callV (kk := 2) ((q_67 _).trans rfl) (gHn m_67) rfl (by exact ⟨Nat.le_of_ble_eq_true rfl, rfl⟩) rfl (fun w G15 => gm_I (fun v16 hw => ?_))
        subst hw
        exact g_iret ((q_67 _).trans rfl)
      · refine g_push ((q_67 _).trans rfl) ?_
        refine g_goto ((q_67 _).trans rfl) ?_
        exact g_iret ((q_67 _).trans rfl)
theorem c_67 {K : gK} {d : Nat} {l0 : Nat} {l1 : Int32} {G : gH} : gle (t_67_0 K d l0 l1 G) (gCa K (d + 1) 67 [.ref l0, .int l1] G) := by
  have h : gent (gMx 67) [.ref l0, .int l1] = [some (.ref l0), some (.int l1)] := by
    show gent (gT 67).2.2.2.1 _ = _
    rw [m_67]; rfl
  exact fun r e => (congrArg (fun q => gRn K d 67 0 q [] G) h).trans (e_67_0 r e)
theorem q_69 {K : gK} (pc : Nat) : gP K 69 pc = ((gL_69 K).lookup pc).getD o_none := rfl
noncomputable def t_69_0_1 (K : gK) (d : Nat) (v2 : Int32) (G1 : gH) : Option gO := some (.inl (some (.int v2)), G1)
noncomputable def t_69_0 (K : gK) (d : Nat) (l0 : Nat) (l1 : Int32) (G : gH) : Option gO := if g_cls G l0 = some 3 then (cI (gCa K d 67 [.ref l0, .int l1] G) (t_69_0_1 K d)) else none
theorem e_69_0 {K : gK} {d : Nat} {l0 : Nat} {l1 : Int32} {G : gH} : gle (t_69_0 K d l0 l1 G) (gRn K d 69 0 [some (.ref l0), some (.int l1)] [] G) := by
  unfold t_69_0
  refine g_aload ((q_69 _).trans rfl) rfl ?_
  refine g_iload ((q_69 _).trans rfl) rfl ?_
  refine g_callV (kk := 1) ((q_69 _).trans rfl) (gHn m_69) rfl (by exact ⟨Nat.le_of_ble_eq_true rfl, rfl⟩) rfl (fun w G1 => gm_I (fun v2 hw => ?_))
  subst hw
  exact g_iret ((q_69 _).trans rfl)
theorem c_69 {K : gK} {d : Nat} {l0 : Nat} {l1 : Int32} {G : gH} : gle (t_69_0 K d l0 l1 G) (gCa K (d + 1) 69 [.ref l0, .int l1] G) := by
  have h : gent (gMx 69) [.ref l0, .int l1] = [some (.ref l0), some (.int l1)] := by
    show gent (gT 69).2.2.2.1 _ = _
    rw [m_69]; rfl
  exact fun r e => (congrArg (fun q => gRn K d 69 0 q [] G) h).trans (e_69_0 r e)
theorem q_71 {K : gK} (pc : Nat) : gP K 71 pc = ((gL_71 K).lookup pc).getD o_none := rfl
noncomputable def t_71_0_1 (K : gK) (d : Nat) (l0 : Nat) (l1 : Int32) (l2 : Int32) (v4 : Int32) (G3 : gH) : Option gO := if v4 = 0 then (gRn K d 71 64 [some (.ref l0), some (.int l1), some (.int l2), some (.int (0 : Int32)), none] [] G3) else (some (.inl (some (.int (0 : Int32))), G3))
noncomputable def t_71_0_2 (K : gK) (d : Nat) (l0 : Nat) (l1 : Int32) (l2 : Int32) (v8 : Int32) (G7 : gH) : Option gO := if v8 = 0 then (gRn K d 71 64 [some (.ref l0), some (.int l1), some (.int l2), some (.int (0 : Int32)), none] [] G7) else (some (.inl (some (.int (0 : Int32))), G7))
noncomputable def t_71_0_3 (K : gK) (d : Nat) (l0 : Nat) (l1 : Int32) (l2 : Int32) (v12 : Int32) (G11 : gH) : Option gO := if v12 = 0 then (gRn K d 71 64 [some (.ref l0), some (.int l1), some (.int l2), some (.int (0 : Int32)), none] [] G11) else (some (.inl (some (.int (0 : Int32))), G11))
noncomputable def t_71_0_4 (K : gK) (d : Nat) (l0 : Nat) (l1 : Int32) (l2 : Int32) (v16 : Int32) (G15 : gH) : Option gO := if v16 = 0 then (gRn K d 71 64 [some (.ref l0), some (.int l1), some (.int l2), some (.int (0 : Int32)), none] [] G15) else (some (.inl (some (.int (0 : Int32))), G15))
noncomputable def t_71_0_5 (K : gK) (d : Nat) (l0 : Nat) (l1 : Int32) (l2 : Int32) (v18 : Int32) (G17 : gH) : Option gO := if v18 = 0 then (gRn K d 71 64 [some (.ref l0), some (.int l1), some (.int l2), some (.int (0 : Int32)), none] [] G17) else (some (.inl (some (.int (0 : Int32))), G17))
noncomputable def t_71_0_6 (K : gK) (d : Nat) (l2 : Int32) (l0 : Nat) (l1 : Int32) (v14 : Int32) (G13 : gH) : Option gO := if l2 ≤ v14 then (if g_cls G13 l0 = some 3 then (cI (gCa K d 90 [.ref l0, .int (0 : Int32)] G13) (t_71_0_4 K d l0 l1 l2)) else none) else (if g_cls G13 l0 = some 3 then (cI (gCa K d 90 [.ref l0, .int (4 : Int32)] G13) (t_71_0_5 K d l0 l1 l2)) else none)
noncomputable def t_71_0_7 (K : gK) (d : Nat) (l0 : Nat) (l1 : Int32) (l2 : Int32) (v10 : Int32) (G9 : gH) : Option gO := if v10 = 0 then (if g_cls G9 l0 = some 3 then (cI (gCa K d 90 [.ref l0, .int (3 : Int32)] G9) (t_71_0_3 K d l0 l1 l2)) else none) else (if g_cls G9 l0 = some 3 then (cI (gCa K d 137 [.ref l0, .int l1, .int (0 : Int32)] G9) (t_71_0_6 K d l2 l0 l1)) else none)
noncomputable def t_71_0_8 (K : gK) (d : Nat) (l0 : Nat) (l1 : Int32) (l2 : Int32) (v6 : Int32) (G5 : gH) : Option gO := if v6 = 0 then (if g_cls G5 l0 = some 3 then (cI (gCa K d 90 [.ref l0, .int (2 : Int32)] G5) (t_71_0_2 K d l0 l1 l2)) else none) else (if g_cls G5 l0 = some 3 then (cI (gCa K d 124 [.ref l0, .int l1] G5) (t_71_0_7 K d l0 l1 l2)) else none)
noncomputable def t_71_0_9 (K : gK) (d : Nat) (l0 : Nat) (l1 : Int32) (l2 : Int32) (v2 : Int32) (G1 : gH) : Option gO := if v2 = 0 then (if g_cls G1 l0 = some 3 then (cI (gCa K d 90 [.ref l0, .int (1 : Int32)] G1) (t_71_0_1 K d l0 l1 l2)) else none) else (cI (gCa K d 89 [.int l2, .int (1 : Int32), .int (99 : Int32)] G1) (t_71_0_8 K d l0 l1 l2))
noncomputable def t_71_0 (K : gK) (d : Nat) (l0 : Nat) (l1 : Int32) (l2 : Int32) (G : gH) : Option gO := if g_cls G l0 = some 3 then (cI (gCa K d 123 [.ref l0, .int l1] G) (t_71_0_9 K d l0 l1 l2)) else none
theorem e_71_0 {K : gK} {d : Nat} {l0 : Nat} {l1 : Int32} {l2 : Int32} {G : gH} : gle (t_71_0 K d l0 l1 l2 G) (gRn K d 71 0 [some (.ref l0), some (.int l1), some (.int l2), none, none] [] G) := by
  unfold t_71_0
  refine g_aload ((q_71 _).trans rfl) rfl ?_
  refine g_aload ((q_71 _).trans rfl) rfl ?_
  refine g_iload ((q_71 _).trans rfl) rfl ?_
  refine g_callV (kk := 1) ((q_71 _).trans rfl) (gHn m_71) rfl (by exact ⟨Nat.le_of_ble_eq_true rfl, rfl⟩) rfl (fun w G1 => gm_I (fun v2 hw => ?_))
  subst hw
  refine g_ifne ((q_71 _).trans rfl) (fun _ => ?_) (fun _ => ?_)
  · refine g_push ((q_71 _).trans rfl) ?_
    refine g_goto ((q_71 _).trans rfl) ?_
    refine g_callV (kk := 1) ((q_71 _).trans rfl) (gHn m_71) rfl (by exact ⟨Nat.le_of_ble_eq_true rfl, rfl⟩) rfl (fun w G3 => gm_I (fun v4 hw => ?_))
    subst hw
    refine g_ifeq ((q_71 _).trans rfl) (fun _ => ?_) (fun _ => ?_)
    · refine g_push ((q_71 _).trans rfl) ?_
      refine g_istore ((q_71 _).trans rfl) ?_
      exact gle.rf _
    · refine g_push ((q_71 _).trans rfl) ?_
      exact g_iret ((q_71 _).trans rfl)
  · refine g_iload ((q_71 _).trans rfl) rfl ?_
    refine g_push ((q_71 _).trans rfl) ?_
    refine g_push ((q_71 _).trans rfl) ?_
    refine g_callS (kk := 3) ((q_71 _).trans rfl) (gHn m_71) (by exact ⟨Nat.le_of_ble_eq_true rfl, Nat.le_of_ble_eq_true rfl, rfl⟩) rfl (fun w G5 => gm_I (fun v6 hw => ?_))
    subst hw
    refine g_ifne ((q_71 _).trans rfl) (fun _ => ?_) (fun _ => ?_)
    · refine g_push ((q_71 _).trans rfl) ?_
      refine g_goto ((q_71 _).trans rfl) ?_
      refine g_callV (kk := 1) ((q_71 _).trans rfl) (gHn m_71) rfl (by exact ⟨Nat.le_of_ble_eq_true rfl, rfl⟩) rfl (fun w G7 => gm_I (fun v8 hw => ?_))
      subst hw
      refine g_ifeq ((q_71 _).trans rfl) (fun _ => ?_) (fun _ => ?_)
      · refine g_push ((q_71 _).trans rfl) ?_
        refine g_istore ((q_71 _).trans rfl) ?_
        exact gle.rf _
      · refine g_push ((q_71 _).trans rfl) ?_
        exact g_iret ((q_71 _).trans rfl)
    · refine g_aload ((q_71 _).trans rfl) rfl ?_
      refine g_iload ((q_71 _).trans rfl) rfl ?_
      refine g_callV (kk := 1) ((q_71 _).trans rfl) (gHn m_71) rfl (by exact ⟨Nat.le_of_ble_eq_true rfl, rfl⟩) rfl (fun w G9 => gm_I (fun v10 hw => ?_))
      subst hw
      refine g_ifne ((q_71 _).trans rfl) (fun _ => ?_) (fun _ => ?_)
      · refine g_push ((q_71 _).trans rfl) ?_
        refine g_goto ((q_71 _).trans rfl) ?_
        refine g_callV (kk := 1) ((q_71 _).trans rfl) (gHn m_71) rfl (by exact ⟨Nat.le_of_ble_eq_true rfl, rfl⟩) rfl (fun w G11 => gm_I (fun v12 hw => ?_))
        subst hw
        refine g_ifeq ((q_71 _).trans rfl) (fun _ => ?_) (fun _ => ?_)
        · refine g_push ((q_71 _).trans rfl) ?_
          refine g_istore ((q_71 _).trans rfl) ?_
          exact gle.rf _
        · refine g_push ((q_71 _).trans rfl) ?_
          exact g_iret ((q_71 _).trans rfl)
      · refine g_aload ((q_71 _).trans rfl) rfl ?_
        refine g_iload ((q_71 _).trans rfl) rfl ?_
        refine g_push ((q_71 _).trans rfl) ?_
        refine g_callV (kk := 2) ((q_71 _).trans rfl) (gHn m_71) rfl (by exact ⟨Nat.le_of_ble_eq_true rfl, rfl⟩) rfl (fun w G13 => gm_I (fun v14 hw => ?_))
        subst hw
        refine g_iload ((q_71 _).trans rfl) rfl ?_
        refine g_cmpge ((q_71 _).trans rfl) (fun _ => ?_) (fun _ => ?_)
        · refine g_push ((q_71 _).trans rfl) ?_
          refine g_callV (kk := 1) ((q_71 _).trans rfl) (gHn m_71) rfl (by exact ⟨Nat.le_of_ble_eq_true rfl, rfl⟩) rfl (fun w G15 => gm_I (fun v16 hw => ?_))
          subst hw
          refine g_ifeq ((q_71 _).trans rfl) (fun _ => ?_) (fun _ => ?_)
          · refine g_push ((q_71 _).trans rfl) ?_
            refine g_istore ((q_71 _).trans rfl) ?_
            exact gle.rf _
          · refine g_push ((q_71 _).trans rfl) ?_
            exact g_iret ((q_71 _).trans rfl)
        · refine g_push ((q_71 _).trans rfl) ?_
          refine g_goto ((q_71 _).trans rfl) ?_
          refine g_callV (kk := 1) ((q_71 _).trans rfl) (gHn m_71) rfl (by exact ⟨Nat.le_of_ble_eq_true rfl, rfl⟩) rfl (fun w G17 => gm_I (fun v18 hw => ?_))
          subst hw
          refine g_ifeq ((q_71 _).trans rfl) (fun _ => ?_) (fun _ => ?_)
          · refine g_push ((q_71 _).trans rfl) ?_
            refine g_istore ((q_71 _).trans rfl) ?_
            exact gle.rf _
          · refine g_push ((q_71 _).trans rfl) ?_
            exact g_iret ((q_71 _).trans rfl)
theorem c_71 {K : gK} {d : Nat} {l0 : Nat} {l1 : Int32} {l2 : Int32} {G : gH} : gle (t_71_0 K d l0 l1 l2 G) (gCa K (d + 1) 71 [.ref l0, .int l1, .int l2] G) := by
  have h : gent (gMx 71) [.ref l0, .int l1, .int l2] = [some (.ref l0), some (.int l1), some (.int l2), none, none] := by
    show gent (gT 71).2.2.2.1 _ = _
    rw [m_71]; rfl
  exact fun r e => (congrArg (fun q => gRn K d 71 0 q [] G) h).trans (e_71_0 r e)
noncomputable def t_71_64_1 (K : gK) (d : Nat) (G4 : gH) (v6 : Int32) : Option gO := some (.inl (some (.int v6)), G4)
noncomputable def t_71_64_2 (K : gK) (d : Nat) (G4 : gH) (l1 : Int32) (a5 : Nat) : Option gO := xI G4 a5 0 l1 (t_71_64_1 K d G4)
noncomputable def t_71_64_3 (K : gK) (d : Nat) (l0 : Nat) (l1 : Int32) (G4 : gH) : Option gO := rR G4 l0 3 30 (t_71_64_2 K d G4 l1)
noncomputable def t_71_64_4 (K : gK) (d : Nat) (G : gH) (a2 : Nat) (l1 : Int32) (l2 : Int32) (l0 : Nat) (v3 : Int32) : Option gO := yI G a2 0 l1 (v3 + l2) (t_71_64_3 K d l0 l1)
noncomputable def t_71_64_5 (K : gK) (d : Nat) (G : gH) (l1 : Int32) (l2 : Int32) (l0 : Nat) (a2 : Nat) : Option gO := xI G a2 0 l1 (t_71_64_4 K d G a2 l1 l2 l0)
noncomputable def t_71_64_6 (K : gK) (d : Nat) (l0 : Nat) (l1 : Int32) (l2 : Int32) (l3 : Int32) (v8 : Int32) (G16 : gH) : Option gO := gRn K d 71 64 [some (.ref l0), some (.int l1), some (.int l2), some (.int (l3 + 1)), some (.int (l2 * v8))] [] G16
noncomputable def t_71_64_7 (K : gK) (d : Nat) (l0 : Nat) (l1 : Int32) (l2 : Int32) (l3 : Int32) (v8 : Int32) (G17 : gH) : Option gO := gRn K d 71 64 [some (.ref l0), some (.int l1), some (.int l2), some (.int (l3 + 1)), some (.int (l2 * v8))] [] G17
noncomputable def t_71_64_8 (K : gK) (d : Nat) (G11 : gH) (a12 : Nat) (l3 : Int32) (v13 : Int32) (l0 : Nat) (l1 : Int32) (l2 : Int32) (v8 : Int32) (v15 : Int32) : Option gO := if v15 = 0 then (yI G11 a12 0 (((2 : Int32) * l3) + (1 : Int32)) (v13 - (0 : Int32)) (t_71_64_6 K d l0 l1 l2 l3 v8)) else (yI G11 a12 0 (((2 : Int32) * l3) + (1 : Int32)) (v13 - (l2 * v8)) (t_71_64_7 K d l0 l1 l2 l3 v8))
noncomputable def t_71_64_9 (K : gK) (d : Nat) (G11 : gH) (l3 : Int32) (a12 : Nat) (v13 : Int32) (l0 : Nat) (l1 : Int32) (l2 : Int32) (v8 : Int32) (a14 : Nat) : Option gO := xI G11 a14 1 l3 (t_71_64_8 K d G11 a12 l3 v13 l0 l1 l2 v8)
noncomputable def t_71_64_10 (K : gK) (d : Nat) (G11 : gH) (l0 : Nat) (l3 : Int32) (a12 : Nat) (l1 : Int32) (l2 : Int32) (v8 : Int32) (v13 : Int32) : Option gO := rR G11 l0 3 9 (t_71_64_9 K d G11 l3 a12 v13 l0 l1 l2 v8)
noncomputable def t_71_64_11 (K : gK) (d : Nat) (G11 : gH) (l3 : Int32) (l0 : Nat) (l1 : Int32) (l2 : Int32) (v8 : Int32) (a12 : Nat) : Option gO := xI G11 a12 0 (((2 : Int32) * l3) + (1 : Int32)) (t_71_64_10 K d G11 l0 l3 a12 l1 l2 v8)
noncomputable def t_71_64_12 (K : gK) (d : Nat) (l0 : Nat) (l3 : Int32) (l1 : Int32) (l2 : Int32) (v8 : Int32) (G11 : gH) : Option gO := rR G11 l0 3 16 (t_71_64_11 K d G11 l3 l0 l1 l2 v8)
noncomputable def t_71_64_13 (K : gK) (d : Nat) (G : gH) (a9 : Nat) (l3 : Int32) (l2 : Int32) (v8 : Int32) (l0 : Nat) (l1 : Int32) (v10 : Int32) : Option gO := yI G a9 0 ((2 : Int32) * l3) (v10 - (l2 * v8)) (t_71_64_12 K d l0 l3 l1 l2 v8)
noncomputable def t_71_64_14 (K : gK) (d : Nat) (G : gH) (l3 : Int32) (l2 : Int32) (v8 : Int32) (l0 : Nat) (l1 : Int32) (a9 : Nat) : Option gO := xI G a9 0 ((2 : Int32) * l3) (t_71_64_13 K d G a9 l3 l2 v8 l0 l1)
noncomputable def t_71_64_15 (K : gK) (d : Nat) (G : gH) (l0 : Nat) (l3 : Int32) (l2 : Int32) (l1 : Int32) (v8 : Int32) : Option gO := rR G l0 3 16 (t_71_64_14 K d G l3 l2 v8 l0 l1)
noncomputable def t_71_64_16 (K : gK) (d : Nat) (G : gH) (l1 : Int32) (l3 : Int32) (l0 : Nat) (l2 : Int32) (a7 : Nat) : Option gO := xI G a7 0 (((8 : Int32) * l1) + l3) (t_71_64_15 K d G l0 l3 l2 l1)
noncomputable def t_71_64_17 (K : gK) (d : Nat) (l3 : Int32) (G : gH) (l0 : Nat) (l1 : Int32) (l2 : Int32) (v1 : Int32) : Option gO := if v1 ≤ l3 then (rR G l0 3 30 (t_71_64_5 K d G l1 l2 l0)) else (rR G l0 3 29 (t_71_64_16 K d G l1 l3 l0 l2))
noncomputable def t_71_64 (K : gK) (d : Nat) (l0 : Nat) (l1 : Int32) (l2 : Int32) (l3 : Int32) (o4 : Option Value) (G : gH) : Option gO := rI G l0 3 7 (t_71_64_17 K d l3 G l0 l1 l2)
theorem e_71_64 {K : gK} {d : Nat} {l0 : Nat} {l1 : Int32} {l2 : Int32} {l3 : Int32} {o4 : Option Value} {G : gH} : gle (t_71_64 K d l0 l1 l2 l3 o4 G) (gRn K d 71 64 [some (.ref l0), some (.int l1), some (.int l2), some (.int l3), o4] [] G) := by
  unfold t_71_64
  refine g_iload ((q_71 _).trans rfl) rfl ?_
  refine g_aload ((q_71 _).trans rfl) rfl ?_
  refine g_getI ((q_71 _).trans rfl) (fun v1 => ?_)
  refine g_cmpge ((q_71 _).trans rfl) (fun _ => ?_) (fun _ => ?_)
  · refine g_aload ((q_71 _).trans rfl) rfl ?_
    refine g_getR ((q_71 _).trans rfl) (fun a2 => ?_)
    refine g_iload ((q_71 _).trans rfl) rfl ?_
    refine g_dup2 ((q_71 _).trans rfl) ?_
    refine g_iald ((q_71 _).trans rfl) (fun v3 => ?_)
    refine g_iload ((q_71 _).trans rfl) rfl ?_
    refine g_iadd ((q_71 _).trans rfl) ?_
    refine g_iast ((q_71 _).trans rfl) (fun G4 => ?_)
    refine g_aload ((q_71 _).trans rfl) rfl ?_
    refine g_getR ((q_71 _).trans rfl) (fun a5 => ?_)
    refine g_iload ((q_71 _).trans rfl) rfl ?_
    refine g_iald ((q_71 _).trans rfl) (fun v6 => ?_)
    exact g_iret ((q_71 _).trans rfl)
  · refine g_iload ((q_71 _).trans rfl) rfl ?_
    refine g_aload ((q_71 _).trans rfl) rfl ?_
    refine g_getR ((q_71 _).trans rfl) (fun a7 => ?_)
    refine g_push ((q_71 _).trans rfl) ?_
    refine g_iload ((q_71 _).trans rfl) rfl ?_
    refine g_imul ((q_71 _).trans rfl) ?_
    refine g_iload ((q_71 _).trans rfl) rfl ?_
    refine g_iadd ((q_71 _).trans rfl) ?_
    refine g_iald ((q_71 _).trans rfl) (fun v8 => ?_)
    refine g_imul ((q_71 _).trans rfl) ?_
    refine g_istore ((q_71 _).trans rfl) ?_
    refine g_aload ((q_71 _).trans rfl) rfl ?_
    refine g_getR ((q_71 _).trans rfl) (fun a9 => ?_)
    refine g_push ((q_71 _).trans rfl) ?_
    refine g_iload ((q_71 _).trans rfl) rfl ?_
    refine g_imul ((q_71 _).trans rfl) ?_
    refine g_dup2 ((q_71 _).trans rfl) ?_
    refine g_iald ((q_71 _).trans rfl) (fun v10 => ?_)
    refine g_iload ((q_71 _).trans rfl) rfl ?_
    refine g_isub ((q_71 _).trans rfl) ?_
    refine g_iast ((q_71 _).trans rfl) (fun G11 => ?_)
    refine g_aload ((q_71 _).trans rfl) rfl ?_
    refine g_getR ((q_71 _).trans rfl) (fun a12 => ?_)
    refine g_push ((q_71 _).trans rfl) ?_
    refine g_iload ((q_71 _).trans rfl) rfl ?_
    refine g_imul ((q_71 _).trans rfl) ?_
    refine g_push ((q_71 _).trans rfl) ?_
    refine g_iadd ((q_71 _).trans rfl) ?_
    refine g_dup2 ((q_71 _).trans rfl) ?_
    refine g_iald ((q_71 _).trans rfl) (fun v13 => ?_)
    refine g_aload ((q_71 _).trans rfl) rfl ?_
    refine g_getR ((q_71 _).trans rfl) (fun a14 => ?_)
    refine g_iload ((q_71 _).trans rfl) rfl ?_
    refine g_iald ((q_71 _).trans rfl) (fun v15 => ?_)
    refine g_ifeq ((q_71 _).trans rfl) (fun _ => ?_) (fun _ => ?_)
    · refine g_push ((q_71 _).trans rfl) ?_
      refine g_isub ((q_71 _).trans rfl) ?_
      refine g_iast ((q_71 _).trans rfl) (fun G16 => ?_)
      refine g_iinc ((q_71 _).trans rfl) rfl ?_
      refine g_goto ((q_71 _).trans rfl) ?_
      exact gle.rf _
    · refine g_iload ((q_71 _).trans rfl) rfl ?_
      refine g_goto ((q_71 _).trans rfl) ?_
      refine g_isub ((q_71 _).trans rfl) ?_
      refine g_iast ((q_71 _).trans rfl) (fun G17 => ?_)
      refine g_iinc ((q_71 _).trans rfl) rfl ?_
      refine g_goto ((q_71 _).trans rfl) ?_
      exact gle.rf _
theorem q_73 {K : gK} (pc : Nat) : gP K 73 pc = ((gL_73 K).lookup pc).getD o_none := rfl
noncomputable def t_73_0_1 (K : gK) (d : Nat) (G3 : gH) (v6 : Int32) : Option gO := some (.inl (some (.int v6)), G3)
noncomputable def t_73_0_2 (K : gK) (d : Nat) (G3 : gH) (l1 : Int32) (a5 : Nat) : Option gO := xI G3 a5 0 l1 (t_73_0_1 K d G3)
noncomputable def t_73_0_3 (K : gK) (d : Nat) (l0 : Nat) (l1 : Int32) (v4 : Int32) (G3 : gH) : Option gO := if v4 = 0 then (rR G3 l0 3 30 (t_73_0_2 K d G3 l1)) else (some (.inl (some (.int (0 : Int32))), G3))
noncomputable def t_73_0_4 (K : gK) (d : Nat) (G7 : gH) (v10 : Int32) : Option gO := some (.inl (some (.int v10)), G7)
noncomputable def t_73_0_5 (K : gK) (d : Nat) (G7 : gH) (l1 : Int32) (a9 : Nat) : Option gO := xI G7 a9 0 l1 (t_73_0_4 K d G7)
noncomputable def t_73_0_6 (K : gK) (d : Nat) (l0 : Nat) (l1 : Int32) (v8 : Int32) (G7 : gH) : Option gO := if v8 = 0 then (rR G7 l0 3 30 (t_73_0_5 K d G7 l1)) else (some (.inl (some (.int (0 : Int32))), G7))
noncomputable def t_73_0_7 (K : gK) (d : Nat) (l0 : Nat) (l1 : Int32) (v2 : Int32) (G1 : gH) : Option gO := if v2 = 0 then (if g_cls G1 l0 = some 3 then (cI (gCa K d 90 [.ref l0, .int (1 : Int32)] G1) (t_73_0_3 K d l0 l1)) else none) else (if g_cls G1 l0 = some 3 then (cI (gCa K d 90 [.ref l0, .int (0 : Int32)] G1) (t_73_0_6 K d l0 l1)) else none)
noncomputable def t_73_0 (K : gK) (d : Nat) (l0 : Nat) (l1 : Int32) (G : gH) : Option gO := if g_cls G l0 = some 3 then (cI (gCa K d 123 [.ref l0, .int l1] G) (t_73_0_7 K d l0 l1)) else none
theorem e_73_0 {K : gK} {d : Nat} {l0 : Nat} {l1 : Int32} {G : gH} : gle (t_73_0 K d l0 l1 G) (gRn K d 73 0 [some (.ref l0), some (.int l1)] [] G) := by
  unfold t_73_0
  refine g_aload ((q_73 _).trans rfl) rfl ?_
  refine g_aload ((q_73 _).trans rfl) rfl ?_
  refine g_iload ((q_73 _).trans rfl) rfl ?_
  refine g_callV (kk := 1) ((q_73 _).trans rfl) (gHn m_73) rfl (by exact ⟨Nat.le_of_ble_eq_true rfl, rfl⟩) rfl (fun w G1 => gm_I (fun v2 hw => ?_))
  subst hw
  refine g_ifeq ((q_73 _).trans rfl) (fun _ => ?_) (fun _ => ?_)
  · refine g_push ((q_73 _).trans rfl) ?_
    refine g_callV (kk := 1) ((q_73 _).trans rfl) (gHn m_73) rfl (by exact ⟨Nat.le_of_ble_eq_true rfl, rfl⟩) rfl (fun w G3 => gm_I (fun v4 hw => ?_))
    subst hw
    refine g_ifeq ((q_73 _).trans rfl) (fun _ => ?_) (fun _ => ?_)
    · refine g_aload ((q_73 _).trans rfl) rfl ?_
      refine g_getR ((q_73 _).trans rfl) (fun a5 => ?_)
      refine g_iload ((q_73 _).trans rfl) rfl ?_
      refine g_iald ((q_73 _).trans rfl) (fun v6 => ?_)
      exact g_iret ((q_73 _).trans rfl)
    · refine g_push ((q_73 _).trans rfl) ?_
      refine g_goto ((q_73 _).trans rfl) ?_
      exact g_iret ((q_73 _).trans rfl)
  · refine g_push ((q_73 _).trans rfl) ?_
    refine g_goto ((q_73 _).trans rfl) ?_
    refine g_callV (kk := 1) ((q_73 _).trans rfl) (gHn m_73) rfl (by exact ⟨Nat.le_of_ble_eq_true rfl, rfl⟩) rfl (fun w G7 => gm_I (fun v8 hw => ?_))
    subst hw
    refine g_ifeq ((q_73 _).trans rfl) (fun _ => ?_) (fun _ => ?_)
    · refine g_aload ((q_73 _).trans rfl) rfl ?_
      refine g_getR ((q_73 _).trans rfl) (fun a9 => ?_)
      refine g_iload ((q_73 _).trans rfl) rfl ?_
      refine g_iald ((q_73 _).trans rfl) (fun v10 => ?_)
      exact g_iret ((q_73 _).trans rfl)
    · refine g_push ((q_73 _).trans rfl) ?_
      refine g_goto ((q_73 _).trans rfl) ?_
      exact g_iret ((q_73 _).trans rfl)
theorem c_73 {K : gK} {d : Nat} {l0 : Nat} {l1 : Int32} {G : gH} : gle (t_73_0 K d l0 l1 G) (gCa K (d + 1) 73 [.ref l0, .int l1] G) := by
  have h : gent (gMx 73) [.ref l0, .int l1] = [some (.ref l0), some (.int l1)] := by
    show gent (gT 73).2.2.2.1 _ = _
    rw [m_73]; rfl
  exact fun r e => (congrArg (fun q => gRn K d 73 0 q [] G) h).trans (e_73_0 r e)
theorem q_75 {K : gK} (pc : Nat) : gP K 75 pc = ((gL_75 K).lookup pc).getD o_none := rfl
noncomputable def t_75_0_1 (K : gK) (d : Nat) (l0 : Nat) (l1 : Int32) (l2 : Int32) (v4 : Int32) (G3 : gH) : Option gO := if v4 = 0 then (gRn K d 75 50 [some (.ref l0), some (.int l1), some (.int l2), some (.int (0 : Int32))] [] G3) else (some (.inl (some (.int (0 : Int32))), G3))
noncomputable def t_75_0_2 (K : gK) (d : Nat) (l0 : Nat) (l1 : Int32) (l2 : Int32) (v8 : Int32) (G7 : gH) : Option gO := if v8 = 0 then (gRn K d 75 50 [some (.ref l0), some (.int l1), some (.int l2), some (.int (0 : Int32))] [] G7) else (some (.inl (some (.int (0 : Int32))), G7))
noncomputable def t_75_0_3 (K : gK) (d : Nat) (l0 : Nat) (l1 : Int32) (l2 : Int32) (v12 : Int32) (G11 : gH) : Option gO := if v12 = 0 then (gRn K d 75 50 [some (.ref l0), some (.int l1), some (.int l2), some (.int (0 : Int32))] [] G11) else (some (.inl (some (.int (0 : Int32))), G11))
noncomputable def t_75_0_4 (K : gK) (d : Nat) (l0 : Nat) (l1 : Int32) (l2 : Int32) (v14 : Int32) (G13 : gH) : Option gO := if v14 = 0 then (gRn K d 75 50 [some (.ref l0), some (.int l1), some (.int l2), some (.int (0 : Int32))] [] G13) else (some (.inl (some (.int (0 : Int32))), G13))
noncomputable def t_75_0_5 (K : gK) (d : Nat) (l0 : Nat) (l1 : Int32) (l2 : Int32) (v10 : Int32) (G9 : gH) : Option gO := if v10 = 0 then (if g_cls G9 l0 = some 3 then (cI (gCa K d 90 [.ref l0, .int (3 : Int32)] G9) (t_75_0_3 K d l0 l1 l2)) else none) else (if g_cls G9 l0 = some 3 then (cI (gCa K d 90 [.ref l0, .int (0 : Int32)] G9) (t_75_0_4 K d l0 l1 l2)) else none)
noncomputable def t_75_0_6 (K : gK) (d : Nat) (l0 : Nat) (l1 : Int32) (l2 : Int32) (v6 : Int32) (G5 : gH) : Option gO := if v6 = 0 then (if g_cls G5 l0 = some 3 then (cI (gCa K d 90 [.ref l0, .int (2 : Int32)] G5) (t_75_0_2 K d l0 l1 l2)) else none) else (if g_cls G5 l0 = some 3 then (cI (gCa K d 124 [.ref l0, .int l1] G5) (t_75_0_5 K d l0 l1 l2)) else none)
noncomputable def t_75_0_7 (K : gK) (d : Nat) (l0 : Nat) (l1 : Int32) (l2 : Int32) (v2 : Int32) (G1 : gH) : Option gO := if v2 = 0 then (if g_cls G1 l0 = some 3 then (cI (gCa K d 90 [.ref l0, .int (1 : Int32)] G1) (t_75_0_1 K d l0 l1 l2)) else none) else (cI (gCa K d 89 [.int l2, .int (1 : Int32), .int (99 : Int32)] G1) (t_75_0_6 K d l0 l1 l2))
noncomputable def t_75_0 (K : gK) (d : Nat) (l0 : Nat) (l1 : Int32) (l2 : Int32) (G : gH) : Option gO := if g_cls G l0 = some 3 then (cI (gCa K d 123 [.ref l0, .int l1] G) (t_75_0_7 K d l0 l1 l2)) else none
theorem e_75_0 {K : gK} {d : Nat} {l0 : Nat} {l1 : Int32} {l2 : Int32} {G : gH} : gle (t_75_0 K d l0 l1 l2 G) (gRn K d 75 0 [some (.ref l0), some (.int l1), some (.int l2), none] [] G) := by
  unfold t_75_0
  refine g_aload ((q_75 _).trans rfl) rfl ?_
  refine g_aload ((q_75 _).trans rfl) rfl ?_
  refine g_iload ((q_75 _).trans rfl) rfl ?_
  refine g_callV (kk := 1) ((q_75 _).trans rfl) (gHn m_75) rfl (by exact ⟨Nat.le_of_ble_eq_true rfl, rfl⟩) rfl (fun w G1 => gm_I (fun v2 hw => ?_))
  subst hw
  refine g_ifne ((q_75 _).trans rfl) (fun _ => ?_) (fun _ => ?_)
  · refine g_push ((q_75 _).trans rfl) ?_
    refine g_goto ((q_75 _).trans rfl) ?_
    refine g_callV (kk := 1) ((q_75 _).trans rfl) (gHn m_75) rfl (by exact ⟨Nat.le_of_ble_eq_true rfl, rfl⟩) rfl (fun w G3 => gm_I (fun v4 hw => ?_))
    subst hw
    refine g_ifeq ((q_75 _).trans rfl) (fun _ => ?_) (fun _ => ?_)
    · refine g_push ((q_75 _).trans rfl) ?_
      refine g_istore ((q_75 _).trans rfl) ?_
      exact gle.rf _
    · refine g_push ((q_75 _).trans rfl) ?_
      exact g_iret ((q_75 _).trans rfl)
  · refine g_iload ((q_75 _).trans rfl) rfl ?_
    refine g_push ((q_75 _).trans rfl) ?_
    refine g_push ((q_75 _).trans rfl) ?_
    refine g_callS (kk := 3) ((q_75 _).trans rfl) (gHn m_75) (by exact ⟨Nat.le_of_ble_eq_true rfl, Nat.le_of_ble_eq_true rfl, rfl⟩) rfl (fun w G5 => gm_I (fun v6 hw => ?_))
    subst hw
    refine g_ifne ((q_75 _).trans rfl) (fun _ => ?_) (fun _ => ?_)
    · refine g_push ((q_75 _).trans rfl) ?_
      refine g_goto ((q_75 _).trans rfl) ?_
      refine g_callV (kk := 1) ((q_75 _).trans rfl) (gHn m_75) rfl (by exact ⟨Nat.le_of_ble_eq_true rfl, rfl⟩) rfl (fun w G7 => gm_I (fun v8 hw => ?_))
      subst hw
      refine g_ifeq ((q_75 _).trans rfl) (fun _ => ?_) (fun _ => ?_)
      · refine g_push ((q_75 _).trans rfl) ?_
        refine g_istore ((q_75 _).trans rfl) ?_
        exact gle.rf _
      · refine g_push ((q_75 _).trans rfl) ?_
        exact g_iret ((q_75 _).trans rfl)
    · refine g_aload ((q_75 _).trans rfl) rfl ?_
      refine g_iload ((q_75 _).trans rfl) rfl ?_
      refine g_callV (kk := 1) ((q_75 _).trans rfl) (gHn m_75) rfl (by exact ⟨Nat.le_of_ble_eq_true rfl, rfl⟩) rfl (fun w G9 => gm_I (fun v10 hw => ?_))
      subst hw
      refine g_ifne ((q_75 _).trans rfl) (fun _ => ?_) (fun _ => ?_)
      · refine g_push ((q_75 _).trans rfl) ?_
        refine g_goto ((q_75 _).trans rfl) ?_
        refine g_callV (kk := 1) ((q_75 _).trans rfl) (gHn m_75) rfl (by exact ⟨Nat.le_of_ble_eq_true rfl, rfl⟩) rfl (fun w G11 => gm_I (fun v12 hw => ?_))
        subst hw
        refine g_ifeq ((q_75 _).trans rfl) (fun _ => ?_) (fun _ => ?_)
        · refine g_push ((q_75 _).trans rfl) ?_
          refine g_istore ((q_75 _).trans rfl) ?_
          exact gle.rf _
        · refine g_push ((q_75 _).trans rfl) ?_
          exact g_iret ((q_75 _).trans rfl)
      · refine g_push ((q_75 _).trans rfl) ?_
        refine g_callV (kk := 1) ((q_75 _).trans rfl) (gHn m_75) rfl (by exact ⟨Nat.le_of_ble_eq_true rfl, rfl⟩) rfl (fun w G13 => gm_I (fun v14 hw => ?_))
        subst hw
        refine g_ifeq ((q_75 _).trans rfl) (fun _ => ?_) (fun _ => ?_)
        · refine g_push ((q_75 _).trans rfl) ?_
          refine g_istore ((q_75 _).trans rfl) ?_
          exact gle.rf _
        · refine g_push ((q_75 _).trans rfl) ?_
          exact g_iret ((q_75 _).trans rfl)
theorem c_75 {K : gK} {d : Nat} {l0 : Nat} {l1 : Int32} {l2 : Int32} {G : gH} : gle (t_75_0 K d l0 l1 l2 G) (gCa K (d + 1) 75 [.ref l0, .int l1, .int l2] G) := by
  have h : gent (gMx 75) [.ref l0, .int l1, .int l2] = [some (.ref l0), some (.int l1), some (.int l2), none] := by
    show gent (gT 75).2.2.2.1 _ = _
    rw [m_75]; rfl
  exact fun r e => (congrArg (fun q => gRn K d 75 0 q [] G) h).trans (e_75_0 r e)
noncomputable def t_75_50_1 (K : gK) (d : Nat) (l3 : Int32) (v2 : Int32) (G1 : gH) : Option gO := if v2 = 0 then (some (.inl (some (.int l3)), G1)) else (some (.inl (some (.int (0 : Int32))), G1))
noncomputable def t_75_50_2 (K : gK) (d : Nat) (l3 : Int32) (v4 : Int32) (G3 : gH) : Option gO := if v4 = 0 then (some (.inl (some (.int l3)), G3)) else (some (.inl (some (.int (0 : Int32))), G3))
noncomputable def t_75_50_3 (K : gK) (d : Nat) (l3 : Int32) (v8 : Int32) (G7 : gH) : Option gO := if v8 = 0 then (some (.inl (some (.int l3)), G7)) else (some (.inl (some (.int (0 : Int32))), G7))
noncomputable def t_75_50_4 (K : gK) (d : Nat) (l3 : Int32) (v10 : Int32) (G9 : gH) : Option gO := if v10 = 0 then (some (.inl (some (.int l3)), G9)) else (some (.inl (some (.int (0 : Int32))), G9))
noncomputable def t_75_50_5 (K : gK) (d : Nat) (l2 : Int32) (l3 : Int32) (l0 : Nat) (l1 : Int32) (v6 : Int32) (G5 : gH) : Option gO := if l2 ≤ v6 then (if l3 ≤ (400 : Int32) then (if g_cls G5 l0 = some 3 then (cI (gCa K d 90 [.ref l0, .int (0 : Int32)] G5) (t_75_50_3 K d l3)) else none) else (if g_cls G5 l0 = some 3 then (cI (gCa K d 90 [.ref l0, .int (4 : Int32)] G5) (t_75_50_4 K d l3)) else none)) else (gRn K d 75 50 [some (.ref l0), some (.int l1), some (.int l2), some (.int (l3 + 1))] [] G5)
noncomputable def t_75_50 (K : gK) (d : Nat) (l0 : Nat) (l1 : Int32) (l2 : Int32) (l3 : Int32) (G : gH) : Option gO := if (400 : Int32) < l3 then (if l3 ≤ (400 : Int32) then (if g_cls G l0 = some 3 then (cI (gCa K d 90 [.ref l0, .int (0 : Int32)] G) (t_75_50_1 K d l3)) else none) else (if g_cls G l0 = some 3 then (cI (gCa K d 90 [.ref l0, .int (4 : Int32)] G) (t_75_50_2 K d l3)) else none)) else (if g_cls G l0 = some 3 then (cI (gCa K d 137 [.ref l0, .int l1, .int l3] G) (t_75_50_5 K d l2 l3 l0 l1)) else none)
theorem e_75_50 {K : gK} {d : Nat} {l0 : Nat} {l1 : Int32} {l2 : Int32} {l3 : Int32} {G : gH} : gle (t_75_50 K d l0 l1 l2 l3 G) (gRn K d 75 50 [some (.ref l0), some (.int l1), some (.int l2), some (.int l3)] [] G) := by
  unfold t_75_50
  refine g_iload ((q_75 _).trans rfl) rfl ?_
  refine g_push ((q_75 _).trans rfl) ?_
  refine g_cmpgt ((q_75 _).trans rfl) (fun _ => ?_) (fun _ => ?_)
  · refine g_aload ((q_75 _).trans rfl) rfl ?_
    refine g_iload ((q_75 _).trans rfl) rfl ?_
    refine g_push ((q_75 _).trans rfl) ?_
    refine g_cmple ((q_75 _).trans rfl) (fun _ => ?_) (fun _ => ?_)
    · refine g_push ((q_75 _).trans rfl) ?_
      refine g_callV (kk := 1) ((q_75 _).trans rfl) (gHn m_75) rfl (by exact ⟨Nat.le_of_ble_eq_true rfl, rfl⟩) rfl (fun w G1 => gm_I (fun v2 hw => ?_))
      subst hw
      refine g_ifeq ((q_75 _).trans rfl) (fun _ => ?_) (fun _ => ?_)
      · refine g_iload ((q_75 _).trans rfl) rfl ?_
        exact g_iret ((q_75 _).trans rfl)
      · refine g_push ((q_75 _).trans rfl) ?_
        refine g_goto ((q_75 _).trans rfl) ?_
        exact g_iret ((q_75 _).trans rfl)
    · refine g_push ((q_75 _).trans rfl) ?_
      refine g_goto ((q_75 _).trans rfl) ?_
      refine g_callV (kk := 1) ((q_75 _).trans rfl) (gHn m_75) rfl (by exact ⟨Nat.le_of_ble_eq_true rfl, rfl⟩) rfl (fun w G3 => gm_I (fun v4 hw => ?_))
      subst hw
      refine g_ifeq ((q_75 _).trans rfl) (fun _ => ?_) (fun _ => ?_)
      · refine g_iload ((q_75 _).trans rfl) rfl ?_
        exact g_iret ((q_75 _).trans rfl)
      · refine g_push ((q_75 _).trans rfl) ?_
        refine g_goto ((q_75 _).trans rfl) ?_
        exact g_iret ((q_75 _).trans rfl)
  · refine g_aload ((q_75 _).trans rfl) rfl ?_
    refine g_iload ((q_75 _).trans rfl) rfl ?_
    refine g_iload ((q_75 _).trans rfl) rfl ?_
    refine g_callV (kk := 2) ((q_75 _).trans rfl) (gHn m_75) rfl (by exact ⟨Nat.le_of_ble_eq_true rfl, rfl⟩) rfl (fun w G5 => gm_I (fun v6 hw => ?_))
    subst hw
    refine g_iload ((q_75 _).trans rfl) rfl ?_
    refine g_cmpge ((q_75 _).trans rfl) (fun _ => ?_) (fun _ => ?_)
    · refine g_aload ((q_75 _).trans rfl) rfl ?_
      refine g_iload ((q_75 _).trans rfl) rfl ?_
      refine g_push ((q_75 _).trans rfl) ?_
      refine g_cmple ((q_75 _).trans rfl) (fun _ => ?_) (fun _ => ?_)
      · refine g_push ((q_75 _).trans rfl) ?_
        refine g_callV (kk := 1) ((q_75 _).trans rfl) (gHn m_75) rfl (by exact ⟨Nat.le_of_ble_eq_true rfl, rfl⟩) rfl (fun w G7 => gm_I (fun v8 hw => ?_))
        subst hw
        refine g_ifeq ((q_75 _).trans rfl) (fun _ => ?_) (fun _ => ?_)
        · refine g_iload ((q_75 _).trans rfl) rfl ?_
          exact g_iret ((q_75 _).trans rfl)
        · refine g_push ((q_75 _).trans rfl) ?_
          refine g_goto ((q_75 _).trans rfl) ?_
          exact g_iret ((q_75 _).trans rfl)
      · refine g_push ((q_75 _).trans rfl) ?_
        refine g_goto ((q_75 _).trans rfl) ?_
        refine g_callV (kk := 1) ((q_75 _).trans rfl) (gHn m_75) rfl (by exact ⟨Nat.le_of_ble_eq_true rfl, rfl⟩) rfl (fun w G9 => gm_I (fun v10 hw => ?_))
        subst hw
        refine g_ifeq ((q_75 _).trans rfl) (fun _ => ?_) (fun _ => ?_)
        · refine g_iload ((q_75 _).trans rfl) rfl ?_
          exact g_iret ((q_75 _).trans rfl)
        · refine g_push ((q_75 _).trans rfl) ?_
          refine g_goto ((q_75 _).trans rfl) ?_
          exact g_iret ((q_75 _).trans rfl)
    · refine g_iinc ((q_75 _).trans rfl) rfl ?_
      refine g_goto ((q_75 _).trans rfl) ?_
      exact gle.rf _
theorem q_76 {K : gK} (pc : Nat) : gP K 76 pc = ((gL_76 K).lookup pc).getD o_none := rfl
noncomputable def t_76_0_1 (K : gK) (d : Nat) (G : gH) (j1 : Int64) : Option gO := some (.inl (some (.long j1)), G)
noncomputable def t_76_0 (K : gK) (d : Nat) (l0 : Nat) (G : gH) : Option gO := rJ G l0 0 15 (t_76_0_1 K d G)
theorem e_76_0 {K : gK} {d : Nat} {l0 : Nat} {G : gH} : gle (t_76_0 K d l0 G) (gRn K d 76 0 [some (.ref l0)] [] G) := by
  unfold t_76_0
  refine g_aload ((q_76 _).trans rfl) rfl ?_
  refine g_getJ ((q_76 _).trans rfl) (fun j1 => ?_)
  exact g_lret ((q_76 _).trans rfl)
theorem c_76 {K : gK} {d : Nat} {l0 : Nat} {G : gH} : gle (t_76_0 K d l0 G) (gCa K (d + 1) 76 [.ref l0] G) := by
  have h : gent (gMx 76) [.ref l0] = [some (.ref l0)] := by
    show gent (gT 76).2.2.2.1 _ = _
    rw [m_76]; rfl
  exact fun r e => (congrArg (fun q => gRn K d 76 0 q [] G) h).trans (e_76_0 r e)
theorem q_77 {K : gK} (pc : Nat) : gP K 77 pc = ((gL_77 K).lookup pc).getD o_none := rfl
noncomputable def t_77_0_1 (K : gK) (d : Nat) (G1 : gH) (j2 : Int64) : Option gO := some (.inl (some (.long j2)), G1)
noncomputable def t_77_0_2 (K : gK) (d : Nat) (l0 : Nat) (G1 : gH) : Option gO := rJ G1 l0 3 32 (t_77_0_1 K d G1)
noncomputable def t_77_0 (K : gK) (d : Nat) (l0 : Nat) (G : gH) : Option gO := if narrow .int (.int (0 : Int32)) = .int (0 : Int32) ∧ fits .int (.int (0 : Int32)) = true then wF G l0 3 0 (.int (0 : Int32)) (t_77_0_2 K d l0) else none
theorem e_77_0 {K : gK} {d : Nat} {l0 : Nat} {G : gH} : gle (t_77_0 K d l0 G) (gRn K d 77 0 [some (.ref l0)] [] G) := by
  unfold t_77_0
  refine g_aload ((q_77 _).trans rfl) rfl ?_
  refine g_push ((q_77 _).trans rfl) ?_
  refine g_putf ((q_77 _).trans rfl) (fun G1 => ?_)
  refine g_aload ((q_77 _).trans rfl) rfl ?_
  refine g_getJ ((q_77 _).trans rfl) (fun j2 => ?_)
  exact g_lret ((q_77 _).trans rfl)
theorem c_77 {K : gK} {d : Nat} {l0 : Nat} {G : gH} : gle (t_77_0 K d l0 G) (gCa K (d + 1) 77 [.ref l0] G) := by
  have h : gent (gMx 77) [.ref l0] = [some (.ref l0)] := by
    show gent (gT 77).2.2.2.1 _ = _
    rw [m_77]; rfl
  exact fun r e => (congrArg (fun q => gRn K d 77 0 q [] G) h).trans (e_77_0 r e)
theorem q_79 {K : gK} (pc : Nat) : gP K 79 pc = ((gL_79 K).lookup pc).getD o_none := rfl
noncomputable def t_79_0_1 (K : gK) (d : Nat) (v5 : Int32) (v7 : Int32) (v9 : Int32) (G8 : gH) : Option gO := if (FP.fdiv (FP.i2f v5) (FP.i2f (v7 * v9))) &&& 0x7fffffff ≤ 0x7f800000 then (some (.inl (some (.float (FP.fdiv (FP.i2f v5) (FP.i2f (v7 * v9))))), G8)) else none
noncomputable def t_79_0_2 (K : gK) (d : Nat) (l0 : Nat) (v5 : Int32) (v7 : Int32) (G6 : gH) : Option gO := if g_cls G6 l0 = some 3 then (cI (gCa K d 143 [.ref l0] G6) (t_79_0_1 K d v5 v7)) else none
noncomputable def t_79_0_3 (K : gK) (d : Nat) (l0 : Nat) (v5 : Int32) (G4 : gH) : Option gO := if g_cls G4 l0 = some 3 then (cI (gCa K d 109 [.ref l0] G4) (t_79_0_2 K d l0 v5)) else none
noncomputable def t_79_0_4 (K : gK) (d : Nat) (l0 : Nat) (v3 : Int32) (G2 : gH) : Option gO := if v3 = 0 then (if g_cls G2 l0 = some 3 then (cI (gCa K d 119 [.ref l0] G2) (t_79_0_3 K d l0)) else none) else (some (.inl (some (.float (0 : UInt32))), G2))
noncomputable def t_79_0_5 (K : gK) (d : Nat) (v13 : Int32) (v15 : Int32) (v17 : Int32) (G16 : gH) : Option gO := if (FP.fdiv (FP.i2f v13) (FP.i2f (v15 * v17))) &&& 0x7fffffff ≤ 0x7f800000 then (some (.inl (some (.float (FP.fdiv (FP.i2f v13) (FP.i2f (v15 * v17))))), G16)) else none
noncomputable def t_79_0_6 (K : gK) (d : Nat) (l0 : Nat) (v13 : Int32) (v15 : Int32) (G14 : gH) : Option gO := if g_cls G14 l0 = some 3 then (cI (gCa K d 143 [.ref l0] G14) (t_79_0_5 K d v13 v15)) else none
noncomputable def t_79_0_7 (K : gK) (d : Nat) (l0 : Nat) (v13 : Int32) (G12 : gH) : Option gO := if g_cls G12 l0 = some 3 then (cI (gCa K d 109 [.ref l0] G12) (t_79_0_6 K d l0 v13)) else none
noncomputable def t_79_0_8 (K : gK) (d : Nat) (l0 : Nat) (v11 : Int32) (G10 : gH) : Option gO := if v11 = 0 then (if g_cls G10 l0 = some 3 then (cI (gCa K d 119 [.ref l0] G10) (t_79_0_7 K d l0)) else none) else (some (.inl (some (.float (0 : UInt32))), G10))
noncomputable def t_79_0_9 (K : gK) (d : Nat) (G : gH) (l0 : Nat) (v1 : Int32) : Option gO := if v1 = 0 then (if g_cls G l0 = some 3 then (cI (gCa K d 90 [.ref l0, .int (1 : Int32)] G) (t_79_0_4 K d l0)) else none) else (if g_cls G l0 = some 3 then (cI (gCa K d 90 [.ref l0, .int (0 : Int32)] G) (t_79_0_8 K d l0)) else none)
noncomputable def t_79_0 (K : gK) (d : Nat) (l0 : Nat) (G : gH) : Option gO := rI G l0 3 17 (t_79_0_9 K d G l0)
theorem e_79_0 {K : gK} {d : Nat} {l0 : Nat} {G : gH} : gle (t_79_0 K d l0 G) (gRn K d 79 0 [some (.ref l0)] [] G) := by
  unfold t_79_0
  refine g_aload ((q_79 _).trans rfl) rfl ?_
  refine g_aload ((q_79 _).trans rfl) rfl ?_
  refine g_getI ((q_79 _).trans rfl) (fun v1 => ?_)
  refine g_ifne ((q_79 _).trans rfl) (fun _ => ?_) (fun _ => ?_)
  · refine g_push ((q_79 _).trans rfl) ?_
    refine g_goto ((q_79 _).trans rfl) ?_
    refine g_callV (kk := 1) ((q_79 _).trans rfl) (gHn m_79) rfl (by exact ⟨Nat.le_of_ble_eq_true rfl, rfl⟩) rfl (fun w G2 => gm_I (fun v3 hw => ?_))
    subst hw
    refine g_ifeq ((q_79 _).trans rfl) (fun _ => ?_) (fun _ => ?_)
    · refine g_aload ((q_79 _).trans rfl) rfl ?_
      refine g_callV (kk := 0) ((q_79 _).trans rfl) (gHn m_79) rfl (by exact ⟨Nat.le_of_ble_eq_true rfl, rfl⟩) rfl (fun w G4 => gm_I (fun v5 hw => ?_))
      subst hw
      refine g_i2f ((q_79 _).trans rfl) ?_
      refine g_aload ((q_79 _).trans rfl) rfl ?_
      refine g_callV (kk := 0) ((q_79 _).trans rfl) (gHn m_79) rfl (by exact ⟨Nat.le_of_ble_eq_true rfl, rfl⟩) rfl (fun w G6 => gm_I (fun v7 hw => ?_))
      subst hw
      refine g_aload ((q_79 _).trans rfl) rfl ?_
      refine g_callV (kk := 0) ((q_79 _).trans rfl) (gHn m_79) rfl (by exact ⟨Nat.le_of_ble_eq_true rfl, rfl⟩) rfl (fun w G8 => gm_I (fun v9 hw => ?_))
      subst hw
      refine g_imul ((q_79 _).trans rfl) ?_
      refine g_i2f ((q_79 _).trans rfl) ?_
      refine g_fdiv ((q_79 _).trans rfl) (fun _ => ?_)
      exact g_fret ((q_79 _).trans rfl)
    · refine g_push ((q_79 _).trans rfl) ?_
      refine g_goto ((q_79 _).trans rfl) ?_
      exact g_fret ((q_79 _).trans rfl)
  · refine g_push ((q_79 _).trans rfl) ?_
    refine g_callV (kk := 1) ((q_79 _).trans rfl) (gHn m_79) rfl (by exact ⟨Nat.le_of_ble_eq_true rfl, rfl⟩) rfl (fun w G10 => gm_I (fun v11 hw => ?_))
    subst hw
    refine g_ifeq ((q_79 _).trans rfl) (fun _ => ?_) (fun _ => ?_)
    · refine g_aload ((q_79 _).trans rfl) rfl ?_
      refine g_callV (kk := 0) ((q_79 _).trans rfl) (gHn m_79) rfl (by exact ⟨Nat.le_of_ble_eq_true rfl, rfl⟩) rfl (fun w G12 => gm_I (fun v13 hw => ?_))
      subst hw
      refine g_i2f ((q_79 _).trans rfl) ?_
      refine g_aload ((q_79 _).trans rfl) rfl ?_
      refine g_callV (kk := 0) ((q_79 _).trans rfl) (gHn m_79) rfl (by exact ⟨Nat.le_of_ble_eq_true rfl, rfl⟩) rfl (fun w G14 => gm_I (fun v15 hw => ?_))
      subst hw
      refine g_aload ((q_79 _).trans rfl) rfl ?_
      refine g_callV (kk := 0) ((q_79 _).trans rfl) (gHn m_79) rfl (by exact ⟨Nat.le_of_ble_eq_true rfl, rfl⟩) rfl (fun w G16 => gm_I (fun v17 hw => ?_))
      subst hw
      refine g_imul ((q_79 _).trans rfl) ?_
      refine g_i2f ((q_79 _).trans rfl) ?_
      refine g_fdiv ((q_79 _).trans rfl) (fun _ => ?_)
      exact g_fret ((q_79 _).trans rfl)
    · refine g_push ((q_79 _).trans rfl) ?_
      refine g_goto ((q_79 _).trans rfl) ?_
      exact g_fret ((q_79 _).trans rfl)
theorem c_79 {K : gK} {d : Nat} {l0 : Nat} {G : gH} : gle (t_79_0 K d l0 G) (gCa K (d + 1) 79 [.ref l0] G) := by
  have h : gent (gMx 79) [.ref l0] = [some (.ref l0)] := by
    show gent (gT 79).2.2.2.1 _ = _
    rw [m_79]; rfl
  exact fun r e => (congrArg (fun q => gRn K d 79 0 q [] G) h).trans (e_79_0 r e)
theorem q_81 {K : gK} (pc : Nat) : gP K 81 pc = ((gL_81 K).lookup pc).getD o_none := rfl
noncomputable def t_81_0_1 (K : gK) (d : Nat) (v5 : Int32) (G4 : gH) (v6 : Int32) : Option gO := if (FP.ddiv (FP.i2d v5) (FP.i2d v6)) &&& 0x7fffffffffffffff ≤ 0x7ff0000000000000 then (some (.inl (some (.double (FP.ddiv (FP.i2d v5) (FP.i2d v6)))), G4)) else none
noncomputable def t_81_0_2 (K : gK) (d : Nat) (l0 : Nat) (v5 : Int32) (G4 : gH) : Option gO := rI G4 l0 3 17 (t_81_0_1 K d v5 G4)
noncomputable def t_81_0_3 (K : gK) (d : Nat) (l0 : Nat) (v3 : Int32) (G2 : gH) : Option gO := if v3 = 0 then (if g_cls G2 l0 = some 3 then (cI (gCa K d 119 [.ref l0] G2) (t_81_0_2 K d l0)) else none) else (some (.inl (some (.double (0 : UInt64))), G2))
noncomputable def t_81_0_4 (K : gK) (d : Nat) (v10 : Int32) (G9 : gH) (v11 : Int32) : Option gO := if (FP.ddiv (FP.i2d v10) (FP.i2d v11)) &&& 0x7fffffffffffffff ≤ 0x7ff0000000000000 then (some (.inl (some (.double (FP.ddiv (FP.i2d v10) (FP.i2d v11)))), G9)) else none
noncomputable def t_81_0_5 (K : gK) (d : Nat) (l0 : Nat) (v10 : Int32) (G9 : gH) : Option gO := rI G9 l0 3 17 (t_81_0_4 K d v10 G9)
noncomputable def t_81_0_6 (K : gK) (d : Nat) (l0 : Nat) (v8 : Int32) (G7 : gH) : Option gO := if v8 = 0 then (if g_cls G7 l0 = some 3 then (cI (gCa K d 119 [.ref l0] G7) (t_81_0_5 K d l0)) else none) else (some (.inl (some (.double (0 : UInt64))), G7))
noncomputable def t_81_0_7 (K : gK) (d : Nat) (G : gH) (l0 : Nat) (v1 : Int32) : Option gO := if v1 = 0 then (if g_cls G l0 = some 3 then (cI (gCa K d 90 [.ref l0, .int (1 : Int32)] G) (t_81_0_3 K d l0)) else none) else (if g_cls G l0 = some 3 then (cI (gCa K d 90 [.ref l0, .int (0 : Int32)] G) (t_81_0_6 K d l0)) else none)
noncomputable def t_81_0 (K : gK) (d : Nat) (l0 : Nat) (G : gH) : Option gO := rI G l0 3 17 (t_81_0_7 K d G l0)
theorem e_81_0 {K : gK} {d : Nat} {l0 : Nat} {G : gH} : gle (t_81_0 K d l0 G) (gRn K d 81 0 [some (.ref l0)] [] G) := by
  unfold t_81_0
  refine g_aload ((q_81 _).trans rfl) rfl ?_
  refine g_aload ((q_81 _).trans rfl) rfl ?_
  refine g_getI ((q_81 _).trans rfl) (fun v1 => ?_)
  refine g_ifne ((q_81 _).trans rfl) (fun _ => ?_) (fun _ => ?_)
  · refine g_push ((q_81 _).trans rfl) ?_
    refine g_goto ((q_81 _).trans rfl) ?_
    refine g_callV (kk := 1) ((q_81 _).trans rfl) (gHn m_81) rfl (by exact ⟨Nat.le_of_ble_eq_true rfl, rfl⟩) rfl (fun w G2 => gm_I (fun v3 hw => ?_))
    subst hw
    refine g_ifeq ((q_81 _).trans rfl) (fun _ => ?_) (fun _ => ?_)
    · refine g_aload ((q_81 _).trans rfl) rfl ?_
      refine g_callV (kk := 0) ((q_81 _).trans rfl) (gHn m_81) rfl (by exact ⟨Nat.le_of_ble_eq_true rfl, rfl⟩) rfl (fun w G4 => gm_I (fun v5 hw => ?_))
      subst hw
      refine g_i2d ((q_81 _).trans rfl) ?_
      refine g_aload ((q_81 _).trans rfl) rfl ?_
      refine g_getI ((q_81 _).trans rfl) (fun v6 => ?_)
      refine g_i2d ((q_81 _).trans rfl) ?_
      refine g_ddiv ((q_81 _).trans rfl) (fun _ => ?_)
      exact g_dret ((q_81 _).trans rfl)
    · refine g_push ((q_81 _).trans rfl) ?_
      refine g_goto ((q_81 _).trans rfl) ?_
      exact g_dret ((q_81 _).trans rfl)
  · refine g_push ((q_81 _).trans rfl) ?_
    refine g_callV (kk := 1) ((q_81 _).trans rfl) (gHn m_81) rfl (by exact ⟨Nat.le_of_ble_eq_true rfl, rfl⟩) rfl (fun w G7 => gm_I (fun v8 hw => ?_))
    subst hw
    refine g_ifeq ((q_81 _).trans rfl) (fun _ => ?_) (fun _ => ?_)
    · refine g_aload ((q_81 _).trans rfl) rfl ?_
      refine g_callV (kk := 0) ((q_81 _).trans rfl) (gHn m_81) rfl (by exact ⟨Nat.le_of_ble_eq_true rfl, rfl⟩) rfl (fun w G9 => gm_I (fun v10 hw => ?_))
      subst hw
      refine g_i2d ((q_81 _).trans rfl) ?_
      refine g_aload ((q_81 _).trans rfl) rfl ?_
      refine g_getI ((q_81 _).trans rfl) (fun v11 => ?_)
      refine g_i2d ((q_81 _).trans rfl) ?_
      refine g_ddiv ((q_81 _).trans rfl) (fun _ => ?_)
      exact g_dret ((q_81 _).trans rfl)
    · refine g_push ((q_81 _).trans rfl) ?_
      refine g_goto ((q_81 _).trans rfl) ?_
      exact g_dret ((q_81 _).trans rfl)
theorem c_81 {K : gK} {d : Nat} {l0 : Nat} {G : gH} : gle (t_81_0 K d l0 G) (gCa K (d + 1) 81 [.ref l0] G) := by
  have h : gent (gMx 81) [.ref l0] = [some (.ref l0)] := by
    show gent (gT 81).2.2.2.1 _ = _
    rw [m_81]; rfl
  exact fun r e => (congrArg (fun q => gRn K d 81 0 q [] G) h).trans (e_81_0 r e)
theorem q_82 {K : gK} (pc : Nat) : gP K 82 pc = ((gL_82 K).lookup pc).getD o_none := rfl
noncomputable def t_82_0_1 (K : gK) (d : Nat) (j4 : Int64) (G3 : gH) (j5 : Int64) : Option gO := if (lg_cmp j4 j5) = 0 then (if narrow .boolean (.int (1 : Int32)) = .int (1 : Int32) then some (.inl (some (.int (1 : Int32))), G3) else none) else (if narrow .boolean (.int (0 : Int32)) = .int (0 : Int32) then some (.inl (some (.int (0 : Int32))), G3) else none)
noncomputable def t_82_0_2 (K : gK) (d : Nat) (l0 : Nat) (j4 : Int64) (G3 : gH) : Option gO := rJ G3 l0 0 15 (t_82_0_1 K d j4 G3)
noncomputable def t_82_0_3 (K : gK) (d : Nat) (l0 : Nat) (v2 : Int32) (G1 : gH) : Option gO := if v2 = 0 then (if narrow .boolean (.int (0 : Int32)) = .int (0 : Int32) then some (.inl (some (.int (0 : Int32))), G1) else none) else (if g_cls G1 l0 = some 0 then (cJ (gCa K d 146 [.ref l0] G1) (t_82_0_2 K d l0)) else none)
noncomputable def t_82_0 (K : gK) (d : Nat) (l0 : Nat) (G : gH) : Option gO := if g_cls G l0 = some 0 then (cI (gCa K d 145 [.ref l0] G) (t_82_0_3 K d l0)) else none
theorem e_82_0 {K : gK} {d : Nat} {l0 : Nat} {G : gH} : gle (t_82_0 K d l0 G) (gRn K d 82 0 [some (.ref l0)] [] G) := by
  unfold t_82_0
  refine g_aload ((q_82 _).trans rfl) rfl ?_
  refine g_callV (kk := 0) ((q_82 _).trans rfl) (gHn m_82) rfl (by exact ⟨Nat.le_of_ble_eq_true rfl, rfl⟩) rfl (fun w G1 => gm_I (fun v2 hw => ?_))
  subst hw
  refine g_ifeq ((q_82 _).trans rfl) (fun _ => ?_) (fun _ => ?_)
  · refine g_push ((q_82 _).trans rfl) ?_
    exact g_zret ((q_82 _).trans rfl)
  · refine g_aload ((q_82 _).trans rfl) rfl ?_
    refine g_callV (kk := 0) ((q_82 _).trans rfl) (gHn m_82) rfl (by exact ⟨Nat.le_of_ble_eq_true rfl, rfl⟩) rfl (fun w G3 => gm_J (fun j4 hw => ?_))
    subst hw
    refine g_aload ((q_82 _).trans rfl) rfl ?_
    refine g_getJ ((q_82 _).trans rfl) (fun j5 => ?_)
    refine g_lcmp ((q_82 _).trans rfl) ?_
    refine g_ifne ((q_82 _).trans rfl) (fun _ => ?_) (fun _ => ?_)
    · refine g_push ((q_82 _).trans rfl) ?_
      refine g_goto ((q_82 _).trans rfl) ?_
      exact g_zret ((q_82 _).trans rfl)
    · refine g_push ((q_82 _).trans rfl) ?_
      exact g_zret ((q_82 _).trans rfl)
theorem c_82 {K : gK} {d : Nat} {l0 : Nat} {G : gH} : gle (t_82_0 K d l0 G) (gCa K (d + 1) 82 [.ref l0] G) := by
  have h : gent (gMx 82) [.ref l0] = [some (.ref l0)] := by
    show gent (gT 82).2.2.2.1 _ = _
    rw [m_82]; rfl
  exact fun r e => (congrArg (fun q => gRn K d 82 0 q [] G) h).trans (e_82_0 r e)
theorem q_83 {K : gK} (pc : Nat) : gP K 83 pc = ((gL_83 K).lookup pc).getD o_none := rfl
noncomputable def t_83_0_1 (K : gK) (d : Nat) (l0 : Nat) (G1 : gH) : Option gO := gRn K d 83 9 [some (.ref l0), some (.int (0 : Int32)), some (.int (0 : Int32)), none, none] [] G1
noncomputable def t_83_0 (K : gK) (d : Nat) (l0 : Nat) (G : gH) : Option gO := if narrow .int (.int (0 : Int32)) = .int (0 : Int32) ∧ fits .int (.int (0 : Int32)) = true then wF G l0 3 0 (.int (0 : Int32)) (t_83_0_1 K d l0) else none
theorem e_83_0 {K : gK} {d : Nat} {l0 : Nat} {G : gH} : gle (t_83_0 K d l0 G) (gRn K d 83 0 [some (.ref l0), none, none, none, none] [] G) := by
  unfold t_83_0
  refine g_aload ((q_83 _).trans rfl) rfl ?_
  refine g_push ((q_83 _).trans rfl) ?_
  refine g_putf ((q_83 _).trans rfl) (fun G1 => ?_)
  refine g_push ((q_83 _).trans rfl) ?_
  refine g_istore ((q_83 _).trans rfl) ?_
  refine g_push ((q_83 _).trans rfl) ?_
  refine g_istore ((q_83 _).trans rfl) ?_
  exact gle.rf _
theorem c_83 {K : gK} {d : Nat} {l0 : Nat} {G : gH} : gle (t_83_0 K d l0 G) (gCa K (d + 1) 83 [.ref l0] G) := by
  have h : gent (gMx 83) [.ref l0] = [some (.ref l0), none, none, none, none] := by
    show gent (gT 83).2.2.2.1 _ = _
    rw [m_83]; rfl
  exact fun r e => (congrArg (fun q => gRn K d 83 0 q [] G) h).trans (e_83_0 r e)
noncomputable def t_83_9_1 (K : gK) (d : Nat) (l0 : Nat) (l1 : Int32) (l2 : Int32) (o3 : Option Value) (o4 : Option Value) (G : gH) (v2 : Int32) : Option gO := if v2 = ((-1) : Int32) then (gRn K d 83 9 [some (.ref l0), some (.int (l1 + (0 : Int32))), some (.int (l2 + 1)), o3, o4] [] G) else (gRn K d 83 9 [some (.ref l0), some (.int (l1 + (1 : Int32))), some (.int (l2 + 1)), o3, o4] [] G)
noncomputable def t_83_9_2 (K : gK) (d : Nat) (G : gH) (l2 : Int32) (l0 : Nat) (l1 : Int32) (o3 : Option Value) (o4 : Option Value) (a1 : Nat) : Option gO := xI G a1 0 l2 (t_83_9_1 K d l0 l1 l2 o3 o4 G)
noncomputable def t_83_9 (K : gK) (d : Nat) (l0 : Nat) (l1 : Int32) (l2 : Int32) (o3 : Option Value) (o4 : Option Value) (G : gH) : Option gO := if (720 : Int32) ≤ l2 then (gRn K d 83 45 [some (.ref l0), some (.int l1), some (.long (0 : Int64)), none, some (.int (0 : Int32))] [] G) else (rR G l0 3 25 (t_83_9_2 K d G l2 l0 l1 o3 o4))
theorem e_83_9 {K : gK} {d : Nat} {l0 : Nat} {l1 : Int32} {l2 : Int32} {o3 : Option Value} {o4 : Option Value} {G : gH} : gle (t_83_9 K d l0 l1 l2 o3 o4 G) (gRn K d 83 9 [some (.ref l0), some (.int l1), some (.int l2), o3, o4] [] G) := by
  unfold t_83_9
  refine g_iload ((q_83 _).trans rfl) rfl ?_
  refine g_push ((q_83 _).trans rfl) ?_
  refine g_cmpge ((q_83 _).trans rfl) (fun _ => ?_) (fun _ => ?_)
  · refine g_push ((q_83 _).trans rfl) ?_
    refine g_lstore ((q_83 _).trans rfl) ?_
    refine g_push ((q_83 _).trans rfl) ?_
    refine g_istore ((q_83 _).trans rfl) ?_
    exact gle.rf _
  · refine g_iload ((q_83 _).trans rfl) rfl ?_
    refine g_aload ((q_83 _).trans rfl) rfl ?_
    refine g_getR ((q_83 _).trans rfl) (fun a1 => ?_)
    refine g_iload ((q_83 _).trans rfl) rfl ?_
    refine g_iald ((q_83 _).trans rfl) (fun v2 => ?_)
    refine g_push ((q_83 _).trans rfl) ?_
    refine g_cmpne ((q_83 _).trans rfl) (fun _ => ?_) (fun _ => ?_)
    · refine g_push ((q_83 _).trans rfl) ?_
      refine g_goto ((q_83 _).trans rfl) ?_
      refine g_iadd ((q_83 _).trans rfl) ?_
      refine g_istore ((q_83 _).trans rfl) ?_
      refine g_iinc ((q_83 _).trans rfl) rfl ?_
      refine g_goto ((q_83 _).trans rfl) ?_
      exact gle.rf _
    · refine g_push ((q_83 _).trans rfl) ?_
      refine g_iadd ((q_83 _).trans rfl) ?_
      refine g_istore ((q_83 _).trans rfl) ?_
      refine g_iinc ((q_83 _).trans rfl) rfl ?_
      refine g_goto ((q_83 _).trans rfl) ?_
      exact gle.rf _
noncomputable def t_83_45_1 (K : gK) (d : Nat) (l0 : Nat) (l1 : Int32) (l2 : Int64) (l4 : Int32) (G : gH) (v3 : Int32) : Option gO := gRn K d 83 45 [some (.ref l0), some (.int l1), some (.long (l2 + (v3).toInt64)), none, some (.int (l4 + 1))] [] G
noncomputable def t_83_45_2 (K : gK) (d : Nat) (G : gH) (l4 : Int32) (l0 : Nat) (l1 : Int32) (l2 : Int64) (a2 : Nat) : Option gO := xI G a2 0 l4 (t_83_45_1 K d l0 l1 l2 l4 G)
noncomputable def t_83_45_3 (K : gK) (d : Nat) (l4 : Int32) (l0 : Nat) (l1 : Int32) (l2 : Int64) (G : gH) (v1 : Int32) : Option gO := if ((2 : Int32) * v1) ≤ l4 then (gRn K d 83 76 [some (.ref l0), some (.int l1), some (.long l2), none, some (.int (0 : Int32))] [] G) else (rR G l0 3 16 (t_83_45_2 K d G l4 l0 l1 l2))
noncomputable def t_83_45 (K : gK) (d : Nat) (l0 : Nat) (l1 : Int32) (l2 : Int64) (l4 : Int32) (G : gH) : Option gO := rI G l0 3 7 (t_83_45_3 K d l4 l0 l1 l2 G)
theorem e_83_45 {K : gK} {d : Nat} {l0 : Nat} {l1 : Int32} {l2 : Int64} {l4 : Int32} {G : gH} : gle (t_83_45 K d l0 l1 l2 l4 G) (gRn K d 83 45 [some (.ref l0), some (.int l1), some (.long l2), none, some (.int l4)] [] G) := by
  unfold t_83_45
  refine g_iload ((q_83 _).trans rfl) rfl ?_
  refine g_push ((q_83 _).trans rfl) ?_
  refine g_aload ((q_83 _).trans rfl) rfl ?_
  refine g_getI ((q_83 _).trans rfl) (fun v1 => ?_)
  refine g_imul ((q_83 _).trans rfl) ?_
  refine g_cmpge ((q_83 _).trans rfl) (fun _ => ?_) (fun _ => ?_)
  · refine g_push ((q_83 _).trans rfl) ?_
    refine g_istore ((q_83 _).trans rfl) ?_
    exact gle.rf _
  · refine g_lload ((q_83 _).trans rfl) rfl ?_
    refine g_aload ((q_83 _).trans rfl) rfl ?_
    refine g_getR ((q_83 _).trans rfl) (fun a2 => ?_)
    refine g_iload ((q_83 _).trans rfl) rfl ?_
    refine g_iald ((q_83 _).trans rfl) (fun v3 => ?_)
    refine g_i2l ((q_83 _).trans rfl) ?_
    refine g_ladd ((q_83 _).trans rfl) ?_
    refine g_lstore ((q_83 _).trans rfl) ?_
    refine g_iinc ((q_83 _).trans rfl) rfl ?_
    refine g_goto ((q_83 _).trans rfl) ?_
    exact gle.rf _
noncomputable def t_83_76_1 (K : gK) (d : Nat) (l2 : Int64) (G2 : gH) (j4 : Int64) : Option gO := if (lg_cmp l2 j4) = 0 then (if narrow .boolean (.int (1 : Int32)) = .int (1 : Int32) then some (.inl (some (.int (1 : Int32))), G2) else none) else (if narrow .boolean (.int (0 : Int32)) = .int (0 : Int32) then some (.inl (some (.int (0 : Int32))), G2) else none)
noncomputable def t_83_76_2 (K : gK) (d : Nat) (l1 : Int32) (l0 : Nat) (l2 : Int64) (v3 : Int32) (G2 : gH) : Option gO := if l1 = v3 then (rJ G2 l0 3 32 (t_83_76_1 K d l2 G2)) else (if narrow .boolean (.int (0 : Int32)) = .int (0 : Int32) then some (.inl (some (.int (0 : Int32))), G2) else none)
noncomputable def t_83_76_3 (K : gK) (d : Nat) (l0 : Nat) (l1 : Int32) (l2 : Int64) (v6 : Int32) (l4 : Int32) (v8 : Int32) (G7 : gH) : Option gO := gRn K d 83 76 [some (.ref l0), some (.int l1), some (.long (l2 + ((v6).toInt64 * (v8).toInt64))), none, some (.int (l4 + 1))] [] G7
noncomputable def t_83_76_4 (K : gK) (d : Nat) (G : gH) (l0 : Nat) (l4 : Int32) (l1 : Int32) (l2 : Int64) (v6 : Int32) : Option gO := if g_cls G l0 = some 3 then (cI (gCa K d 124 [.ref l0, .int l4] G) (t_83_76_3 K d l0 l1 l2 v6 l4)) else none
noncomputable def t_83_76_5 (K : gK) (d : Nat) (G : gH) (l4 : Int32) (l0 : Nat) (l1 : Int32) (l2 : Int64) (a5 : Nat) : Option gO := xI G a5 0 l4 (t_83_76_4 K d G l0 l4 l1 l2)
noncomputable def t_83_76_6 (K : gK) (d : Nat) (l4 : Int32) (G : gH) (l0 : Nat) (l1 : Int32) (l2 : Int64) (v1 : Int32) : Option gO := if v1 ≤ l4 then (if g_cls G l0 = some 3 then (cI (gCa K d 119 [.ref l0] G) (t_83_76_2 K d l1 l0 l2)) else none) else (rR G l0 3 30 (t_83_76_5 K d G l4 l0 l1 l2))
noncomputable def t_83_76 (K : gK) (d : Nat) (l0 : Nat) (l1 : Int32) (l2 : Int64) (l4 : Int32) (G : gH) : Option gO := rI G l0 3 28 (t_83_76_6 K d l4 G l0 l1 l2)
theorem e_83_76 {K : gK} {d : Nat} {l0 : Nat} {l1 : Int32} {l2 : Int64} {l4 : Int32} {G : gH} : gle (t_83_76 K d l0 l1 l2 l4 G) (gRn K d 83 76 [some (.ref l0), some (.int l1), some (.long l2), none, some (.int l4)] [] G) := by
  unfold t_83_76
  refine g_iload ((q_83 _).trans rfl) rfl ?_
  refine g_aload ((q_83 _).trans rfl) rfl ?_
  refine g_getI ((q_83 _).trans rfl) (fun v1 => ?_)
  refine g_cmpge ((q_83 _).trans rfl) (fun _ => ?_) (fun _ => ?_)
  · refine g_iload ((q_83 _).trans rfl) rfl ?_
    refine g_aload ((q_83 _).trans rfl) rfl ?_
    refine g_callV (kk := 0) ((q_83 _).trans rfl) (gHn m_83) rfl (by exact ⟨Nat.le_of_ble_eq_true rfl, rfl⟩) rfl (fun w G2 => gm_I (fun v3 hw => ?_))
    subst hw
    refine g_cmpne ((q_83 _).trans rfl) (fun _ => ?_) (fun _ => ?_)
    · refine g_lload ((q_83 _).trans rfl) rfl ?_
      refine g_aload ((q_83 _).trans rfl) rfl ?_
      refine g_getJ ((q_83 _).trans rfl) (fun j4 => ?_)
      refine g_lcmp ((q_83 _).trans rfl) ?_
      refine g_ifne ((q_83 _).trans rfl) (fun _ => ?_) (fun _ => ?_)
      · refine g_push ((q_83 _).trans rfl) ?_
        refine g_goto ((q_83 _).trans rfl) ?_
        exact g_zret ((q_83 _).trans rfl)
      · refine g_push ((q_83 _).trans rfl) ?_
        exact g_zret ((q_83 _).trans rfl)
    · refine g_push ((q_83 _).trans rfl) ?_
      exact g_zret ((q_83 _).trans rfl)
  · refine g_lload ((q_83 _).trans rfl) rfl ?_
    refine g_aload ((q_83 _).trans rfl) rfl ?_
    refine g_getR ((q_83 _).trans rfl) (fun a5 => ?_)
    refine g_iload ((q_83 _).trans rfl) rfl ?_
    refine g_iald ((q_83 _).trans rfl) (fun v6 => ?_)
    refine g_i2l ((q_83 _).trans rfl) ?_
    refine g_aload ((q_83 _).trans rfl) rfl ?_
    refine g_iload ((q_83 _).trans rfl) rfl ?_
    refine g_callV (kk := 1) ((q_83 _).trans rfl) (gHn m_83) rfl (by exact ⟨Nat.le_of_ble_eq_true rfl, rfl⟩) rfl (fun w G7 => gm_I (fun v8 hw => ?_))
    subst hw
    refine g_i2l ((q_83 _).trans rfl) ?_
    refine g_lmul ((q_83 _).trans rfl) ?_
    refine g_ladd ((q_83 _).trans rfl) ?_
    refine g_lstore ((q_83 _).trans rfl) ?_
    refine g_iinc ((q_83 _).trans rfl) rfl ?_
    refine g_goto ((q_83 _).trans rfl) ?_
    exact gle.rf _
theorem q_84 {K : gK} (pc : Nat) : gP K 84 pc = ((gL_84 K).lookup pc).getD o_none := rfl
noncomputable def t_84_0_1 (K : gK) (d : Nat) (G3 : gH) : Option gO := some (.inl none, G3)
noncomputable def t_84_0_2 (K : gK) (d : Nat) (l0 : Nat) (G1 : gH) : Option gO := if narrow (.array (.object "java/lang/Object")) (.ref (K.2 3)) = .ref (K.2 3) ∧ fits (.array (.object "java/lang/Object")) (.ref (K.2 3)) = true then wF G1 l0 12 1 (.ref (K.2 3)) (t_84_0_1 K d) else none
noncomputable def t_84_0 (K : gK) (d : Nat) (l0 : Nat) (G : gH) : Option gO := cV (gCa K d 147 [.ref l0] G) (t_84_0_2 K d l0)
theorem e_84_0 {K : gK} {d : Nat} {l0 : Nat} {G : gH} : gle (t_84_0 K d l0 G) (gRn K d 84 0 [some (.ref l0)] [] G) := by
  unfold t_84_0
  refine g_aload ((q_84 _).trans rfl) rfl ?_
  refine g_callI (kk := 0) ((q_84 _).trans rfl) (gHn m_84) rfl (by exact ⟨Nat.le_of_ble_eq_true rfl, rfl⟩) rfl (fun w G1 => gm_V (fun hw => ?_))
  subst hw
  refine g_aload ((q_84 _).trans rfl) rfl ?_
  refine g_push ((q_84 _).trans rfl) ?_
  refine g_putf ((q_84 _).trans rfl) (fun G3 => ?_)
  exact g_vret ((q_84 _).trans rfl)
theorem c_84 {K : gK} {d : Nat} {l0 : Nat} {G : gH} : gle (t_84_0 K d l0 G) (gCa K (d + 1) 84 [.ref l0] G) := by
  have h : gent (gMx 84) [.ref l0] = [some (.ref l0)] := by
    show gent (gT 84).2.2.2.1 _ = _
    rw [m_84]; rfl
  exact fun r e => (congrArg (fun q => gRn K d 84 0 q [] G) h).trans (e_84_0 r e)
theorem q_85 {K : gK} (pc : Nat) : gP K 85 pc = ((gL_85 K).lookup pc).getD o_none := rfl
noncomputable def t_85_0 (K : gK) (d : Nat) (l0 : Nat) (G : gH) : Option gO := some (.inl none, G)
theorem e_85_0 {K : gK} {d : Nat} {l0 : Nat} {G : gH} : gle (t_85_0 K d l0 G) (gRn K d 85 0 [some (.ref l0)] [] G) := by
  unfold t_85_0
  refine g_aload ((q_85 _).trans rfl) rfl ?_
  refine g_objinit ((q_85 _).trans rfl) (Nat.le_of_ble_eq_true rfl) ?_
  exact g_vret ((q_85 _).trans rfl)
theorem c_85 {K : gK} {d : Nat} {l0 : Nat} {G : gH} : gle (t_85_0 K d l0 G) (gCa K (d + 1) 85 [.ref l0] G) := by
  have h : gent (gMx 85) [.ref l0] = [some (.ref l0)] := by
    show gent (gT 85).2.2.2.1 _ = _
    rw [m_85]; rfl
  exact fun r e => (congrArg (fun q => gRn K d 85 0 q [] G) h).trans (e_85_0 r e)
theorem q_86 {K : gK} (pc : Nat) : gP K 86 pc = ((gL_86 K).lookup pc).getD o_none := rfl
noncomputable def t_86_0_1 (K : gK) (d : Nat) (G4 : gH) : Option gO := some (.inl none, G4)
noncomputable def t_86_0_2 (K : gK) (d : Nat) (l0 : Nat) (G3 : gH) : Option gO := if g_cls G3 l0 = some 2 then (cV (gCa K d 112 [.ref l0] G3) (t_86_0_1 K d)) else none
noncomputable def t_86_0_3 (K : gK) (d : Nat) (l0 : Nat) (G2 : gH) : Option gO := if (4 : Int32) < 0 ∨ 100000 < ((4 : Int32)).toNatClampNeg then none else (if narrow (.array .int) (.ref (G2.2.1)) = .ref (G2.2.1) ∧ fits (.array .int) (.ref (G2.2.1)) = true then wF (gnew G2 (.inl (0, ((4 : Int32)).toNatClampNeg, .inl (fun _ => 0))) ((4 : Int32)).toNatClampNeg) l0 2 1 (.ref (G2.2.1)) (t_86_0_2 K d l0) else none)
noncomputable def t_86_0_4 (K : gK) (d : Nat) (l0 : Nat) (G1 : gH) : Option gO := if narrow (.array (.array .int)) (.ref (G1.2.1)) = .ref (G1.2.1) ∧ fits (.array (.array .int)) (.ref (G1.2.1)) = true then wF (g_rows 0 12 60 (gnew G1 (.inl (8, 60, gQ (fun j => if j < 60 then some (G1.2.1 + 1 + j) else none))) 60)) l0 2 0 (.ref (G1.2.1)) (t_86_0_3 K d l0) else none
noncomputable def t_86_0 (K : gK) (d : Nat) (l0 : Nat) (l1 : Nat) (G : gH) : Option gO := if narrow (.object "CuttingRoom") (.ref l1) = .ref l1 ∧ fits (.object "CuttingRoom") (.ref l1) = true then wF G l0 2 3 (.ref l1) (t_86_0_4 K d l0) else none
theorem e_86_0 {K : gK} {d : Nat} {l0 : Nat} {l1 : Nat} {G : gH} : gle (t_86_0 K d l0 l1 G) (gRn K d 86 0 [some (.ref l0), some (.ref l1)] [] G) := by
  unfold t_86_0
  refine g_aload ((q_86 _).trans rfl) rfl ?_
  refine g_aload ((q_86 _).trans rfl) rfl ?_
  refine g_putf ((q_86 _).trans rfl) (fun G1 => ?_)
  refine g_aload ((q_86 _).trans rfl) rfl ?_
  refine g_objinit ((q_86 _).trans rfl) (Nat.le_of_ble_eq_true rfl) ?_
  refine g_aload ((q_86 _).trans rfl) rfl ?_
  refine g_push ((q_86 _).trans rfl) ?_
  refine g_push ((q_86 _).trans rfl) ?_
  refine g_multi ((q_86 _).trans rfl) (by decide) (by decide) ?_
  refine g_putf ((q_86 _).trans rfl) (fun G2 => ?_)
  refine g_aload ((q_86 _).trans rfl) rfl ?_
  refine g_push ((q_86 _).trans rfl) ?_
  refine g_newi ((q_86 _).trans rfl) (fun _ => ?_)
  refine g_putf ((q_86 _).trans rfl) (fun G3 => ?_)
  refine g_aload ((q_86 _).trans rfl) rfl ?_
  refine g_callV (kk := 0) ((q_86 _).trans rfl) (gHn m_86) rfl (by exact ⟨Nat.le_of_ble_eq_true rfl, rfl⟩) rfl (fun w G4 => gm_V (fun hw => ?_))
  subst hw
  exact g_vret ((q_86 _).trans rfl)
theorem c_86 {K : gK} {d : Nat} {l0 : Nat} {l1 : Nat} {G : gH} : gle (t_86_0 K d l0 l1 G) (gCa K (d + 1) 86 [.ref l0, .ref l1] G) := by
  have h : gent (gMx 86) [.ref l0, .ref l1] = [some (.ref l0), some (.ref l1)] := by
    show gent (gT 86).2.2.2.1 _ = _
    rw [m_86]; rfl
  exact fun r e => (congrArg (fun q => gRn K d 86 0 q [] G) h).trans (e_86_0 r e)
theorem q_87 {K : gK} (pc : Nat) : gP K 87 pc = ((gL_87 K).lookup pc).getD o_none := rfl
noncomputable def t_87_0 (K : gK) (d : Nat) (l0 : Nat) (G : gH) : Option gO := gRn K d 87 2 [some (.ref l0), some (.int (0 : Int32))] [] G
theorem e_87_0 {K : gK} {d : Nat} {l0 : Nat} {G : gH} : gle (t_87_0 K d l0 G) (gRn K d 87 0 [some (.ref l0), none] [] G) := by
  unfold t_87_0
  refine g_push ((q_87 _).trans rfl) ?_
  refine g_istore ((q_87 _).trans rfl) ?_
  exact gle.rf _
theorem c_87 {K : gK} {d : Nat} {l0 : Nat} {G : gH} : gle (t_87_0 K d l0 G) (gCa K (d + 1) 87 [.ref l0] G) := by
  have h : gent (gMx 87) [.ref l0] = [some (.ref l0), none] := by
    show gent (gT 87).2.2.2.1 _ = _
    rw [m_87]; rfl
  exact fun r e => (congrArg (fun q => gRn K d 87 0 q [] G) h).trans (e_87_0 r e)
noncomputable def t_87_2_1 (K : gK) (d : Nat) (l0 : Nat) (l1 : Int32) (G2 : gH) : Option gO := gRn K d 87 2 [some (.ref l0), some (.int (l1 + 1))] [] G2
noncomputable def t_87_2_2 (K : gK) (d : Nat) (G : gH) (l1 : Int32) (l0 : Nat) (a1 : Nat) : Option gO := yI G a1 0 l1 ((-1) : Int32) (t_87_2_1 K d l0 l1)
noncomputable def t_87_2 (K : gK) (d : Nat) (l0 : Nat) (l1 : Int32) (G : gH) : Option gO := if (720 : Int32) ≤ l1 then (gRn K d 87 24 [some (.ref l0), some (.int (0 : Int32))] [] G) else (rR G l0 3 25 (t_87_2_2 K d G l1 l0))
theorem e_87_2 {K : gK} {d : Nat} {l0 : Nat} {l1 : Int32} {G : gH} : gle (t_87_2 K d l0 l1 G) (gRn K d 87 2 [some (.ref l0), some (.int l1)] [] G) := by
  unfold t_87_2
  refine g_iload ((q_87 _).trans rfl) rfl ?_
  refine g_push ((q_87 _).trans rfl) ?_
  refine g_cmpge ((q_87 _).trans rfl) (fun _ => ?_) (fun _ => ?_)
  · refine g_push ((q_87 _).trans rfl) ?_
    refine g_istore ((q_87 _).trans rfl) ?_
    exact gle.rf _
  · refine g_aload ((q_87 _).trans rfl) rfl ?_
    refine g_getR ((q_87 _).trans rfl) (fun a1 => ?_)
    refine g_iload ((q_87 _).trans rfl) rfl ?_
    refine g_push ((q_87 _).trans rfl) ?_
    refine g_iast ((q_87 _).trans rfl) (fun G2 => ?_)
    refine g_iinc ((q_87 _).trans rfl) rfl ?_
    refine g_goto ((q_87 _).trans rfl) ?_
    exact gle.rf _
noncomputable def t_87_24_1 (K : gK) (d : Nat) (G2 : gH) : Option gO := some (.inl none, G2)
noncomputable def t_87_24_2 (K : gK) (d : Nat) (l0 : Nat) (G1 : gH) : Option gO := if narrow .int (.int (0 : Int32)) = .int (0 : Int32) ∧ fits .int (.int (0 : Int32)) = true then wF G1 l0 3 18 (.int (0 : Int32)) (t_87_24_1 K d) else none
noncomputable def t_87_24_3 (K : gK) (d : Nat) (l0 : Nat) (l1 : Int32) (G6 : gH) : Option gO := gRn K d 87 24 [some (.ref l0), some (.int (l1 + 1))] [] G6
noncomputable def t_87_24_4 (K : gK) (d : Nat) (G4 : gH) (l1 : Int32) (l0 : Nat) (a5 : Nat) : Option gO := yI G4 a5 0 l1 (0 : Int32) (t_87_24_3 K d l0 l1)
noncomputable def t_87_24_5 (K : gK) (d : Nat) (l0 : Nat) (l1 : Int32) (G4 : gH) : Option gO := rR G4 l0 3 27 (t_87_24_4 K d G4 l1 l0)
noncomputable def t_87_24_6 (K : gK) (d : Nat) (G : gH) (l1 : Int32) (l0 : Nat) (a3 : Nat) : Option gO := yI G a3 0 l1 ((-1) : Int32) (t_87_24_5 K d l0 l1)
noncomputable def t_87_24 (K : gK) (d : Nat) (l0 : Nat) (l1 : Int32) (G : gH) : Option gO := if (4 : Int32) ≤ l1 then (if narrow .int (.int (0 : Int32)) = .int (0 : Int32) ∧ fits .int (.int (0 : Int32)) = true then wF G l0 3 17 (.int (0 : Int32)) (t_87_24_2 K d l0) else none) else (rR G l0 3 26 (t_87_24_6 K d G l1 l0))
theorem e_87_24 {K : gK} {d : Nat} {l0 : Nat} {l1 : Int32} {G : gH} : gle (t_87_24 K d l0 l1 G) (gRn K d 87 24 [some (.ref l0), some (.int l1)] [] G) := by
  unfold t_87_24
  refine g_iload ((q_87 _).trans rfl) rfl ?_
  refine g_push ((q_87 _).trans rfl) ?_
  refine g_cmpge ((q_87 _).trans rfl) (fun _ => ?_) (fun _ => ?_)
  · refine g_aload ((q_87 _).trans rfl) rfl ?_
    refine g_push ((q_87 _).trans rfl) ?_
    refine g_putf ((q_87 _).trans rfl) (fun G1 => ?_)
    refine g_aload ((q_87 _).trans rfl) rfl ?_
    refine g_push ((q_87 _).trans rfl) ?_
    refine g_putf ((q_87 _).trans rfl) (fun G2 => ?_)
    exact g_vret ((q_87 _).trans rfl)
  · refine g_aload ((q_87 _).trans rfl) rfl ?_
    refine g_getR ((q_87 _).trans rfl) (fun a3 => ?_)
    refine g_iload ((q_87 _).trans rfl) rfl ?_
    refine g_push ((q_87 _).trans rfl) ?_
    refine g_iast ((q_87 _).trans rfl) (fun G4 => ?_)
    refine g_aload ((q_87 _).trans rfl) rfl ?_
    refine g_getR ((q_87 _).trans rfl) (fun a5 => ?_)
    refine g_iload ((q_87 _).trans rfl) rfl ?_
    refine g_push ((q_87 _).trans rfl) ?_
    refine g_iast ((q_87 _).trans rfl) (fun G6 => ?_)
    refine g_iinc ((q_87 _).trans rfl) rfl ?_
    refine g_goto ((q_87 _).trans rfl) ?_
    exact gle.rf _
theorem q_88 {K : gK} (pc : Nat) : gP K 88 pc = ((gL_88 K).lookup pc).getD o_none := rfl
noncomputable def t_88_0_1 (K : gK) (d : Nat) (v10 : Int32) (G13 : gH) : Option gO := some (.inl (some (.int v10)), G13)
noncomputable def t_88_0_2 (K : gK) (d : Nat) (l3 : Int32) (l0 : Nat) (v10 : Int32) (G12 : gH) : Option gO := if narrow .int (.int l3) = .int l3 ∧ fits .int (.int l3) = true then wF G12 l0 0 11 (.int l3) (t_88_0_1 K d v10) else none
noncomputable def t_88_0_3 (K : gK) (d : Nat) (l2 : Int32) (l0 : Nat) (l3 : Int32) (v10 : Int32) (G11 : gH) : Option gO := if narrow .boolean (.int l2) = .int l2 ∧ fits .boolean (.int l2) = true then wF G11 l0 0 9 (.int l2) (t_88_0_2 K d l3 l0 v10) else none
noncomputable def t_88_0_4 (K : gK) (d : Nat) (l1 : Int32) (G8 : gH) (l0 : Nat) (l2 : Int32) (l3 : Int32) (v10 : Int32) : Option gO := if narrow .int (.int l1) = .int l1 ∧ fits .int (.int l1) = true then wF G8 l0 0 8 (.int l1) (t_88_0_3 K d l2 l0 l3 v10) else none
noncomputable def t_88_0_5 (K : gK) (d : Nat) (l0 : Nat) (l1 : Int32) (l2 : Int32) (l3 : Int32) (G8 : gH) : Option gO := rI G8 l0 0 8 (t_88_0_4 K d l1 G8 l0 l2 l3)
noncomputable def t_88_0_6 (K : gK) (d : Nat) (v17 : Int32) (G20 : gH) : Option gO := some (.inl (some (.int v17)), G20)
noncomputable def t_88_0_7 (K : gK) (d : Nat) (l3 : Int32) (l0 : Nat) (v17 : Int32) (G19 : gH) : Option gO := if narrow .int (.int l3) = .int l3 ∧ fits .int (.int l3) = true then wF G19 l0 0 11 (.int l3) (t_88_0_6 K d v17) else none
noncomputable def t_88_0_8 (K : gK) (d : Nat) (l2 : Int32) (l0 : Nat) (l3 : Int32) (v17 : Int32) (G18 : gH) : Option gO := if narrow .boolean (.int l2) = .int l2 ∧ fits .boolean (.int l2) = true then wF G18 l0 0 9 (.int l2) (t_88_0_7 K d l3 l0 v17) else none
noncomputable def t_88_0_9 (K : gK) (d : Nat) (l1 : Int32) (G15 : gH) (l0 : Nat) (l2 : Int32) (l3 : Int32) (v17 : Int32) : Option gO := if narrow .int (.int l1) = .int l1 ∧ fits .int (.int l1) = true then wF G15 l0 0 8 (.int l1) (t_88_0_8 K d l2 l0 l3 v17) else none
noncomputable def t_88_0_10 (K : gK) (d : Nat) (l0 : Nat) (l1 : Int32) (l2 : Int32) (l3 : Int32) (G15 : gH) : Option gO := rI G15 l0 0 8 (t_88_0_9 K d l1 G15 l0 l2 l3)
noncomputable def t_88_0_11 (K : gK) (d : Nat) (v23 : Int32) (G26 : gH) : Option gO := some (.inl (some (.int v23)), G26)
noncomputable def t_88_0_12 (K : gK) (d : Nat) (l3 : Int32) (l0 : Nat) (v23 : Int32) (G25 : gH) : Option gO := if narrow .int (.int l3) = .int l3 ∧ fits .int (.int l3) = true then wF G25 l0 0 11 (.int l3) (t_88_0_11 K d v23) else none
noncomputable def t_88_0_13 (K : gK) (d : Nat) (l2 : Int32) (l0 : Nat) (l3 : Int32) (v23 : Int32) (G24 : gH) : Option gO := if narrow .boolean (.int l2) = .int l2 ∧ fits .boolean (.int l2) = true then wF G24 l0 0 9 (.int l2) (t_88_0_12 K d l3 l0 v23) else none
noncomputable def t_88_0_14 (K : gK) (d : Nat) (l1 : Int32) (G21 : gH) (l0 : Nat) (l2 : Int32) (l3 : Int32) (v23 : Int32) : Option gO := if narrow .int (.int l1) = .int l1 ∧ fits .int (.int l1) = true then wF G21 l0 0 8 (.int l1) (t_88_0_13 K d l2 l0 l3 v23) else none
noncomputable def t_88_0_15 (K : gK) (d : Nat) (l0 : Nat) (l1 : Int32) (l2 : Int32) (l3 : Int32) (G21 : gH) : Option gO := rI G21 l0 0 8 (t_88_0_14 K d l1 G21 l0 l2 l3)
noncomputable def t_88_0_16 (K : gK) (d : Nat) (G6 : gH) (l0 : Nat) (l1 : Int32) (l2 : Int32) (l3 : Int32) (v14 : Int32) : Option gO := if v14 = 0 then (cV (gCa K d 151 [.int (1 : Int32)] G6) (t_88_0_10 K d l0 l1 l2 l3)) else (cV (gCa K d 151 [.int (0 : Int32)] G6) (t_88_0_15 K d l0 l1 l2 l3))
noncomputable def t_88_0_17 (K : gK) (d : Nat) (l0 : Nat) (l1 : Int32) (l2 : Int32) (l3 : Int32) (v7 : Int32) (G6 : gH) : Option gO := if v7 = 0 then (cV (gCa K d 151 [.int (0 : Int32)] G6) (t_88_0_5 K d l0 l1 l2 l3)) else (rI G6 l0 0 12 (t_88_0_16 K d G6 l0 l1 l2 l3))
noncomputable def t_88_0_18 (K : gK) (d : Nat) (G3 : gH) (l0 : Nat) (l1 : Int32) (l2 : Int32) (l3 : Int32) (a5 : Nat) : Option gO := if g_cls G3 a5 = some 12 then (cI (gCa K d 150 [.ref a5] G3) (t_88_0_17 K d l0 l1 l2 l3)) else none
noncomputable def t_88_0_19 (K : gK) (d : Nat) (l0 : Nat) (l1 : Int32) (l2 : Int32) (l3 : Int32) (G3 : gH) : Option gO := rR G3 l0 0 2 (t_88_0_18 K d G3 l0 l1 l2 l3)
noncomputable def t_88_0_20 (K : gK) (d : Nat) (v36 : Int32) (G39 : gH) : Option gO := some (.inl (some (.int v36)), G39)
noncomputable def t_88_0_21 (K : gK) (d : Nat) (l3 : Int32) (l0 : Nat) (v36 : Int32) (G38 : gH) : Option gO := if narrow .int (.int l3) = .int l3 ∧ fits .int (.int l3) = true then wF G38 l0 0 11 (.int l3) (t_88_0_20 K d v36) else none
noncomputable def t_88_0_22 (K : gK) (d : Nat) (l2 : Int32) (l0 : Nat) (l3 : Int32) (v36 : Int32) (G37 : gH) : Option gO := if narrow .boolean (.int l2) = .int l2 ∧ fits .boolean (.int l2) = true then wF G37 l0 0 9 (.int l2) (t_88_0_21 K d l3 l0 v36) else none
noncomputable def t_88_0_23 (K : gK) (d : Nat) (l1 : Int32) (G34 : gH) (l0 : Nat) (l2 : Int32) (l3 : Int32) (v36 : Int32) : Option gO := if narrow .int (.int l1) = .int l1 ∧ fits .int (.int l1) = true then wF G34 l0 0 8 (.int l1) (t_88_0_22 K d l2 l0 l3 v36) else none
noncomputable def t_88_0_24 (K : gK) (d : Nat) (l0 : Nat) (l1 : Int32) (l2 : Int32) (l3 : Int32) (G34 : gH) : Option gO := rI G34 l0 0 8 (t_88_0_23 K d l1 G34 l0 l2 l3)
noncomputable def t_88_0_25 (K : gK) (d : Nat) (v43 : Int32) (G46 : gH) : Option gO := some (.inl (some (.int v43)), G46)
noncomputable def t_88_0_26 (K : gK) (d : Nat) (l3 : Int32) (l0 : Nat) (v43 : Int32) (G45 : gH) : Option gO := if narrow .int (.int l3) = .int l3 ∧ fits .int (.int l3) = true then wF G45 l0 0 11 (.int l3) (t_88_0_25 K d v43) else none
noncomputable def t_88_0_27 (K : gK) (d : Nat) (l2 : Int32) (l0 : Nat) (l3 : Int32) (v43 : Int32) (G44 : gH) : Option gO := if narrow .boolean (.int l2) = .int l2 ∧ fits .boolean (.int l2) = true then wF G44 l0 0 9 (.int l2) (t_88_0_26 K d l3 l0 v43) else none
noncomputable def t_88_0_28 (K : gK) (d : Nat) (l1 : Int32) (G41 : gH) (l0 : Nat) (l2 : Int32) (l3 : Int32) (v43 : Int32) : Option gO := if narrow .int (.int l1) = .int l1 ∧ fits .int (.int l1) = true then wF G41 l0 0 8 (.int l1) (t_88_0_27 K d l2 l0 l3 v43) else none
noncomputable def t_88_0_29 (K : gK) (d : Nat) (l0 : Nat) (l1 : Int32) (l2 : Int32) (l3 : Int32) (G41 : gH) : Option gO := rI G41 l0 0 8 (t_88_0_28 K d l1 G41 l0 l2 l3)
noncomputable def t_88_0_30 (K : gK) (d : Nat) (v49 : Int32) (G52 : gH) : Option gO := some (.inl (some (.int v49)), G52)
noncomputable def t_88_0_31 (K : gK) (d : Nat) (l3 : Int32) (l0 : Nat) (v49 : Int32) (G51 : gH) : Option gO := if narrow .int (.int l3) = .int l3 ∧ fits .int (.int l3) = true then wF G51 l0 0 11 (.int l3) (t_88_0_30 K d v49) else none
noncomputable def t_88_0_32 (K : gK) (d : Nat) (l2 : Int32) (l0 : Nat) (l3 : Int32) (v49 : Int32) (G50 : gH) : Option gO := if narrow .boolean (.int l2) = .int l2 ∧ fits .boolean (.int l2) = true then wF G50 l0 0 9 (.int l2) (t_88_0_31 K d l3 l0 v49) else none
noncomputable def t_88_0_33 (K : gK) (d : Nat) (l1 : Int32) (G47 : gH) (l0 : Nat) (l2 : Int32) (l3 : Int32) (v49 : Int32) : Option gO := if narrow .int (.int l1) = .int l1 ∧ fits .int (.int l1) = true then wF G47 l0 0 8 (.int l1) (t_88_0_32 K d l2 l0 l3 v49) else none
noncomputable def t_88_0_34 (K : gK) (d : Nat) (l0 : Nat) (l1 : Int32) (l2 : Int32) (l3 : Int32) (G47 : gH) : Option gO := rI G47 l0 0 8 (t_88_0_33 K d l1 G47 l0 l2 l3)
noncomputable def t_88_0_35 (K : gK) (d : Nat) (G32 : gH) (l0 : Nat) (l1 : Int32) (l2 : Int32) (l3 : Int32) (v40 : Int32) : Option gO := if v40 = 0 then (cV (gCa K d 151 [.int (1 : Int32)] G32) (t_88_0_29 K d l0 l1 l2 l3)) else (cV (gCa K d 151 [.int (0 : Int32)] G32) (t_88_0_34 K d l0 l1 l2 l3))
noncomputable def t_88_0_36 (K : gK) (d : Nat) (l0 : Nat) (l1 : Int32) (l2 : Int32) (l3 : Int32) (v33 : Int32) (G32 : gH) : Option gO := if v33 = 0 then (cV (gCa K d 151 [.int (0 : Int32)] G32) (t_88_0_24 K d l0 l1 l2 l3)) else (rI G32 l0 0 12 (t_88_0_35 K d G32 l0 l1 l2 l3))
noncomputable def t_88_0_37 (K : gK) (d : Nat) (G29 : gH) (l0 : Nat) (l1 : Int32) (l2 : Int32) (l3 : Int32) (a31 : Nat) : Option gO := if g_cls G29 a31 = some 12 then (cI (gCa K d 150 [.ref a31] G29) (t_88_0_36 K d l0 l1 l2 l3)) else none
noncomputable def t_88_0_38 (K : gK) (d : Nat) (l0 : Nat) (l1 : Int32) (l2 : Int32) (l3 : Int32) (G29 : gH) : Option gO := rR G29 l0 0 2 (t_88_0_37 K d G29 l0 l1 l2 l3)
noncomputable def t_88_0_39 (K : gK) (d : Nat) (v60 : Int32) (G63 : gH) : Option gO := some (.inl (some (.int v60)), G63)
noncomputable def t_88_0_40 (K : gK) (d : Nat) (l3 : Int32) (l0 : Nat) (v60 : Int32) (G62 : gH) : Option gO := if narrow .int (.int l3) = .int l3 ∧ fits .int (.int l3) = true then wF G62 l0 0 11 (.int l3) (t_88_0_39 K d v60) else none
noncomputable def t_88_0_41 (K : gK) (d : Nat) (l2 : Int32) (l0 : Nat) (l3 : Int32) (v60 : Int32) (G61 : gH) : Option gO := if narrow .boolean (.int l2) = .int l2 ∧ fits .boolean (.int l2) = true then wF G61 l0 0 9 (.int l2) (t_88_0_40 K d l3 l0 v60) else none
noncomputable def t_88_0_42 (K : gK) (d : Nat) (l1 : Int32) (G58 : gH) (l0 : Nat) (l2 : Int32) (l3 : Int32) (v60 : Int32) : Option gO := if narrow .int (.int l1) = .int l1 ∧ fits .int (.int l1) = true then wF G58 l0 0 8 (.int l1) (t_88_0_41 K d l2 l0 l3 v60) else none
noncomputable def t_88_0_43 (K : gK) (d : Nat) (l0 : Nat) (l1 : Int32) (l2 : Int32) (l3 : Int32) (G58 : gH) : Option gO := rI G58 l0 0 8 (t_88_0_42 K d l1 G58 l0 l2 l3)
noncomputable def t_88_0_44 (K : gK) (d : Nat) (v67 : Int32) (G70 : gH) : Option gO := some (.inl (some (.int v67)), G70)
noncomputable def t_88_0_45 (K : gK) (d : Nat) (l3 : Int32) (l0 : Nat) (v67 : Int32) (G69 : gH) : Option gO := if narrow .int (.int l3) = .int l3 ∧ fits .int (.int l3) = true then wF G69 l0 0 11 (.int l3) (t_88_0_44 K d v67) else none
noncomputable def t_88_0_46 (K : gK) (d : Nat) (l2 : Int32) (l0 : Nat) (l3 : Int32) (v67 : Int32) (G68 : gH) : Option gO := if narrow .boolean (.int l2) = .int l2 ∧ fits .boolean (.int l2) = true then wF G68 l0 0 9 (.int l2) (t_88_0_45 K d l3 l0 v67) else none
noncomputable def t_88_0_47 (K : gK) (d : Nat) (l1 : Int32) (G65 : gH) (l0 : Nat) (l2 : Int32) (l3 : Int32) (v67 : Int32) : Option gO := if narrow .int (.int l1) = .int l1 ∧ fits .int (.int l1) = true then wF G65 l0 0 8 (.int l1) (t_88_0_46 K d l2 l0 l3 v67) else none
noncomputable def t_88_0_48 (K : gK) (d : Nat) (l0 : Nat) (l1 : Int32) (l2 : Int32) (l3 : Int32) (G65 : gH) : Option gO := rI G65 l0 0 8 (t_88_0_47 K d l1 G65 l0 l2 l3)
noncomputable def t_88_0_49 (K : gK) (d : Nat) (v73 : Int32) (G76 : gH) : Option gO := some (.inl (some (.int v73)), G76)
noncomputable def t_88_0_50 (K : gK) (d : Nat) (l3 : Int32) (l0 : Nat) (v73 : Int32) (G75 : gH) : Option gO := if narrow .int (.int l3) = .int l3 ∧ fits .int (.int l3) = true then wF G75 l0 0 11 (.int l3) (t_88_0_49 K d v73) else none
noncomputable def t_88_0_51 (K : gK) (d : Nat) (l2 : Int32) (l0 : Nat) (l3 : Int32) (v73 : Int32) (G74 : gH) : Option gO := if narrow .boolean (.int l2) = .int l2 ∧ fits .boolean (.int l2) = true then wF G74 l0 0 9 (.int l2) (t_88_0_50 K d l3 l0 v73) else none
noncomputable def t_88_0_52 (K : gK) (d : Nat) (l1 : Int32) (G71 : gH) (l0 : Nat) (l2 : Int32) (l3 : Int32) (v73 : Int32) : Option gO := if narrow .int (.int l1) = .int l1 ∧ fits .int (.int l1) = true then wF G71 l0 0 8 (.int l1) (t_88_0_51 K d l2 l0 l3 v73) else none
noncomputable def t_88_0_53 (K : gK) (d : Nat) (l0 : Nat) (l1 : Int32) (l2 : Int32) (l3 : Int32) (G71 : gH) : Option gO := rI G71 l0 0 8 (t_88_0_52 K d l1 G71 l0 l2 l3)
noncomputable def t_88_0_54 (K : gK) (d : Nat) (G56 : gH) (l0 : Nat) (l1 : Int32) (l2 : Int32) (l3 : Int32) (v64 : Int32) : Option gO := if v64 = 0 then (cV (gCa K d 151 [.int (1 : Int32)] G56) (t_88_0_48 K d l0 l1 l2 l3)) else (cV (gCa K d 151 [.int (0 : Int32)] G56) (t_88_0_53 K d l0 l1 l2 l3))
noncomputable def t_88_0_55 (K : gK) (d : Nat) (l0 : Nat) (l1 : Int32) (l2 : Int32) (l3 : Int32) (v57 : Int32) (G56 : gH) : Option gO := if v57 = 0 then (cV (gCa K d 151 [.int (0 : Int32)] G56) (t_88_0_43 K d l0 l1 l2 l3)) else (rI G56 l0 0 12 (t_88_0_54 K d G56 l0 l1 l2 l3))
noncomputable def t_88_0_56 (K : gK) (d : Nat) (G53 : gH) (l0 : Nat) (l1 : Int32) (l2 : Int32) (l3 : Int32) (a55 : Nat) : Option gO := if g_cls G53 a55 = some 12 then (cI (gCa K d 150 [.ref a55] G53) (t_88_0_55 K d l0 l1 l2 l3)) else none
noncomputable def t_88_0_57 (K : gK) (d : Nat) (l0 : Nat) (l1 : Int32) (l2 : Int32) (l3 : Int32) (G53 : gH) : Option gO := rR G53 l0 0 2 (t_88_0_56 K d G53 l0 l1 l2 l3)
noncomputable def t_88_0_58 (K : gK) (d : Nat) (l0 : Nat) (l1 : Int32) (l2 : Int32) (l3 : Int32) (v28 : Int32) (G27 : gH) : Option gO := if v28 = 0 then (cV (gCa K d 149 [.int (0 : Int32)] G27) (t_88_0_38 K d l0 l1 l2 l3)) else (cV (gCa K d 149 [.int (1 : Int32)] G27) (t_88_0_57 K d l0 l1 l2 l3))
noncomputable def t_88_0_59 (K : gK) (d : Nat) (l0 : Nat) (l1 : Int32) (l2 : Int32) (l3 : Int32) (v2 : Int32) (G1 : gH) : Option gO := if v2 = 0 then (cV (gCa K d 149 [.int (0 : Int32)] G1) (t_88_0_19 K d l0 l1 l2 l3)) else (cI (gCa K d 148 [.int l3, .int (0 : Int32), .int (6 : Int32)] G1) (t_88_0_58 K d l0 l1 l2 l3))
noncomputable def t_88_0 (K : gK) (d : Nat) (l0 : Nat) (l1 : Int32) (l2 : Int32) (l3 : Int32) (G : gH) : Option gO := cI (gCa K d 148 [.int l1, .int (2 : Int32), .int (12 : Int32)] G) (t_88_0_59 K d l0 l1 l2 l3)
theorem e_88_0 {K : gK} {d : Nat} {l0 : Nat} {l1 : Int32} {l2 : Int32} {l3 : Int32} {G : gH} : gle (t_88_0 K d l0 l1 l2 l3 G) (gRn K d 88 0 [some (.ref l0), some (.int l1), some (.int l2), some (.int l3), none] [] G) := by
  unfold t_88_0
  refine g_iload ((q_88 _).trans rfl) rfl ?_
  refine g_push ((q_88 _).trans rfl) ?_
  refine g_push ((q_88 _).trans rfl) ?_
  refine g_callS (kk := 3) ((q_88 _).trans rfl) (gHn m_88) (by exact ⟨Nat.le_of_ble_eq_true rfl, Nat.le_of_ble_eq_true rfl, rfl⟩) rfl (fun w G1 => gm_I (fun v2 hw => ?_))
  subst hw
  refine g_ifeq ((q_88 _).trans rfl) (fun _ => ?_) (fun _ => ?_)
  · refine g_push ((q_88 _).trans rfl) ?_
    refine g_callS (kk := 1) ((q_88 _).trans rfl) (gHn m_88) (by exact ⟨Nat.le_of_ble_eq_true rfl, Nat.le_of_ble_eq_true rfl, rfl⟩) rfl (fun w G3 => gm_V (fun hw => ?_))
    subst hw
    refine g_aload ((q_88 _).trans rfl) rfl ?_
    refine g_getR ((q_88 _).trans rfl) (fun a5 => ?_)
    refine g_callV (kk := 0) ((q_88 _).trans rfl) (gHn m_88) rfl (by exact ⟨Nat.le_of_ble_eq_true rfl, rfl⟩) rfl (fun w G6 => gm_I (fun v7 hw => ?_))
    subst hw
    refine g_ifeq ((q_88 _).trans rfl) (fun _ => ?_) (fun _ => ?_)
    · refine g_push ((q_88 _).trans rfl) ?_
      refine g_callS (kk := 1) ((q_88 _).trans rfl) (gHn m_88) (by exact ⟨Nat.le_of_ble_eq_true rfl, Nat.le_of_ble_eq_true rfl, rfl⟩) rfl (fun w G8 => gm_V (fun hw => ?_))
      subst hw
      refine g_aload ((q_88 _).trans rfl) rfl ?_
      refine g_getI ((q_88 _).trans rfl) (fun v10 => ?_)
      refine g_istore ((q_88 _).trans rfl) ?_
      refine g_aload ((q_88 _).trans rfl) rfl ?_
      refine g_iload ((q_88 _).trans rfl) rfl ?_
      refine g_putf ((q_88 _).trans rfl) (fun G11 => ?_)
      refine g_aload ((q_88 _).trans rfl) rfl ?_
      refine g_iload ((q_88 _).trans rfl) rfl ?_
      refine g_putf ((q_88 _).trans rfl) (fun G12 => ?_)
      refine g_aload ((q_88 _).trans rfl) rfl ?_
      refine g_iload ((q_88 _).trans rfl) rfl ?_
      refine g_putf ((q_88 _).trans rfl) (fun G13 => ?_)
      refine g_iload ((q_88 _).trans rfl) rfl ?_
      exact g_iret ((q_88 _).trans rfl)
    · refine g_aload ((q_88 _).trans rfl) rfl ?_
      refine g_getI ((q_88 _).trans rfl) (fun v14 => ?_)
      refine g_ifne ((q_88 _).trans rfl) (fun _ => ?_) (fun _ => ?_)
      · refine g_push ((q_88 _).trans rfl) ?_
        refine g_goto ((q_88 _).trans rfl) ?_
        refine g_callS (kk := 1) ((q_88 _).trans rfl) (gHn m_88) (by exact ⟨Nat.le_of_ble_eq_true rfl, Nat.le_of_ble_eq_true rfl, rfl⟩) rfl (fun w G15 => gm_V (fun hw => ?_))
        subst hw
        refine g_aload ((q_88 _).trans rfl) rfl ?_
        refine g_getI ((q_88 _).trans rfl) (fun v17 => ?_)
        refine g_istore ((q_88 _).trans rfl) ?_
        refine g_aload ((q_88 _).trans rfl) rfl ?_
        refine g_iload ((q_88 _).trans rfl) rfl ?_
        refine g_putf ((q_88 _).trans rfl) (fun G18 => ?_)
        refine g_aload ((q_88 _).trans rfl) rfl ?_
        refine g_iload ((q_88 _).trans rfl) rfl ?_
        refine g_putf ((q_88 _).trans rfl) (fun G19 => ?_)
        refine g_aload ((q_88 _).trans rfl) rfl ?_
        refine g_iload ((q_88 _).trans rfl) rfl ?_
        refine g_putf ((q_88 _).trans rfl) (fun G20 => ?_)
        refine g_iload ((q_88 _).trans rfl) rfl ?_
        exact g_iret ((q_88 _).trans rfl)
      · refine g_push ((q_88 _).trans rfl) ?_
        refine g_callS (kk := 1) ((q_88 _).trans rfl) (gHn m_88) (by exact ⟨Nat.le_of_ble_eq_true rfl, Nat.le_of_ble_eq_true rfl, rfl⟩) rfl (fun w G21 => gm_V (fun hw => ?_))
        subst hw
        refine g_aload ((q_88 _).trans rfl) rfl ?_
        refine g_getI ((q_88 _).trans rfl) (fun v23 => ?_)
        refine g_istore ((q_88 _).trans rfl) ?_
        refine g_aload ((q_88 _).trans rfl) rfl ?_
        refine g_iload ((q_88 _).trans rfl) rfl ?_
        refine g_putf ((q_88 _).trans rfl) (fun G24 => ?_)
        refine g_aload ((q_88 _).trans rfl) rfl ?_
        refine g_iload ((q_88 _).trans rfl) rfl ?_
        refine g_putf ((q_88 _).trans rfl) (fun G25 => ?_)
        refine g_aload ((q_88 _).trans rfl) rfl ?_
        refine g_iload ((q_88 _).trans rfl) rfl ?_
        refine g_putf ((q_88 _).trans rfl) (fun G26 => ?_)
        refine g_iload ((q_88 _).trans rfl) rfl ?_
        exact g_iret ((q_88 _).trans rfl)
  · refine g_iload ((q_88 _).trans rfl) rfl ?_
    refine g_push ((q_88 _).trans rfl) ?_
    refine g_push ((q_88 _).trans rfl) ?_
    refine g_callS (kk := 3) ((q_88 _).trans rfl) (gHn m_88) (by exact ⟨Nat.le_of_ble_eq_true rfl, Nat.le_of_ble_eq_true rfl, rfl⟩) rfl (fun w G27 => gm_I (fun v28 hw => ?_))
    subst hw
    refine g_ifeq ((q_88 _).trans rfl) (fun _ => ?_) (fun _ => ?_)
    · refine g_push ((q_88 _).trans rfl) ?_
      refine g_callS (kk := 1) ((q_88 _).trans rfl) (gHn m_88) (by exact ⟨Nat.le_of_ble_eq_true rfl, Nat.le_of_ble_eq_true rfl, rfl⟩) rfl (fun w G29 => gm_V (fun hw => ?_))
      subst hw
      refine g_aload ((q_88 _).trans rfl) rfl ?_
      refine g_getR ((q_88 _).trans rfl) (fun a31 => ?_)
      refine g_callV (kk := 0) ((q_88 _).trans rfl) (gHn m_88) rfl (by exact ⟨Nat.le_of_ble_eq_true rfl, rfl⟩) rfl (fun w G32 => gm_I (fun v33 hw => ?_))
      subst hw
      refine g_ifeq ((q_88 _).trans rfl) (fun _ => ?_) (fun _ => ?_)
      · refine g_push ((q_88 _).trans rfl) ?_
        refine g_callS (kk := 1) ((q_88 _).trans rfl) (gHn m_88) (by exact ⟨Nat.le_of_ble_eq_true rfl, Nat.le_of_ble_eq_true rfl, rfl⟩) rfl (fun w G34 => gm_V (fun hw => ?_))
        subst hw
        refine g_aload ((q_88 _).trans rfl) rfl ?_
        refine g_getI ((q_88 _).trans rfl) (fun v36 => ?_)
        refine g_istore ((q_88 _).trans rfl) ?_
        refine g_aload ((q_88 _).trans rfl) rfl ?_
        refine g_iload ((q_88 _).trans rfl) rfl ?_
        refine g_putf ((q_88 _).trans rfl) (fun G37 => ?_)
        refine g_aload ((q_88 _).trans rfl) rfl ?_
        refine g_iload ((q_88 _).trans rfl) rfl ?_
        refine g_putf ((q_88 _).trans rfl) (fun G38 => ?_)
        refine g_aload ((q_88 _).trans rfl) rfl ?_
        refine g_iload ((q_88 _).trans rfl) rfl ?_
        refine g_putf ((q_88 _).trans rfl) (fun G39 => ?_)
        refine g_iload ((q_88 _).trans rfl) rfl ?_
        exact g_iret ((q_88 _).trans rfl)
      · refine g_aload ((q_88 _).trans rfl) rfl ?_
        refine g_getI ((q_88 _).trans rfl) (fun v40 => ?_)
        refine g_ifne ((q_88 _).trans rfl) (fun _ => ?_) (fun _ => ?_)
        · refine g_push ((q_88 _).trans rfl) ?_
          refine g_goto ((q_88 _).trans rfl) ?_
          refine g_callS (kk := 1) ((q_88 _).trans rfl) (gHn m_88) (by exact ⟨Nat.le_of_ble_eq_true rfl, Nat.le_of_ble_eq_true rfl, rfl⟩) rfl (fun w G41 => gm_V (fun hw => ?_))
          subst hw
          refine g_aload ((q_88 _).trans rfl) rfl ?_
          refine g_getI ((q_88 _).trans rfl) (fun v43 => ?_)
          refine g_istore ((q_88 _).trans rfl) ?_
          refine g_aload ((q_88 _).trans rfl) rfl ?_
          refine g_iload ((q_88 _).trans rfl) rfl ?_
          refine g_putf ((q_88 _).trans rfl) (fun G44 => ?_)
          refine g_aload ((q_88 _).trans rfl) rfl ?_
          refine g_iload ((q_88 _).trans rfl) rfl ?_
          refine g_putf ((q_88 _).trans rfl) (fun G45 => ?_)
          refine g_aload ((q_88 _).trans rfl) rfl ?_
          refine g_iload ((q_88 _).trans rfl) rfl ?_
          refine g_putf ((q_88 _).trans rfl) (fun G46 => ?_)
          refine g_iload ((q_88 _).trans rfl) rfl ?_
          exact g_iret ((q_88 _).trans rfl)
        · refine g_push ((q_88 _).trans rfl) ?_
          refine g_callS (kk := 1) ((q_88 _).trans rfl) (gHn m_88) (by exact ⟨Nat.le_of_ble_eq_true rfl, Nat.le_of_ble_eq_true rfl, rfl⟩) rfl (fun w G47 => gm_V (fun hw => ?_))
          subst hw
          refine g_aload ((q_88 _).trans rfl) rfl ?_
          refine g_getI ((q_88 _).trans rfl) (fun v49 => ?_)
          refine g_istore ((q_88 _).trans rfl) ?_
          refine g_aload ((q_88 _).trans rfl) rfl ?_
          refine g_iload ((q_88 _).trans rfl) rfl ?_
          refine g_putf ((q_88 _).trans rfl) (fun G50 => ?_)
          refine g_aload ((q_88 _).trans rfl) rfl ?_
          refine g_iload ((q_88 _).trans rfl) rfl ?_
          refine g_putf ((q_88 _).trans rfl) (fun G51 => ?_)
          refine g_aload ((q_88 _).trans rfl) rfl ?_
          refine g_iload ((q_88 _).trans rfl) rfl ?_
          refine g_putf ((q_88 _).trans rfl) (fun G52 => ?_)
          refine g_iload ((q_88 _).trans rfl) rfl ?_
          exact g_iret ((q_88 _).trans rfl)
    · refine g_push ((q_88 _).trans rfl) ?_
      refine g_goto ((q_88 _).trans rfl) ?_
      refine g_callS (kk := 1) ((q_88 _).trans rfl) (gHn m_88) (by exact ⟨Nat.le_of_ble_eq_true rfl, Nat.le_of_ble_eq_true rfl, rfl⟩) rfl (fun w G53 => gm_V (fun hw => ?_))
      subst hw
      refine g_aload ((q_88 _).trans rfl) rfl ?_
      refine g_getR ((q_88 _).trans rfl) (fun a55 => ?_)
      refine g_callV (kk := 0) ((q_88 _).trans rfl) (gHn m_88) rfl (by exact ⟨Nat.le_of_ble_eq_true rfl, rfl⟩) rfl (fun w G56 => gm_I (fun v57 hw => ?_))
      subst hw
      refine g_ifeq ((q_88 _).trans rfl) (fun _ => ?_) (fun _ => ?_)
      · refine g_push ((q_88 _).trans rfl) ?_
        refine g_callS (kk := 1) ((q_88 _).trans rfl) (gHn m_88) (by exact ⟨Nat.le_of_ble_eq_true rfl, Nat.le_of_ble_eq_true rfl, rfl⟩) rfl (fun w G58 => gm_V (fun hw => ?_))
        subst hw
        refine g_aload ((q_88 _).trans rfl) rfl ?_
        refine g_getI ((q_88 _).trans rfl) (fun v60 => ?_)
        refine g_istore ((q_88 _).trans rfl) ?_
        refine g_aload ((q_88 _).trans rfl) rfl ?_
        refine g_iload ((q_88 _).trans rfl) rfl ?_
        refine g_putf ((q_88 _).trans rfl) (fun G61 => ?_)
        refine g_aload ((q_88 _).trans rfl) rfl ?_
        refine g_iload ((q_88 _).trans rfl) rfl ?_
        refine g_putf ((q_88 _).trans rfl) (fun G62 => ?_)
        refine g_aload ((q_88 _).trans rfl) rfl ?_
        refine g_iload ((q_88 _).trans rfl) rfl ?_
        refine g_putf ((q_88 _).trans rfl) (fun G63 => ?_)
        refine g_iload ((q_88 _).trans rfl) rfl ?_
        exact g_iret ((q_88 _).trans rfl)
      · refine g_aload ((q_88 _).trans rfl) rfl ?_
        refine g_getI ((q_88 _).trans rfl) (fun v64 => ?_)
        refine g_ifne ((q_88 _).trans rfl) (fun _ => ?_) (fun _ => ?_)
        · refine g_push ((q_88 _).trans rfl) ?_
          refine g_goto ((q_88 _).trans rfl) ?_
          refine g_callS (kk := 1) ((q_88 _).trans rfl) (gHn m_88) (by exact ⟨Nat.le_of_ble_eq_true rfl, Nat.le_of_ble_eq_true rfl, rfl⟩) rfl (fun w G65 => gm_V (fun hw => ?_))
          subst hw
          refine g_aload ((q_88 _).trans rfl) rfl ?_
          refine g_getI ((q_88 _).trans rfl) (fun v67 => ?_)
          refine g_istore ((q_88 _).trans rfl) ?_
          refine g_aload ((q_88 _).trans rfl) rfl ?_
          refine g_iload ((q_88 _).trans rfl) rfl ?_
          refine g_putf ((q_88 _).trans rfl) (fun G68 => ?_)
          refine g_aload ((q_88 _).trans rfl) rfl ?_
          refine g_iload ((q_88 _).trans rfl) rfl ?_
          refine g_putf ((q_88 _).trans rfl) (fun G69 => ?_)
          refine g_aload ((q_88 _).trans rfl) rfl ?_
          refine g_iload ((q_88 _).trans rfl) rfl ?_
          refine g_putf ((q_88 _).trans rfl) (fun G70 => ?_)
          refine g_iload ((q_88 _).trans rfl) rfl ?_
          exact g_iret ((q_88 _).trans rfl)
        · refine g_push ((q_88 _).trans rfl) ?_
          refine g_callS (kk := 1) ((q_88 _).trans rfl) (gHn m_88) (by exact ⟨Nat.le_of_ble_eq_true rfl, Nat.le_of_ble_eq_true rfl, rfl⟩) rfl (fun w G71 => gm_V (fun hw => ?_))
          subst hw
          refine g_aload ((q_88 _).trans rfl) rfl ?_
          refine g_getI ((q_88 _).trans rfl) (fun v73 => ?_)
          refine g_istore ((q_88 _).trans rfl) ?_
          refine g_aload ((q_88 _).trans rfl) rfl ?_
          refine g_iload ((q_88 _).trans rfl) rfl ?_
          refine g_putf ((q_88 _).trans rfl) (fun G74 => ?_)
          refine g_aload ((q_88 _).trans rfl) rfl ?_
          refine g_iload ((q_88 _).trans rfl) rfl ?_
          refine g_putf ((q_88 _).trans rfl) (fun G75 => ?_)
          refine g_aload ((q_88 _).trans rfl) rfl ?_
          refine g_iload ((q_88 _).trans rfl) rfl ?_
          refine g_putf ((q_88 _).trans rfl) (fun G76 => ?_)
          refine g_iload ((q_88 _).trans rfl) rfl ?_
          exact g_iret ((q_88 _).trans rfl)
theorem c_88 {K : gK} {d : Nat} {l0 : Nat} {l1 : Int32} {l2 : Int32} {l3 : Int32} {G : gH} : gle (t_88_0 K d l0 l1 l2 l3 G) (gCa K (d + 1) 88 [.ref l0, .int l1, .int l2, .int l3] G) := by
  have h : gent (gMx 88) [.ref l0, .int l1, .int l2, .int l3] = [some (.ref l0), some (.int l1), some (.int l2), some (.int l3), none] := by
    show gent (gT 88).2.2.2.1 _ = _
    rw [m_88]; rfl
  exact fun r e => (congrArg (fun q => gRn K d 88 0 q [] G) h).trans (e_88_0 r e)
theorem q_89 {K : gK} (pc : Nat) : gP K 89 pc = ((gL_89 K).lookup pc).getD o_none := rfl
noncomputable def t_89_0 (K : gK) (d : Nat) (l0 : Int32) (l1 : Int32) (l2 : Int32) (G : gH) : Option gO := if l0 < l1 then (if narrow .boolean (.int (0 : Int32)) = .int (0 : Int32) then some (.inl (some (.int (0 : Int32))), G) else none) else (if l2 < l0 then (if narrow .boolean (.int (0 : Int32)) = .int (0 : Int32) then some (.inl (some (.int (0 : Int32))), G) else none) else (if narrow .boolean (.int (1 : Int32)) = .int (1 : Int32) then some (.inl (some (.int (1 : Int32))), G) else none))
theorem e_89_0 {K : gK} {d : Nat} {l0 : Int32} {l1 : Int32} {l2 : Int32} {G : gH} : gle (t_89_0 K d l0 l1 l2 G) (gRn K d 89 0 [some (.int l0), some (.int l1), some (.int l2)] [] G) := by
  unfold t_89_0
  refine g_iload ((q_89 _).trans rfl) rfl ?_
  refine g_iload ((q_89 _).trans rfl) rfl ?_
  refine g_cmplt ((q_89 _).trans rfl) (fun _ => ?_) (fun _ => ?_)
  · refine g_push ((q_89 _).trans rfl) ?_
    exact g_zret ((q_89 _).trans rfl)
  · refine g_iload ((q_89 _).trans rfl) rfl ?_
    refine g_iload ((q_89 _).trans rfl) rfl ?_
    refine g_cmpgt ((q_89 _).trans rfl) (fun _ => ?_) (fun _ => ?_)
    · refine g_push ((q_89 _).trans rfl) ?_
      exact g_zret ((q_89 _).trans rfl)
    · refine g_push ((q_89 _).trans rfl) ?_
      refine g_goto ((q_89 _).trans rfl) ?_
      exact g_zret ((q_89 _).trans rfl)
theorem c_89 {K : gK} {d : Nat} {l0 : Int32} {l1 : Int32} {l2 : Int32} {G : gH} : gle (t_89_0 K d l0 l1 l2 G) (gCa K (d + 1) 89 [.int l0, .int l1, .int l2] G) := by
  have h : gent (gMx 89) [.int l0, .int l1, .int l2] = [some (.int l0), some (.int l1), some (.int l2)] := by
    show gent (gT 89).2.2.2.1 _ = _
    rw [m_89]; rfl
  exact fun r e => (congrArg (fun q => gRn K d 89 0 q [] G) h).trans (e_89_0 r e)
theorem q_90 {K : gK} (pc : Nat) : gP K 90 pc = ((gL_90 K).lookup pc).getD o_none := rfl
noncomputable def t_90_0_1 (K : gK) (d : Nat) (l1 : Int32) (G1 : gH) : Option gO := if l1 ≤ 0 then (if narrow .boolean (.int (0 : Int32)) = .int (0 : Int32) then some (.inl (some (.int (0 : Int32))), G1) else none) else (if narrow .boolean (.int (1 : Int32)) = .int (1 : Int32) then some (.inl (some (.int (1 : Int32))), G1) else none)
noncomputable def t_90_0 (K : gK) (d : Nat) (l0 : Nat) (l1 : Int32) (G : gH) : Option gO := if narrow .int (.int l1) = .int l1 ∧ fits .int (.int l1) = true then wF G l0 3 0 (.int l1) (t_90_0_1 K d l1) else none
theorem e_90_0 {K : gK} {d : Nat} {l0 : Nat} {l1 : Int32} {G : gH} : gle (t_90_0 K d l0 l1 G) (gRn K d 90 0 [some (.ref l0), some (.int l1)] [] G) := by
  unfold t_90_0
  refine g_aload ((q_90 _).trans rfl) rfl ?_
  refine g_iload ((q_90 _).trans rfl) rfl ?_
  refine g_putf ((q_90 _).trans rfl) (fun G1 => ?_)
  refine g_iload ((q_90 _).trans rfl) rfl ?_
  refine g_ifle ((q_90 _).trans rfl) (fun _ => ?_) (fun _ => ?_)
  · refine g_push ((q_90 _).trans rfl) ?_
    exact g_zret ((q_90 _).trans rfl)
  · refine g_push ((q_90 _).trans rfl) ?_
    refine g_goto ((q_90 _).trans rfl) ?_
    exact g_zret ((q_90 _).trans rfl)
theorem c_90 {K : gK} {d : Nat} {l0 : Nat} {l1 : Int32} {G : gH} : gle (t_90_0 K d l0 l1 G) (gCa K (d + 1) 90 [.ref l0, .int l1] G) := by
  have h : gent (gMx 90) [.ref l0, .int l1] = [some (.ref l0), some (.int l1)] := by
    show gent (gT 90).2.2.2.1 _ = _
    rw [m_90]; rfl
  exact fun r e => (congrArg (fun q => gRn K d 90 0 q [] G) h).trans (e_90_0 r e)
theorem q_91 {K : gK} (pc : Nat) : gP K 91 pc = ((gL_91 K).lookup pc).getD o_none := rfl
noncomputable def t_91_0_1 (K : gK) (d : Nat) (v6 : Int32) (G7 : gH) : Option gO := if narrow .boolean (.int v6) = .int v6 then some (.inl (some (.int v6)), G7) else none
noncomputable def t_91_0_2 (K : gK) (d : Nat) (l1 : Int32) (G4 : gH) (l0 : Nat) (v6 : Int32) : Option gO := if narrow .boolean (.int l1) = .int l1 ∧ fits .boolean (.int l1) = true then wF G4 l0 0 10 (.int l1) (t_91_0_1 K d v6) else none
noncomputable def t_91_0_3 (K : gK) (d : Nat) (l0 : Nat) (l1 : Int32) (G4 : gH) : Option gO := rI G4 l0 0 10 (t_91_0_2 K d l1 G4 l0)
noncomputable def t_91_0_4 (K : gK) (d : Nat) (l0 : Nat) (l1 : Int32) (v3 : Int32) (G2 : gH) : Option gO := cV (gCa K d 151 [.int v3] G2) (t_91_0_3 K d l0 l1)
noncomputable def t_91_0_5 (K : gK) (d : Nat) (G : gH) (l0 : Nat) (l1 : Int32) (a1 : Nat) : Option gO := if g_cls G a1 = some 12 then (cI (gCa K d 150 [.ref a1] G) (t_91_0_4 K d l0 l1)) else none
noncomputable def t_91_0 (K : gK) (d : Nat) (l0 : Nat) (l1 : Int32) (G : gH) : Option gO := rR G l0 0 2 (t_91_0_5 K d G l0 l1)
theorem e_91_0 {K : gK} {d : Nat} {l0 : Nat} {l1 : Int32} {G : gH} : gle (t_91_0 K d l0 l1 G) (gRn K d 91 0 [some (.ref l0), some (.int l1), none] [] G) := by
  unfold t_91_0
  refine g_aload ((q_91 _).trans rfl) rfl ?_
  refine g_getR ((q_91 _).trans rfl) (fun a1 => ?_)
  refine g_callV (kk := 0) ((q_91 _).trans rfl) (gHn m_91) rfl (by exact ⟨Nat.le_of_ble_eq_true rfl, rfl⟩) rfl (fun w G2 => gm_I (fun v3 hw => ?_))
  subst hw
  refine g_callS (kk := 1) ((q_91 _).trans rfl) (gHn m_91) (by exact ⟨Nat.le_of_ble_eq_true rfl, Nat.le_of_ble_eq_true rfl, rfl⟩) rfl (fun w G4 => gm_V (fun hw => ?_))
  subst hw
  refine g_aload ((q_91 _).trans rfl) rfl ?_
  refine g_getI ((q_91 _).trans rfl) (fun v6 => ?_)
  refine g_istore ((q_91 _).trans rfl) ?_
  refine g_aload ((q_91 _).trans rfl) rfl ?_
  refine g_iload ((q_91 _).trans rfl) rfl ?_
  refine g_putf ((q_91 _).trans rfl) (fun G7 => ?_)
  refine g_iload ((q_91 _).trans rfl) rfl ?_
  exact g_zret ((q_91 _).trans rfl)
theorem c_91 {K : gK} {d : Nat} {l0 : Nat} {l1 : Int32} {G : gH} : gle (t_91_0 K d l0 l1 G) (gCa K (d + 1) 91 [.ref l0, .int l1] G) := by
  have h : gent (gMx 91) [.ref l0, .int l1] = [some (.ref l0), some (.int l1), none] := by
    show gent (gT 91).2.2.2.1 _ = _
    rw [m_91]; rfl
  exact fun r e => (congrArg (fun q => gRn K d 91 0 q [] G) h).trans (e_91_0 r e)
theorem q_92 {K : gK} (pc : Nat) : gP K 92 pc = ((gL_92 K).lookup pc).getD o_none := rfl
noncomputable def t_92_0_1 (K : gK) (d : Nat) (G21 : gH) (v22 : Int32) : Option gO := some (.inl (some (.int v22)), G21)
noncomputable def t_92_0_2 (K : gK) (d : Nat) (l0 : Nat) (G21 : gH) : Option gO := rI G21 l0 0 12 (t_92_0_1 K d G21)
noncomputable def t_92_0_3 (K : gK) (d : Nat) (G19 : gH) (l0 : Nat) (v20 : Int32) : Option gO := if narrow .int (.int (v20 + (1 : Int32))) = .int (v20 + (1 : Int32)) ∧ fits .int (.int (v20 + (1 : Int32))) = true then wF G19 l0 0 12 (.int (v20 + (1 : Int32))) (t_92_0_2 K d l0) else none
noncomputable def t_92_0_4 (K : gK) (d : Nat) (l0 : Nat) (G19 : gH) : Option gO := rI G19 l0 0 12 (t_92_0_3 K d G19 l0)
noncomputable def t_92_0_5 (K : gK) (d : Nat) (G15 : gH) (l2 : Int32) (l0 : Nat) (a18 : Nat) : Option gO := yI G15 a18 1 l2 (vp_nar .boolean (1 : Int32)) (t_92_0_4 K d l0)
noncomputable def t_92_0_6 (K : gK) (d : Nat) (G15 : gH) (l1 : Int32) (l2 : Int32) (l0 : Nat) (a17 : Nat) : Option gO := xQ G15 a17 9 l1 (t_92_0_5 K d G15 l2 l0)
noncomputable def t_92_0_7 (K : gK) (d : Nat) (l0 : Nat) (l1 : Int32) (l2 : Int32) (G15 : gH) : Option gO := rR G15 l0 0 3 (t_92_0_6 K d G15 l1 l2 l0)
noncomputable def t_92_0_8 (K : gK) (d : Nat) (G29 : gH) (v30 : Int32) : Option gO := some (.inl (some (.int v30)), G29)
noncomputable def t_92_0_9 (K : gK) (d : Nat) (l0 : Nat) (G29 : gH) : Option gO := rI G29 l0 0 12 (t_92_0_8 K d G29)
noncomputable def t_92_0_10 (K : gK) (d : Nat) (G27 : gH) (l0 : Nat) (v28 : Int32) : Option gO := if narrow .int (.int (v28 + (1 : Int32))) = .int (v28 + (1 : Int32)) ∧ fits .int (.int (v28 + (1 : Int32))) = true then wF G27 l0 0 12 (.int (v28 + (1 : Int32))) (t_92_0_9 K d l0) else none
noncomputable def t_92_0_11 (K : gK) (d : Nat) (l0 : Nat) (G27 : gH) : Option gO := rI G27 l0 0 12 (t_92_0_10 K d G27 l0)
noncomputable def t_92_0_12 (K : gK) (d : Nat) (G23 : gH) (l2 : Int32) (l0 : Nat) (a26 : Nat) : Option gO := yI G23 a26 1 l2 (vp_nar .boolean (1 : Int32)) (t_92_0_11 K d l0)
noncomputable def t_92_0_13 (K : gK) (d : Nat) (G23 : gH) (l1 : Int32) (l2 : Int32) (l0 : Nat) (a25 : Nat) : Option gO := xQ G23 a25 9 l1 (t_92_0_12 K d G23 l2 l0)
noncomputable def t_92_0_14 (K : gK) (d : Nat) (l0 : Nat) (l1 : Int32) (l2 : Int32) (G23 : gH) : Option gO := rR G23 l0 0 3 (t_92_0_13 K d G23 l1 l2 l0)
noncomputable def t_92_0_15 (K : gK) (d : Nat) (G12 : gH) (l0 : Nat) (l1 : Int32) (l2 : Int32) (v14 : Int32) : Option gO := if (12 : Int32) ≤ v14 then (cV (gCa K d 151 [.int (0 : Int32)] G12) (t_92_0_7 K d l0 l1 l2)) else (cV (gCa K d 151 [.int (1 : Int32)] G12) (t_92_0_14 K d l0 l1 l2))
noncomputable def t_92_0_16 (K : gK) (d : Nat) (l0 : Nat) (l1 : Int32) (l2 : Int32) (G12 : gH) : Option gO := rI G12 l0 0 12 (t_92_0_15 K d G12 l0 l1 l2)
noncomputable def t_92_0_17 (K : gK) (d : Nat) (G44 : gH) (v45 : Int32) : Option gO := some (.inl (some (.int v45)), G44)
noncomputable def t_92_0_18 (K : gK) (d : Nat) (l0 : Nat) (G44 : gH) : Option gO := rI G44 l0 0 12 (t_92_0_17 K d G44)
noncomputable def t_92_0_19 (K : gK) (d : Nat) (G42 : gH) (l0 : Nat) (v43 : Int32) : Option gO := if narrow .int (.int (v43 + (1 : Int32))) = .int (v43 + (1 : Int32)) ∧ fits .int (.int (v43 + (1 : Int32))) = true then wF G42 l0 0 12 (.int (v43 + (1 : Int32))) (t_92_0_18 K d l0) else none
noncomputable def t_92_0_20 (K : gK) (d : Nat) (l0 : Nat) (G42 : gH) : Option gO := rI G42 l0 0 12 (t_92_0_19 K d G42 l0)
noncomputable def t_92_0_21 (K : gK) (d : Nat) (G38 : gH) (l2 : Int32) (l0 : Nat) (a41 : Nat) : Option gO := yI G38 a41 1 l2 (vp_nar .boolean (1 : Int32)) (t_92_0_20 K d l0)
noncomputable def t_92_0_22 (K : gK) (d : Nat) (G38 : gH) (l1 : Int32) (l2 : Int32) (l0 : Nat) (a40 : Nat) : Option gO := xQ G38 a40 9 l1 (t_92_0_21 K d G38 l2 l0)
noncomputable def t_92_0_23 (K : gK) (d : Nat) (l0 : Nat) (l1 : Int32) (l2 : Int32) (G38 : gH) : Option gO := rR G38 l0 0 3 (t_92_0_22 K d G38 l1 l2 l0)
noncomputable def t_92_0_24 (K : gK) (d : Nat) (G52 : gH) (v53 : Int32) : Option gO := some (.inl (some (.int v53)), G52)
noncomputable def t_92_0_25 (K : gK) (d : Nat) (l0 : Nat) (G52 : gH) : Option gO := rI G52 l0 0 12 (t_92_0_24 K d G52)
noncomputable def t_92_0_26 (K : gK) (d : Nat) (G50 : gH) (l0 : Nat) (v51 : Int32) : Option gO := if narrow .int (.int (v51 + (1 : Int32))) = .int (v51 + (1 : Int32)) ∧ fits .int (.int (v51 + (1 : Int32))) = true then wF G50 l0 0 12 (.int (v51 + (1 : Int32))) (t_92_0_25 K d l0) else none
noncomputable def t_92_0_27 (K : gK) (d : Nat) (l0 : Nat) (G50 : gH) : Option gO := rI G50 l0 0 12 (t_92_0_26 K d G50 l0)
noncomputable def t_92_0_28 (K : gK) (d : Nat) (G46 : gH) (l2 : Int32) (l0 : Nat) (a49 : Nat) : Option gO := yI G46 a49 1 l2 (vp_nar .boolean (1 : Int32)) (t_92_0_27 K d l0)
noncomputable def t_92_0_29 (K : gK) (d : Nat) (G46 : gH) (l1 : Int32) (l2 : Int32) (l0 : Nat) (a48 : Nat) : Option gO := xQ G46 a48 9 l1 (t_92_0_28 K d G46 l2 l0)
noncomputable def t_92_0_30 (K : gK) (d : Nat) (l0 : Nat) (l1 : Int32) (l2 : Int32) (G46 : gH) : Option gO := rR G46 l0 0 3 (t_92_0_29 K d G46 l1 l2 l0)
noncomputable def t_92_0_31 (K : gK) (d : Nat) (G35 : gH) (l0 : Nat) (l1 : Int32) (l2 : Int32) (v37 : Int32) : Option gO := if (12 : Int32) ≤ v37 then (cV (gCa K d 151 [.int (0 : Int32)] G35) (t_92_0_23 K d l0 l1 l2)) else (cV (gCa K d 151 [.int (1 : Int32)] G35) (t_92_0_30 K d l0 l1 l2))
noncomputable def t_92_0_32 (K : gK) (d : Nat) (l0 : Nat) (l1 : Int32) (l2 : Int32) (G35 : gH) : Option gO := rI G35 l0 0 12 (t_92_0_31 K d G35 l0 l1 l2)
noncomputable def t_92_0_33 (K : gK) (d : Nat) (G63 : gH) (v64 : Int32) : Option gO := some (.inl (some (.int v64)), G63)
noncomputable def t_92_0_34 (K : gK) (d : Nat) (l0 : Nat) (G63 : gH) : Option gO := rI G63 l0 0 12 (t_92_0_33 K d G63)
noncomputable def t_92_0_35 (K : gK) (d : Nat) (G61 : gH) (l0 : Nat) (v62 : Int32) : Option gO := if narrow .int (.int (v62 + (1 : Int32))) = .int (v62 + (1 : Int32)) ∧ fits .int (.int (v62 + (1 : Int32))) = true then wF G61 l0 0 12 (.int (v62 + (1 : Int32))) (t_92_0_34 K d l0) else none
noncomputable def t_92_0_36 (K : gK) (d : Nat) (l0 : Nat) (G61 : gH) : Option gO := rI G61 l0 0 12 (t_92_0_35 K d G61 l0)
noncomputable def t_92_0_37 (K : gK) (d : Nat) (G57 : gH) (l2 : Int32) (l0 : Nat) (a60 : Nat) : Option gO := yI G57 a60 1 l2 (vp_nar .boolean (1 : Int32)) (t_92_0_36 K d l0)
noncomputable def t_92_0_38 (K : gK) (d : Nat) (G57 : gH) (l1 : Int32) (l2 : Int32) (l0 : Nat) (a59 : Nat) : Option gO := xQ G57 a59 9 l1 (t_92_0_37 K d G57 l2 l0)
noncomputable def t_92_0_39 (K : gK) (d : Nat) (l0 : Nat) (l1 : Int32) (l2 : Int32) (G57 : gH) : Option gO := rR G57 l0 0 3 (t_92_0_38 K d G57 l1 l2 l0)
noncomputable def t_92_0_40 (K : gK) (d : Nat) (G71 : gH) (v72 : Int32) : Option gO := some (.inl (some (.int v72)), G71)
noncomputable def t_92_0_41 (K : gK) (d : Nat) (l0 : Nat) (G71 : gH) : Option gO := rI G71 l0 0 12 (t_92_0_40 K d G71)
noncomputable def t_92_0_42 (K : gK) (d : Nat) (G69 : gH) (l0 : Nat) (v70 : Int32) : Option gO := if narrow .int (.int (v70 + (1 : Int32))) = .int (v70 + (1 : Int32)) ∧ fits .int (.int (v70 + (1 : Int32))) = true then wF G69 l0 0 12 (.int (v70 + (1 : Int32))) (t_92_0_41 K d l0) else none
noncomputable def t_92_0_43 (K : gK) (d : Nat) (l0 : Nat) (G69 : gH) : Option gO := rI G69 l0 0 12 (t_92_0_42 K d G69 l0)
noncomputable def t_92_0_44 (K : gK) (d : Nat) (G65 : gH) (l2 : Int32) (l0 : Nat) (a68 : Nat) : Option gO := yI G65 a68 1 l2 (vp_nar .boolean (1 : Int32)) (t_92_0_43 K d l0)
noncomputable def t_92_0_45 (K : gK) (d : Nat) (G65 : gH) (l1 : Int32) (l2 : Int32) (l0 : Nat) (a67 : Nat) : Option gO := xQ G65 a67 9 l1 (t_92_0_44 K d G65 l2 l0)
noncomputable def t_92_0_46 (K : gK) (d : Nat) (l0 : Nat) (l1 : Int32) (l2 : Int32) (G65 : gH) : Option gO := rR G65 l0 0 3 (t_92_0_45 K d G65 l1 l2 l0)
noncomputable def t_92_0_47 (K : gK) (d : Nat) (G54 : gH) (l0 : Nat) (l1 : Int32) (l2 : Int32) (v56 : Int32) : Option gO := if (12 : Int32) ≤ v56 then (cV (gCa K d 151 [.int (0 : Int32)] G54) (t_92_0_39 K d l0 l1 l2)) else (cV (gCa K d 151 [.int (1 : Int32)] G54) (t_92_0_46 K d l0 l1 l2))
noncomputable def t_92_0_48 (K : gK) (d : Nat) (l0 : Nat) (l1 : Int32) (l2 : Int32) (G54 : gH) : Option gO := rI G54 l0 0 12 (t_92_0_47 K d G54 l0 l1 l2)
noncomputable def t_92_0_49 (K : gK) (d : Nat) (l0 : Nat) (l1 : Int32) (l2 : Int32) (v34 : Int32) (G33 : gH) : Option gO := if v34 = ((-1) : Int32) then (cV (gCa K d 153 [.int (1 : Int32)] G33) (t_92_0_32 K d l0 l1 l2)) else (cV (gCa K d 153 [.int (0 : Int32)] G33) (t_92_0_48 K d l0 l1 l2))
noncomputable def t_92_0_50 (K : gK) (d : Nat) (G9 : gH) (a31 : Nat) (l1 : Int32) (l2 : Int32) (l0 : Nat) (v32 : Int32) : Option gO := if g_cls G9 a31 = some 2 then (cI (gCa K d 152 [.ref a31, .int l1, .int ((v32 - (1 : Int32)) - l2)] G9) (t_92_0_49 K d l0 l1 l2)) else none
noncomputable def t_92_0_51 (K : gK) (d : Nat) (G9 : gH) (l0 : Nat) (l1 : Int32) (l2 : Int32) (a31 : Nat) : Option gO := rI G9 l0 0 8 (t_92_0_50 K d G9 a31 l1 l2 l0)
noncomputable def t_92_0_52 (K : gK) (d : Nat) (G9 : gH) (l0 : Nat) (l1 : Int32) (l2 : Int32) (v11 : Int32) : Option gO := if v11 = 0 then (cV (gCa K d 153 [.int (1 : Int32)] G9) (t_92_0_16 K d l0 l1 l2)) else (rR G9 l0 0 6 (t_92_0_51 K d G9 l0 l1 l2))
noncomputable def t_92_0_53 (K : gK) (d : Nat) (G82 : gH) (v83 : Int32) : Option gO := some (.inl (some (.int v83)), G82)
noncomputable def t_92_0_54 (K : gK) (d : Nat) (l0 : Nat) (G82 : gH) : Option gO := rI G82 l0 0 12 (t_92_0_53 K d G82)
noncomputable def t_92_0_55 (K : gK) (d : Nat) (G80 : gH) (l0 : Nat) (v81 : Int32) : Option gO := if narrow .int (.int (v81 + (1 : Int32))) = .int (v81 + (1 : Int32)) ∧ fits .int (.int (v81 + (1 : Int32))) = true then wF G80 l0 0 12 (.int (v81 + (1 : Int32))) (t_92_0_54 K d l0) else none
noncomputable def t_92_0_56 (K : gK) (d : Nat) (l0 : Nat) (G80 : gH) : Option gO := rI G80 l0 0 12 (t_92_0_55 K d G80 l0)
noncomputable def t_92_0_57 (K : gK) (d : Nat) (G76 : gH) (l2 : Int32) (l0 : Nat) (a79 : Nat) : Option gO := yI G76 a79 1 l2 (vp_nar .boolean (1 : Int32)) (t_92_0_56 K d l0)
noncomputable def t_92_0_58 (K : gK) (d : Nat) (G76 : gH) (l1 : Int32) (l2 : Int32) (l0 : Nat) (a78 : Nat) : Option gO := xQ G76 a78 9 l1 (t_92_0_57 K d G76 l2 l0)
noncomputable def t_92_0_59 (K : gK) (d : Nat) (l0 : Nat) (l1 : Int32) (l2 : Int32) (G76 : gH) : Option gO := rR G76 l0 0 3 (t_92_0_58 K d G76 l1 l2 l0)
noncomputable def t_92_0_60 (K : gK) (d : Nat) (G90 : gH) (v91 : Int32) : Option gO := some (.inl (some (.int v91)), G90)
noncomputable def t_92_0_61 (K : gK) (d : Nat) (l0 : Nat) (G90 : gH) : Option gO := rI G90 l0 0 12 (t_92_0_60 K d G90)
noncomputable def t_92_0_62 (K : gK) (d : Nat) (G88 : gH) (l0 : Nat) (v89 : Int32) : Option gO := if narrow .int (.int (v89 + (1 : Int32))) = .int (v89 + (1 : Int32)) ∧ fits .int (.int (v89 + (1 : Int32))) = true then wF G88 l0 0 12 (.int (v89 + (1 : Int32))) (t_92_0_61 K d l0) else none
noncomputable def t_92_0_63 (K : gK) (d : Nat) (l0 : Nat) (G88 : gH) : Option gO := rI G88 l0 0 12 (t_92_0_62 K d G88 l0)
noncomputable def t_92_0_64 (K : gK) (d : Nat) (G84 : gH) (l2 : Int32) (l0 : Nat) (a87 : Nat) : Option gO := yI G84 a87 1 l2 (vp_nar .boolean (1 : Int32)) (t_92_0_63 K d l0)
noncomputable def t_92_0_65 (K : gK) (d : Nat) (G84 : gH) (l1 : Int32) (l2 : Int32) (l0 : Nat) (a86 : Nat) : Option gO := xQ G84 a86 9 l1 (t_92_0_64 K d G84 l2 l0)
noncomputable def t_92_0_66 (K : gK) (d : Nat) (l0 : Nat) (l1 : Int32) (l2 : Int32) (G84 : gH) : Option gO := rR G84 l0 0 3 (t_92_0_65 K d G84 l1 l2 l0)
noncomputable def t_92_0_67 (K : gK) (d : Nat) (G73 : gH) (l0 : Nat) (l1 : Int32) (l2 : Int32) (v75 : Int32) : Option gO := if (12 : Int32) ≤ v75 then (cV (gCa K d 151 [.int (0 : Int32)] G73) (t_92_0_59 K d l0 l1 l2)) else (cV (gCa K d 151 [.int (1 : Int32)] G73) (t_92_0_66 K d l0 l1 l2))
noncomputable def t_92_0_68 (K : gK) (d : Nat) (l0 : Nat) (l1 : Int32) (l2 : Int32) (G73 : gH) : Option gO := rI G73 l0 0 12 (t_92_0_67 K d G73 l0 l1 l2)
noncomputable def t_92_0_69 (K : gK) (d : Nat) (l0 : Nat) (l1 : Int32) (l2 : Int32) (v10 : Int32) (G9 : gH) : Option gO := if v10 = ((-1) : Int32) then (rI G9 l0 0 10 (t_92_0_52 K d G9 l0 l1 l2)) else (cV (gCa K d 153 [.int (0 : Int32)] G9) (t_92_0_68 K d l0 l1 l2))
noncomputable def t_92_0_70 (K : gK) (d : Nat) (G3 : gH) (l1 : Int32) (l2 : Int32) (l0 : Nat) (a8 : Nat) : Option gO := if g_cls G3 a8 = some 2 then (cI (gCa K d 152 [.ref a8, .int l1, .int l2] G3) (t_92_0_69 K d l0 l1 l2)) else none
noncomputable def t_92_0_71 (K : gK) (d : Nat) (G3 : gH) (v92 : Int32) : Option gO := some (.inl (some (.int v92)), G3)
noncomputable def t_92_0_72 (K : gK) (d : Nat) (G3 : gH) (l0 : Nat) (l1 : Int32) (l2 : Int32) (v7 : Int32) : Option gO := if v7 = 0 then (rR G3 l0 0 6 (t_92_0_70 K d G3 l1 l2 l0)) else (rI G3 l0 0 12 (t_92_0_71 K d G3))
noncomputable def t_92_0_73 (K : gK) (d : Nat) (G3 : gH) (l2 : Int32) (l0 : Nat) (l1 : Int32) (a6 : Nat) : Option gO := xI G3 a6 1 l2 (t_92_0_72 K d G3 l0 l1 l2)
noncomputable def t_92_0_74 (K : gK) (d : Nat) (G3 : gH) (l1 : Int32) (l2 : Int32) (l0 : Nat) (a5 : Nat) : Option gO := xQ G3 a5 9 l1 (t_92_0_73 K d G3 l2 l0 l1)
noncomputable def t_92_0_75 (K : gK) (d : Nat) (l0 : Nat) (l1 : Int32) (l2 : Int32) (G3 : gH) : Option gO := rR G3 l0 0 3 (t_92_0_74 K d G3 l1 l2 l0)
noncomputable def t_92_0_76 (K : gK) (d : Nat) (G114 : gH) (v115 : Int32) : Option gO := some (.inl (some (.int v115)), G114)
noncomputable def t_92_0_77 (K : gK) (d : Nat) (l0 : Nat) (G114 : gH) : Option gO := rI G114 l0 0 12 (t_92_0_76 K d G114)
noncomputable def t_92_0_78 (K : gK) (d : Nat) (G112 : gH) (l0 : Nat) (v113 : Int32) : Option gO := if narrow .int (.int (v113 + (1 : Int32))) = .int (v113 + (1 : Int32)) ∧ fits .int (.int (v113 + (1 : Int32))) = true then wF G112 l0 0 12 (.int (v113 + (1 : Int32))) (t_92_0_77 K d l0) else none
noncomputable def t_92_0_79 (K : gK) (d : Nat) (l0 : Nat) (G112 : gH) : Option gO := rI G112 l0 0 12 (t_92_0_78 K d G112 l0)
noncomputable def t_92_0_80 (K : gK) (d : Nat) (G108 : gH) (l2 : Int32) (l0 : Nat) (a111 : Nat) : Option gO := yI G108 a111 1 l2 (vp_nar .boolean (1 : Int32)) (t_92_0_79 K d l0)
noncomputable def t_92_0_81 (K : gK) (d : Nat) (G108 : gH) (l1 : Int32) (l2 : Int32) (l0 : Nat) (a110 : Nat) : Option gO := xQ G108 a110 9 l1 (t_92_0_80 K d G108 l2 l0)
noncomputable def t_92_0_82 (K : gK) (d : Nat) (l0 : Nat) (l1 : Int32) (l2 : Int32) (G108 : gH) : Option gO := rR G108 l0 0 3 (t_92_0_81 K d G108 l1 l2 l0)
noncomputable def t_92_0_83 (K : gK) (d : Nat) (G122 : gH) (v123 : Int32) : Option gO := some (.inl (some (.int v123)), G122)
noncomputable def t_92_0_84 (K : gK) (d : Nat) (l0 : Nat) (G122 : gH) : Option gO := rI G122 l0 0 12 (t_92_0_83 K d G122)
noncomputable def t_92_0_85 (K : gK) (d : Nat) (G120 : gH) (l0 : Nat) (v121 : Int32) : Option gO := if narrow .int (.int (v121 + (1 : Int32))) = .int (v121 + (1 : Int32)) ∧ fits .int (.int (v121 + (1 : Int32))) = true then wF G120 l0 0 12 (.int (v121 + (1 : Int32))) (t_92_0_84 K d l0) else none
noncomputable def t_92_0_86 (K : gK) (d : Nat) (l0 : Nat) (G120 : gH) : Option gO := rI G120 l0 0 12 (t_92_0_85 K d G120 l0)
noncomputable def t_92_0_87 (K : gK) (d : Nat) (G116 : gH) (l2 : Int32) (l0 : Nat) (a119 : Nat) : Option gO := yI G116 a119 1 l2 (vp_nar .boolean (1 : Int32)) (t_92_0_86 K d l0)
noncomputable def t_92_0_88 (K : gK) (d : Nat) (G116 : gH) (l1 : Int32) (l2 : Int32) (l0 : Nat) (a118 : Nat) : Option gO := xQ G116 a118 9 l1 (t_92_0_87 K d G116 l2 l0)
noncomputable def t_92_0_89 (K : gK) (d : Nat) (l0 : Nat) (l1 : Int32) (l2 : Int32) (G116 : gH) : Option gO := rR G116 l0 0 3 (t_92_0_88 K d G116 l1 l2 l0)
noncomputable def t_92_0_90 (K : gK) (d : Nat) (G105 : gH) (l0 : Nat) (l1 : Int32) (l2 : Int32) (v107 : Int32) : Option gO := if (12 : Int32) ≤ v107 then (cV (gCa K d 151 [.int (0 : Int32)] G105) (t_92_0_82 K d l0 l1 l2)) else (cV (gCa K d 151 [.int (1 : Int32)] G105) (t_92_0_89 K d l0 l1 l2))
noncomputable def t_92_0_91 (K : gK) (d : Nat) (l0 : Nat) (l1 : Int32) (l2 : Int32) (G105 : gH) : Option gO := rI G105 l0 0 12 (t_92_0_90 K d G105 l0 l1 l2)
noncomputable def t_92_0_92 (K : gK) (d : Nat) (G137 : gH) (v138 : Int32) : Option gO := some (.inl (some (.int v138)), G137)
noncomputable def t_92_0_93 (K : gK) (d : Nat) (l0 : Nat) (G137 : gH) : Option gO := rI G137 l0 0 12 (t_92_0_92 K d G137)
noncomputable def t_92_0_94 (K : gK) (d : Nat) (G135 : gH) (l0 : Nat) (v136 : Int32) : Option gO := if narrow .int (.int (v136 + (1 : Int32))) = .int (v136 + (1 : Int32)) ∧ fits .int (.int (v136 + (1 : Int32))) = true then wF G135 l0 0 12 (.int (v136 + (1 : Int32))) (t_92_0_93 K d l0) else none
noncomputable def t_92_0_95 (K : gK) (d : Nat) (l0 : Nat) (G135 : gH) : Option gO := rI G135 l0 0 12 (t_92_0_94 K d G135 l0)
noncomputable def t_92_0_96 (K : gK) (d : Nat) (G131 : gH) (l2 : Int32) (l0 : Nat) (a134 : Nat) : Option gO := yI G131 a134 1 l2 (vp_nar .boolean (1 : Int32)) (t_92_0_95 K d l0)
noncomputable def t_92_0_97 (K : gK) (d : Nat) (G131 : gH) (l1 : Int32) (l2 : Int32) (l0 : Nat) (a133 : Nat) : Option gO := xQ G131 a133 9 l1 (t_92_0_96 K d G131 l2 l0)
noncomputable def t_92_0_98 (K : gK) (d : Nat) (l0 : Nat) (l1 : Int32) (l2 : Int32) (G131 : gH) : Option gO := rR G131 l0 0 3 (t_92_0_97 K d G131 l1 l2 l0)
noncomputable def t_92_0_99 (K : gK) (d : Nat) (G145 : gH) (v146 : Int32) : Option gO := some (.inl (some (.int v146)), G145)
noncomputable def t_92_0_100 (K : gK) (d : Nat) (l0 : Nat) (G145 : gH) : Option gO := rI G145 l0 0 12 (t_92_0_99 K d G145)
noncomputable def t_92_0_101 (K : gK) (d : Nat) (G143 : gH) (l0 : Nat) (v144 : Int32) : Option gO := if narrow .int (.int (v144 + (1 : Int32))) = .int (v144 + (1 : Int32)) ∧ fits .int (.int (v144 + (1 : Int32))) = true then wF G143 l0 0 12 (.int (v144 + (1 : Int32))) (t_92_0_100 K d l0) else none
noncomputable def t_92_0_102 (K : gK) (d : Nat) (l0 : Nat) (G143 : gH) : Option gO := rI G143 l0 0 12 (t_92_0_101 K d G143 l0)
noncomputable def t_92_0_103 (K : gK) (d : Nat) (G139 : gH) (l2 : Int32) (l0 : Nat) (a142 : Nat) : Option gO := yI G139 a142 1 l2 (vp_nar .boolean (1 : Int32)) (t_92_0_102 K d l0)
noncomputable def t_92_0_104 (K : gK) (d : Nat) (G139 : gH) (l1 : Int32) (l2 : Int32) (l0 : Nat) (a141 : Nat) : Option gO := xQ G139 a141 9 l1 (t_92_0_103 K d G139 l2 l0)
noncomputable def t_92_0_105 (K : gK) (d : Nat) (l0 : Nat) (l1 : Int32) (l2 : Int32) (G139 : gH) : Option gO := rR G139 l0 0 3 (t_92_0_104 K d G139 l1 l2 l0)
noncomputable def t_92_0_106 (K : gK) (d : Nat) (G128 : gH) (l0 : Nat) (l1 : Int32) (l2 : Int32) (v130 : Int32) : Option gO := if (12 : Int32) ≤ v130 then (cV (gCa K d 151 [.int (0 : Int32)] G128) (t_92_0_98 K d l0 l1 l2)) else (cV (gCa K d 151 [.int (1 : Int32)] G128) (t_92_0_105 K d l0 l1 l2))
noncomputable def t_92_0_107 (K : gK) (d : Nat) (l0 : Nat) (l1 : Int32) (l2 : Int32) (G128 : gH) : Option gO := rI G128 l0 0 12 (t_92_0_106 K d G128 l0 l1 l2)
noncomputable def t_92_0_108 (K : gK) (d : Nat) (G156 : gH) (v157 : Int32) : Option gO := some (.inl (some (.int v157)), G156)
noncomputable def t_92_0_109 (K : gK) (d : Nat) (l0 : Nat) (G156 : gH) : Option gO := rI G156 l0 0 12 (t_92_0_108 K d G156)
noncomputable def t_92_0_110 (K : gK) (d : Nat) (G154 : gH) (l0 : Nat) (v155 : Int32) : Option gO := if narrow .int (.int (v155 + (1 : Int32))) = .int (v155 + (1 : Int32)) ∧ fits .int (.int (v155 + (1 : Int32))) = true then wF G154 l0 0 12 (.int (v155 + (1 : Int32))) (t_92_0_109 K d l0) else none
noncomputable def t_92_0_111 (K : gK) (d : Nat) (l0 : Nat) (G154 : gH) : Option gO := rI G154 l0 0 12 (t_92_0_110 K d G154 l0)
noncomputable def t_92_0_112 (K : gK) (d : Nat) (G150 : gH) (l2 : Int32) (l0 : Nat) (a153 : Nat) : Option gO := yI G150 a153 1 l2 (vp_nar .boolean (1 : Int32)) (t_92_0_111 K d l0)
noncomputable def t_92_0_113 (K : gK) (d : Nat) (G150 : gH) (l1 : Int32) (l2 : Int32) (l0 : Nat) (a152 : Nat) : Option gO := xQ G150 a152 9 l1 (t_92_0_112 K d G150 l2 l0)
noncomputable def t_92_0_114 (K : gK) (d : Nat) (l0 : Nat) (l1 : Int32) (l2 : Int32) (G150 : gH) : Option gO := rR G150 l0 0 3 (t_92_0_113 K d G150 l1 l2 l0)
noncomputable def t_92_0_115 (K : gK) (d : Nat) (G164 : gH) (v165 : Int32) : Option gO := some (.inl (some (.int v165)), G164)
noncomputable def t_92_0_116 (K : gK) (d : Nat) (l0 : Nat) (G164 : gH) : Option gO := rI G164 l0 0 12 (t_92_0_115 K d G164)
noncomputable def t_92_0_117 (K : gK) (d : Nat) (G162 : gH) (l0 : Nat) (v163 : Int32) : Option gO := if narrow .int (.int (v163 + (1 : Int32))) = .int (v163 + (1 : Int32)) ∧ fits .int (.int (v163 + (1 : Int32))) = true then wF G162 l0 0 12 (.int (v163 + (1 : Int32))) (t_92_0_116 K d l0) else none
noncomputable def t_92_0_118 (K : gK) (d : Nat) (l0 : Nat) (G162 : gH) : Option gO := rI G162 l0 0 12 (t_92_0_117 K d G162 l0)
noncomputable def t_92_0_119 (K : gK) (d : Nat) (G158 : gH) (l2 : Int32) (l0 : Nat) (a161 : Nat) : Option gO := yI G158 a161 1 l2 (vp_nar .boolean (1 : Int32)) (t_92_0_118 K d l0)
noncomputable def t_92_0_120 (K : gK) (d : Nat) (G158 : gH) (l1 : Int32) (l2 : Int32) (l0 : Nat) (a160 : Nat) : Option gO := xQ G158 a160 9 l1 (t_92_0_119 K d G158 l2 l0)
noncomputable def t_92_0_121 (K : gK) (d : Nat) (l0 : Nat) (l1 : Int32) (l2 : Int32) (G158 : gH) : Option gO := rR G158 l0 0 3 (t_92_0_120 K d G158 l1 l2 l0)
noncomputable def t_92_0_122 (K : gK) (d : Nat) (G147 : gH) (l0 : Nat) (l1 : Int32) (l2 : Int32) (v149 : Int32) : Option gO := if (12 : Int32) ≤ v149 then (cV (gCa K d 151 [.int (0 : Int32)] G147) (t_92_0_114 K d l0 l1 l2)) else (cV (gCa K d 151 [.int (1 : Int32)] G147) (t_92_0_121 K d l0 l1 l2))
noncomputable def t_92_0_123 (K : gK) (d : Nat) (l0 : Nat) (l1 : Int32) (l2 : Int32) (G147 : gH) : Option gO := rI G147 l0 0 12 (t_92_0_122 K d G147 l0 l1 l2)
noncomputable def t_92_0_124 (K : gK) (d : Nat) (l0 : Nat) (l1 : Int32) (l2 : Int32) (v127 : Int32) (G126 : gH) : Option gO := if v127 = ((-1) : Int32) then (cV (gCa K d 153 [.int (1 : Int32)] G126) (t_92_0_107 K d l0 l1 l2)) else (cV (gCa K d 153 [.int (0 : Int32)] G126) (t_92_0_123 K d l0 l1 l2))
noncomputable def t_92_0_125 (K : gK) (d : Nat) (G102 : gH) (a124 : Nat) (l1 : Int32) (l2 : Int32) (l0 : Nat) (v125 : Int32) : Option gO := if g_cls G102 a124 = some 2 then (cI (gCa K d 152 [.ref a124, .int l1, .int ((v125 - (1 : Int32)) - l2)] G102) (t_92_0_124 K d l0 l1 l2)) else none
noncomputable def t_92_0_126 (K : gK) (d : Nat) (G102 : gH) (l0 : Nat) (l1 : Int32) (l2 : Int32) (a124 : Nat) : Option gO := rI G102 l0 0 8 (t_92_0_125 K d G102 a124 l1 l2 l0)
noncomputable def t_92_0_127 (K : gK) (d : Nat) (G102 : gH) (l0 : Nat) (l1 : Int32) (l2 : Int32) (v104 : Int32) : Option gO := if v104 = 0 then (cV (gCa K d 153 [.int (1 : Int32)] G102) (t_92_0_91 K d l0 l1 l2)) else (rR G102 l0 0 6 (t_92_0_126 K d G102 l0 l1 l2))
noncomputable def t_92_0_128 (K : gK) (d : Nat) (G175 : gH) (v176 : Int32) : Option gO := some (.inl (some (.int v176)), G175)
noncomputable def t_92_0_129 (K : gK) (d : Nat) (l0 : Nat) (G175 : gH) : Option gO := rI G175 l0 0 12 (t_92_0_128 K d G175)
noncomputable def t_92_0_130 (K : gK) (d : Nat) (G173 : gH) (l0 : Nat) (v174 : Int32) : Option gO := if narrow .int (.int (v174 + (1 : Int32))) = .int (v174 + (1 : Int32)) ∧ fits .int (.int (v174 + (1 : Int32))) = true then wF G173 l0 0 12 (.int (v174 + (1 : Int32))) (t_92_0_129 K d l0) else none
noncomputable def t_92_0_131 (K : gK) (d : Nat) (l0 : Nat) (G173 : gH) : Option gO := rI G173 l0 0 12 (t_92_0_130 K d G173 l0)
noncomputable def t_92_0_132 (K : gK) (d : Nat) (G169 : gH) (l2 : Int32) (l0 : Nat) (a172 : Nat) : Option gO := yI G169 a172 1 l2 (vp_nar .boolean (1 : Int32)) (t_92_0_131 K d l0)
noncomputable def t_92_0_133 (K : gK) (d : Nat) (G169 : gH) (l1 : Int32) (l2 : Int32) (l0 : Nat) (a171 : Nat) : Option gO := xQ G169 a171 9 l1 (t_92_0_132 K d G169 l2 l0)
noncomputable def t_92_0_134 (K : gK) (d : Nat) (l0 : Nat) (l1 : Int32) (l2 : Int32) (G169 : gH) : Option gO := rR G169 l0 0 3 (t_92_0_133 K d G169 l1 l2 l0)
noncomputable def t_92_0_135 (K : gK) (d : Nat) (G183 : gH) (v184 : Int32) : Option gO := some (.inl (some (.int v184)), G183)
noncomputable def t_92_0_136 (K : gK) (d : Nat) (l0 : Nat) (G183 : gH) : Option gO := rI G183 l0 0 12 (t_92_0_135 K d G183)
noncomputable def t_92_0_137 (K : gK) (d : Nat) (G181 : gH) (l0 : Nat) (v182 : Int32) : Option gO := if narrow .int (.int (v182 + (1 : Int32))) = .int (v182 + (1 : Int32)) ∧ fits .int (.int (v182 + (1 : Int32))) = true then wF G181 l0 0 12 (.int (v182 + (1 : Int32))) (t_92_0_136 K d l0) else none
noncomputable def t_92_0_138 (K : gK) (d : Nat) (l0 : Nat) (G181 : gH) : Option gO := rI G181 l0 0 12 (t_92_0_137 K d G181 l0)
noncomputable def t_92_0_139 (K : gK) (d : Nat) (G177 : gH) (l2 : Int32) (l0 : Nat) (a180 : Nat) : Option gO := yI G177 a180 1 l2 (vp_nar .boolean (1 : Int32)) (t_92_0_138 K d l0)
noncomputable def t_92_0_140 (K : gK) (d : Nat) (G177 : gH) (l1 : Int32) (l2 : Int32) (l0 : Nat) (a179 : Nat) : Option gO := xQ G177 a179 9 l1 (t_92_0_139 K d G177 l2 l0)
noncomputable def t_92_0_141 (K : gK) (d : Nat) (l0 : Nat) (l1 : Int32) (l2 : Int32) (G177 : gH) : Option gO := rR G177 l0 0 3 (t_92_0_140 K d G177 l1 l2 l0)
noncomputable def t_92_0_142 (K : gK) (d : Nat) (G166 : gH) (l0 : Nat) (l1 : Int32) (l2 : Int32) (v168 : Int32) : Option gO := if (12 : Int32) ≤ v168 then (cV (gCa K d 151 [.int (0 : Int32)] G166) (t_92_0_134 K d l0 l1 l2)) else (cV (gCa K d 151 [.int (1 : Int32)] G166) (t_92_0_141 K d l0 l1 l2))
noncomputable def t_92_0_143 (K : gK) (d : Nat) (l0 : Nat) (l1 : Int32) (l2 : Int32) (G166 : gH) : Option gO := rI G166 l0 0 12 (t_92_0_142 K d G166 l0 l1 l2)
noncomputable def t_92_0_144 (K : gK) (d : Nat) (l0 : Nat) (l1 : Int32) (l2 : Int32) (v103 : Int32) (G102 : gH) : Option gO := if v103 = ((-1) : Int32) then (rI G102 l0 0 10 (t_92_0_127 K d G102 l0 l1 l2)) else (cV (gCa K d 153 [.int (0 : Int32)] G102) (t_92_0_143 K d l0 l1 l2))
noncomputable def t_92_0_145 (K : gK) (d : Nat) (G96 : gH) (l1 : Int32) (l2 : Int32) (l0 : Nat) (a101 : Nat) : Option gO := if g_cls G96 a101 = some 2 then (cI (gCa K d 152 [.ref a101, .int l1, .int l2] G96) (t_92_0_144 K d l0 l1 l2)) else none
noncomputable def t_92_0_146 (K : gK) (d : Nat) (G96 : gH) (v185 : Int32) : Option gO := some (.inl (some (.int v185)), G96)
noncomputable def t_92_0_147 (K : gK) (d : Nat) (G96 : gH) (l0 : Nat) (l1 : Int32) (l2 : Int32) (v100 : Int32) : Option gO := if v100 = 0 then (rR G96 l0 0 6 (t_92_0_145 K d G96 l1 l2 l0)) else (rI G96 l0 0 12 (t_92_0_146 K d G96))
noncomputable def t_92_0_148 (K : gK) (d : Nat) (G96 : gH) (l2 : Int32) (l0 : Nat) (l1 : Int32) (a99 : Nat) : Option gO := xI G96 a99 1 l2 (t_92_0_147 K d G96 l0 l1 l2)
noncomputable def t_92_0_149 (K : gK) (d : Nat) (G96 : gH) (l1 : Int32) (l2 : Int32) (l0 : Nat) (a98 : Nat) : Option gO := xQ G96 a98 9 l1 (t_92_0_148 K d G96 l2 l0 l1)
noncomputable def t_92_0_150 (K : gK) (d : Nat) (l0 : Nat) (l1 : Int32) (l2 : Int32) (G96 : gH) : Option gO := rR G96 l0 0 3 (t_92_0_149 K d G96 l1 l2 l0)
noncomputable def t_92_0_151 (K : gK) (d : Nat) (G204 : gH) (v205 : Int32) : Option gO := some (.inl (some (.int v205)), G204)
noncomputable def t_92_0_152 (K : gK) (d : Nat) (l0 : Nat) (G204 : gH) : Option gO := rI G204 l0 0 12 (t_92_0_151 K d G204)
noncomputable def t_92_0_153 (K : gK) (d : Nat) (G202 : gH) (l0 : Nat) (v203 : Int32) : Option gO := if narrow .int (.int (v203 + (1 : Int32))) = .int (v203 + (1 : Int32)) ∧ fits .int (.int (v203 + (1 : Int32))) = true then wF G202 l0 0 12 (.int (v203 + (1 : Int32))) (t_92_0_152 K d l0) else none
noncomputable def t_92_0_154 (K : gK) (d : Nat) (l0 : Nat) (G202 : gH) : Option gO := rI G202 l0 0 12 (t_92_0_153 K d G202 l0)
noncomputable def t_92_0_155 (K : gK) (d : Nat) (G198 : gH) (l2 : Int32) (l0 : Nat) (a201 : Nat) : Option gO := yI G198 a201 1 l2 (vp_nar .boolean (1 : Int32)) (t_92_0_154 K d l0)
noncomputable def t_92_0_156 (K : gK) (d : Nat) (G198 : gH) (l1 : Int32) (l2 : Int32) (l0 : Nat) (a200 : Nat) : Option gO := xQ G198 a200 9 l1 (t_92_0_155 K d G198 l2 l0)
noncomputable def t_92_0_157 (K : gK) (d : Nat) (l0 : Nat) (l1 : Int32) (l2 : Int32) (G198 : gH) : Option gO := rR G198 l0 0 3 (t_92_0_156 K d G198 l1 l2 l0)
noncomputable def t_92_0_158 (K : gK) (d : Nat) (G212 : gH) (v213 : Int32) : Option gO := some (.inl (some (.int v213)), G212)
noncomputable def t_92_0_159 (K : gK) (d : Nat) (l0 : Nat) (G212 : gH) : Option gO := rI G212 l0 0 12 (t_92_0_158 K d G212)
noncomputable def t_92_0_160 (K : gK) (d : Nat) (G210 : gH) (l0 : Nat) (v211 : Int32) : Option gO := if narrow .int (.int (v211 + (1 : Int32))) = .int (v211 + (1 : Int32)) ∧ fits .int (.int (v211 + (1 : Int32))) = true then wF G210 l0 0 12 (.int (v211 + (1 : Int32))) (t_92_0_159 K d l0) else none
noncomputable def t_92_0_161 (K : gK) (d : Nat) (l0 : Nat) (G210 : gH) : Option gO := rI G210 l0 0 12 (t_92_0_160 K d G210 l0)
noncomputable def t_92_0_162 (K : gK) (d : Nat) (G206 : gH) (l2 : Int32) (l0 : Nat) (a209 : Nat) : Option gO := yI G206 a209 1 l2 (vp_nar .boolean (1 : Int32)) (t_92_0_161 K d l0)
noncomputable def t_92_0_163 (K : gK) (d : Nat) (G206 : gH) (l1 : Int32) (l2 : Int32) (l0 : Nat) (a208 : Nat) : Option gO := xQ G206 a208 9 l1 (t_92_0_162 K d G206 l2 l0)
noncomputable def t_92_0_164 (K : gK) (d : Nat) (l0 : Nat) (l1 : Int32) (l2 : Int32) (G206 : gH) : Option gO := rR G206 l0 0 3 (t_92_0_163 K d G206 l1 l2 l0)
noncomputable def t_92_0_165 (K : gK) (d : Nat) (G195 : gH) (l0 : Nat) (l1 : Int32) (l2 : Int32) (v197 : Int32) : Option gO := if (12 : Int32) ≤ v197 then (cV (gCa K d 151 [.int (0 : Int32)] G195) (t_92_0_157 K d l0 l1 l2)) else (cV (gCa K d 151 [.int (1 : Int32)] G195) (t_92_0_164 K d l0 l1 l2))
noncomputable def t_92_0_166 (K : gK) (d : Nat) (l0 : Nat) (l1 : Int32) (l2 : Int32) (G195 : gH) : Option gO := rI G195 l0 0 12 (t_92_0_165 K d G195 l0 l1 l2)
noncomputable def t_92_0_167 (K : gK) (d : Nat) (G227 : gH) (v228 : Int32) : Option gO := some (.inl (some (.int v228)), G227)
noncomputable def t_92_0_168 (K : gK) (d : Nat) (l0 : Nat) (G227 : gH) : Option gO := rI G227 l0 0 12 (t_92_0_167 K d G227)
noncomputable def t_92_0_169 (K : gK) (d : Nat) (G225 : gH) (l0 : Nat) (v226 : Int32) : Option gO := if narrow .int (.int (v226 + (1 : Int32))) = .int (v226 + (1 : Int32)) ∧ fits .int (.int (v226 + (1 : Int32))) = true then wF G225 l0 0 12 (.int (v226 + (1 : Int32))) (t_92_0_168 K d l0) else none
noncomputable def t_92_0_170 (K : gK) (d : Nat) (l0 : Nat) (G225 : gH) : Option gO := rI G225 l0 0 12 (t_92_0_169 K d G225 l0)
noncomputable def t_92_0_171 (K : gK) (d : Nat) (G221 : gH) (l2 : Int32) (l0 : Nat) (a224 : Nat) : Option gO := yI G221 a224 1 l2 (vp_nar .boolean (1 : Int32)) (t_92_0_170 K d l0)
noncomputable def t_92_0_172 (K : gK) (d : Nat) (G221 : gH) (l1 : Int32) (l2 : Int32) (l0 : Nat) (a223 : Nat) : Option gO := xQ G221 a223 9 l1 (t_92_0_171 K d G221 l2 l0)
noncomputable def t_92_0_173 (K : gK) (d : Nat) (l0 : Nat) (l1 : Int32) (l2 : Int32) (G221 : gH) : Option gO := rR G221 l0 0 3 (t_92_0_172 K d G221 l1 l2 l0)
noncomputable def t_92_0_174 (K : gK) (d : Nat) (G235 : gH) (v236 : Int32) : Option gO := some (.inl (some (.int v236)), G235)
noncomputable def t_92_0_175 (K : gK) (d : Nat) (l0 : Nat) (G235 : gH) : Option gO := rI G235 l0 0 12 (t_92_0_174 K d G235)
noncomputable def t_92_0_176 (K : gK) (d : Nat) (G233 : gH) (l0 : Nat) (v234 : Int32) : Option gO := if narrow .int (.int (v234 + (1 : Int32))) = .int (v234 + (1 : Int32)) ∧ fits .int (.int (v234 + (1 : Int32))) = true then wF G233 l0 0 12 (.int (v234 + (1 : Int32))) (t_92_0_175 K d l0) else none
noncomputable def t_92_0_177 (K : gK) (d : Nat) (l0 : Nat) (G233 : gH) : Option gO := rI G233 l0 0 12 (t_92_0_176 K d G233 l0)
noncomputable def t_92_0_178 (K : gK) (d : Nat) (G229 : gH) (l2 : Int32) (l0 : Nat) (a232 : Nat) : Option gO := yI G229 a232 1 l2 (vp_nar .boolean (1 : Int32)) (t_92_0_177 K d l0)
noncomputable def t_92_0_179 (K : gK) (d : Nat) (G229 : gH) (l1 : Int32) (l2 : Int32) (l0 : Nat) (a231 : Nat) : Option gO := xQ G229 a231 9 l1 (t_92_0_178 K d G229 l2 l0)
noncomputable def t_92_0_180 (K : gK) (d : Nat) (l0 : Nat) (l1 : Int32) (l2 : Int32) (G229 : gH) : Option gO := rR G229 l0 0 3 (t_92_0_179 K d G229 l1 l2 l0)
noncomputable def t_92_0_181 (K : gK) (d : Nat) (G218 : gH) (l0 : Nat) (l1 : Int32) (l2 : Int32) (v220 : Int32) : Option gO := if (12 : Int32) ≤ v220 then (cV (gCa K d 151 [.int (0 : Int32)] G218) (t_92_0_173 K d l0 l1 l2)) else (cV (gCa K d 151 [.int (1 : Int32)] G218) (t_92_0_180 K d l0 l1 l2))
noncomputable def t_92_0_182 (K : gK) (d : Nat) (l0 : Nat) (l1 : Int32) (l2 : Int32) (G218 : gH) : Option gO := rI G218 l0 0 12 (t_92_0_181 K d G218 l0 l1 l2)
noncomputable def t_92_0_183 (K : gK) (d : Nat) (G246 : gH) (v247 : Int32) : Option gO := some (.inl (some (.int v247)), G246)
noncomputable def t_92_0_184 (K : gK) (d : Nat) (l0 : Nat) (G246 : gH) : Option gO := rI G246 l0 0 12 (t_92_0_183 K d G246)
noncomputable def t_92_0_185 (K : gK) (d : Nat) (G244 : gH) (l0 : Nat) (v245 : Int32) : Option gO := if narrow .int (.int (v245 + (1 : Int32))) = .int (v245 + (1 : Int32)) ∧ fits .int (.int (v245 + (1 : Int32))) = true then wF G244 l0 0 12 (.int (v245 + (1 : Int32))) (t_92_0_184 K d l0) else none
noncomputable def t_92_0_186 (K : gK) (d : Nat) (l0 : Nat) (G244 : gH) : Option gO := rI G244 l0 0 12 (t_92_0_185 K d G244 l0)
noncomputable def t_92_0_187 (K : gK) (d : Nat) (G240 : gH) (l2 : Int32) (l0 : Nat) (a243 : Nat) : Option gO := yI G240 a243 1 l2 (vp_nar .boolean (1 : Int32)) (t_92_0_186 K d l0)
noncomputable def t_92_0_188 (K : gK) (d : Nat) (G240 : gH) (l1 : Int32) (l2 : Int32) (l0 : Nat) (a242 : Nat) : Option gO := xQ G240 a242 9 l1 (t_92_0_187 K d G240 l2 l0)
noncomputable def t_92_0_189 (K : gK) (d : Nat) (l0 : Nat) (l1 : Int32) (l2 : Int32) (G240 : gH) : Option gO := rR G240 l0 0 3 (t_92_0_188 K d G240 l1 l2 l0)
noncomputable def t_92_0_190 (K : gK) (d : Nat) (G254 : gH) (v255 : Int32) : Option gO := some (.inl (some (.int v255)), G254)
noncomputable def t_92_0_191 (K : gK) (d : Nat) (l0 : Nat) (G254 : gH) : Option gO := rI G254 l0 0 12 (t_92_0_190 K d G254)
noncomputable def t_92_0_192 (K : gK) (d : Nat) (G252 : gH) (l0 : Nat) (v253 : Int32) : Option gO := if narrow .int (.int (v253 + (1 : Int32))) = .int (v253 + (1 : Int32)) ∧ fits .int (.int (v253 + (1 : Int32))) = true then wF G252 l0 0 12 (.int (v253 + (1 : Int32))) (t_92_0_191 K d l0) else none
noncomputable def t_92_0_193 (K : gK) (d : Nat) (l0 : Nat) (G252 : gH) : Option gO := rI G252 l0 0 12 (t_92_0_192 K d G252 l0)
noncomputable def t_92_0_194 (K : gK) (d : Nat) (G248 : gH) (l2 : Int32) (l0 : Nat) (a251 : Nat) : Option gO := yI G248 a251 1 l2 (vp_nar .boolean (1 : Int32)) (t_92_0_193 K d l0)
noncomputable def t_92_0_195 (K : gK) (d : Nat) (G248 : gH) (l1 : Int32) (l2 : Int32) (l0 : Nat) (a250 : Nat) : Option gO := xQ G248 a250 9 l1 (t_92_0_194 K d G248 l2 l0)
noncomputable def t_92_0_196 (K : gK) (d : Nat) (l0 : Nat) (l1 : Int32) (l2 : Int32) (G248 : gH) : Option gO := rR G248 l0 0 3 (t_92_0_195 K d G248 l1 l2 l0)
noncomputable def t_92_0_197 (K : gK) (d : Nat) (G237 : gH) (l0 : Nat) (l1 : Int32) (l2 : Int32) (v239 : Int32) : Option gO := if (12 : Int32) ≤ v239 then (cV (gCa K d 151 [.int (0 : Int32)] G237) (t_92_0_189 K d l0 l1 l2)) else (cV (gCa K d 151 [.int (1 : Int32)] G237) (t_92_0_196 K d l0 l1 l2))
noncomputable def t_92_0_198 (K : gK) (d : Nat) (l0 : Nat) (l1 : Int32) (l2 : Int32) (G237 : gH) : Option gO := rI G237 l0 0 12 (t_92_0_197 K d G237 l0 l1 l2)
noncomputable def t_92_0_199 (K : gK) (d : Nat) (l0 : Nat) (l1 : Int32) (l2 : Int32) (v217 : Int32) (G216 : gH) : Option gO := if v217 = ((-1) : Int32) then (cV (gCa K d 153 [.int (1 : Int32)] G216) (t_92_0_182 K d l0 l1 l2)) else (cV (gCa K d 153 [.int (0 : Int32)] G216) (t_92_0_198 K d l0 l1 l2))
noncomputable def t_92_0_200 (K : gK) (d : Nat) (G192 : gH) (a214 : Nat) (l1 : Int32) (l2 : Int32) (l0 : Nat) (v215 : Int32) : Option gO := if g_cls G192 a214 = some 2 then (cI (gCa K d 152 [.ref a214, .int l1, .int ((v215 - (1 : Int32)) - l2)] G192) (t_92_0_199 K d l0 l1 l2)) else none
noncomputable def t_92_0_201 (K : gK) (d : Nat) (G192 : gH) (l0 : Nat) (l1 : Int32) (l2 : Int32) (a214 : Nat) : Option gO := rI G192 l0 0 8 (t_92_0_200 K d G192 a214 l1 l2 l0)
noncomputable def t_92_0_202 (K : gK) (d : Nat) (G192 : gH) (l0 : Nat) (l1 : Int32) (l2 : Int32) (v194 : Int32) : Option gO := if v194 = 0 then (cV (gCa K d 153 [.int (1 : Int32)] G192) (t_92_0_166 K d l0 l1 l2)) else (rR G192 l0 0 6 (t_92_0_201 K d G192 l0 l1 l2))
noncomputable def t_92_0_203 (K : gK) (d : Nat) (G265 : gH) (v266 : Int32) : Option gO := some (.inl (some (.int v266)), G265)
noncomputable def t_92_0_204 (K : gK) (d : Nat) (l0 : Nat) (G265 : gH) : Option gO := rI G265 l0 0 12 (t_92_0_203 K d G265)
noncomputable def t_92_0_205 (K : gK) (d : Nat) (G263 : gH) (l0 : Nat) (v264 : Int32) : Option gO := if narrow .int (.int (v264 + (1 : Int32))) = .int (v264 + (1 : Int32)) ∧ fits .int (.int (v264 + (1 : Int32))) = true then wF G263 l0 0 12 (.int (v264 + (1 : Int32))) (t_92_0_204 K d l0) else none
noncomputable def t_92_0_206 (K : gK) (d : Nat) (l0 : Nat) (G263 : gH) : Option gO := rI G263 l0 0 12 (t_92_0_205 K d G263 l0)
noncomputable def t_92_0_207 (K : gK) (d : Nat) (G259 : gH) (l2 : Int32) (l0 : Nat) (a262 : Nat) : Option gO := yI G259 a262 1 l2 (vp_nar .boolean (1 : Int32)) (t_92_0_206 K d l0)
noncomputable def t_92_0_208 (K : gK) (d : Nat) (G259 : gH) (l1 : Int32) (l2 : Int32) (l0 : Nat) (a261 : Nat) : Option gO := xQ G259 a261 9 l1 (t_92_0_207 K d G259 l2 l0)
noncomputable def t_92_0_209 (K : gK) (d : Nat) (l0 : Nat) (l1 : Int32) (l2 : Int32) (G259 : gH) : Option gO := rR G259 l0 0 3 (t_92_0_208 K d G259 l1 l2 l0)
noncomputable def t_92_0_210 (K : gK) (d : Nat) (G273 : gH) (v274 : Int32) : Option gO := some (.inl (some (.int v274)), G273)
noncomputable def t_92_0_211 (K : gK) (d : Nat) (l0 : Nat) (G273 : gH) : Option gO := rI G273 l0 0 12 (t_92_0_210 K d G273)
noncomputable def t_92_0_212 (K : gK) (d : Nat) (G271 : gH) (l0 : Nat) (v272 : Int32) : Option gO := if narrow .int (.int (v272 + (1 : Int32))) = .int (v272 + (1 : Int32)) ∧ fits .int (.int (v272 + (1 : Int32))) = true then wF G271 l0 0 12 (.int (v272 + (1 : Int32))) (t_92_0_211 K d l0) else none
noncomputable def t_92_0_213 (K : gK) (d : Nat) (l0 : Nat) (G271 : gH) : Option gO := rI G271 l0 0 12 (t_92_0_212 K d G271 l0)
noncomputable def t_92_0_214 (K : gK) (d : Nat) (G267 : gH) (l2 : Int32) (l0 : Nat) (a270 : Nat) : Option gO := yI G267 a270 1 l2 (vp_nar .boolean (1 : Int32)) (t_92_0_213 K d l0)
noncomputable def t_92_0_215 (K : gK) (d : Nat) (G267 : gH) (l1 : Int32) (l2 : Int32) (l0 : Nat) (a269 : Nat) : Option gO := xQ G267 a269 9 l1 (t_92_0_214 K d G267 l2 l0)
noncomputable def t_92_0_216 (K : gK) (d : Nat) (l0 : Nat) (l1 : Int32) (l2 : Int32) (G267 : gH) : Option gO := rR G267 l0 0 3 (t_92_0_215 K d G267 l1 l2 l0)
noncomputable def t_92_0_217 (K : gK) (d : Nat) (G256 : gH) (l0 : Nat) (l1 : Int32) (l2 : Int32) (v258 : Int32) : Option gO := if (12 : Int32) ≤ v258 then (cV (gCa K d 151 [.int (0 : Int32)] G256) (t_92_0_209 K d l0 l1 l2)) else (cV (gCa K d 151 [.int (1 : Int32)] G256) (t_92_0_216 K d l0 l1 l2))
noncomputable def t_92_0_218 (K : gK) (d : Nat) (l0 : Nat) (l1 : Int32) (l2 : Int32) (G256 : gH) : Option gO := rI G256 l0 0 12 (t_92_0_217 K d G256 l0 l1 l2)
noncomputable def t_92_0_219 (K : gK) (d : Nat) (l0 : Nat) (l1 : Int32) (l2 : Int32) (v193 : Int32) (G192 : gH) : Option gO := if v193 = ((-1) : Int32) then (rI G192 l0 0 10 (t_92_0_202 K d G192 l0 l1 l2)) else (cV (gCa K d 153 [.int (0 : Int32)] G192) (t_92_0_218 K d l0 l1 l2))
noncomputable def t_92_0_220 (K : gK) (d : Nat) (G186 : gH) (l1 : Int32) (l2 : Int32) (l0 : Nat) (a191 : Nat) : Option gO := if g_cls G186 a191 = some 2 then (cI (gCa K d 152 [.ref a191, .int l1, .int l2] G186) (t_92_0_219 K d l0 l1 l2)) else none
noncomputable def t_92_0_221 (K : gK) (d : Nat) (G186 : gH) (v275 : Int32) : Option gO := some (.inl (some (.int v275)), G186)
noncomputable def t_92_0_222 (K : gK) (d : Nat) (G186 : gH) (l0 : Nat) (l1 : Int32) (l2 : Int32) (v190 : Int32) : Option gO := if v190 = 0 then (rR G186 l0 0 6 (t_92_0_220 K d G186 l1 l2 l0)) else (rI G186 l0 0 12 (t_92_0_221 K d G186))
noncomputable def t_92_0_223 (K : gK) (d : Nat) (G186 : gH) (l2 : Int32) (l0 : Nat) (l1 : Int32) (a189 : Nat) : Option gO := xI G186 a189 1 l2 (t_92_0_222 K d G186 l0 l1 l2)
noncomputable def t_92_0_224 (K : gK) (d : Nat) (G186 : gH) (l1 : Int32) (l2 : Int32) (l0 : Nat) (a188 : Nat) : Option gO := xQ G186 a188 9 l1 (t_92_0_223 K d G186 l2 l0 l1)
noncomputable def t_92_0_225 (K : gK) (d : Nat) (l0 : Nat) (l1 : Int32) (l2 : Int32) (G186 : gH) : Option gO := rR G186 l0 0 3 (t_92_0_224 K d G186 l1 l2 l0)
noncomputable def t_92_0_226 (K : gK) (d : Nat) (l0 : Nat) (l1 : Int32) (l2 : Int32) (v95 : Int32) (G94 : gH) : Option gO := if v95 = 0 then (cV (gCa K d 149 [.int (0 : Int32)] G94) (t_92_0_150 K d l0 l1 l2)) else (cV (gCa K d 149 [.int (1 : Int32)] G94) (t_92_0_225 K d l0 l1 l2))
noncomputable def t_92_0_227 (K : gK) (d : Nat) (l2 : Int32) (G1 : gH) (l0 : Nat) (l1 : Int32) (v93 : Int32) : Option gO := cI (gCa K d 148 [.int l2, .int (0 : Int32), .int (v93 - (1 : Int32))] G1) (t_92_0_226 K d l0 l1 l2)
noncomputable def t_92_0_228 (K : gK) (d : Nat) (l0 : Nat) (l1 : Int32) (l2 : Int32) (v2 : Int32) (G1 : gH) : Option gO := if v2 = 0 then (cV (gCa K d 149 [.int (0 : Int32)] G1) (t_92_0_75 K d l0 l1 l2)) else (rI G1 l0 0 8 (t_92_0_227 K d l2 G1 l0 l1))
noncomputable def t_92_0 (K : gK) (d : Nat) (l0 : Nat) (l1 : Int32) (l2 : Int32) (G : gH) : Option gO := cI (gCa K d 148 [.int l1, .int (0 : Int32), .int (59 : Int32)] G) (t_92_0_228 K d l0 l1 l2)
theorem e_92_0 {K : gK} {d : Nat} {l0 : Nat} {l1 : Int32} {l2 : Int32} {G : gH} : gle (t_92_0 K d l0 l1 l2 G) (gRn K d 92 0 [some (.ref l0), some (.int l1), some (.int l2)] [] G) := by
  unfold t_92_0
  refine g_iload ((q_92 _).trans rfl) rfl ?_
  refine g_push ((q_92 _).trans rfl) ?_
  refine g_push ((q_92 _).trans rfl) ?_
  refine g_callS (kk := 3) ((q_92 _).trans rfl) (gHn m_92) (by exact ⟨Nat.le_of_ble_eq_true rfl, Nat.le_of_ble_eq_true rfl, rfl⟩) rfl (fun w G1 => gm_I (fun v2 hw => ?_))
  subst hw
  refine g_ifeq ((q_92 _).trans rfl) (fun _ => ?_) (fun _ => ?_)
  · refine g_push ((q_92 _).trans rfl) ?_
    refine g_callS (kk := 1) ((q_92 _).trans rfl) (gHn m_92) (by exact ⟨Nat.le_of_ble_eq_true rfl, Nat.le_of_ble_eq_true rfl, rfl⟩) rfl (fun w G3 => gm_V (fun hw => ?_))
    subst hw
    refine g_aload ((q_92 _).trans rfl) rfl ?_
    refine g_getR ((q_92 _).trans rfl) (fun a5 => ?_)
    refine g_iload ((q_92 _).trans rfl) rfl ?_
    refine g_aald ((q_92 _).trans rfl) (fun a6 => ?_)
    refine g_iload ((q_92 _).trans rfl) rfl ?_
    refine g_iald ((q_92 _).trans rfl) (fun v7 => ?_)
    refine g_ifne ((q_92 _).trans rfl) (fun _ => ?_) (fun _ => ?_)
    · refine g_aload ((q_92 _).trans rfl) rfl ?_
      refine g_getR ((q_92 _).trans rfl) (fun a8 => ?_)
      refine g_iload ((q_92 _).trans rfl) rfl ?_
      refine g_iload ((q_92 _).trans rfl) rfl ?_
      refine g_callV (kk := 2) ((q_92 _).trans rfl) (gHn m_92) rfl (by exact ⟨Nat.le_of_ble_eq_true rfl, rfl⟩) rfl (fun w G9 => gm_I (fun v10 hw => ?_))
      subst hw
      refine g_push ((q_92 _).trans rfl) ?_
      refine g_cmpne ((q_92 _).trans rfl) (fun _ => ?_) (fun _ => ?_)
      · refine g_aload ((q_92 _).trans rfl) rfl ?_
        refine g_getI ((q_92 _).trans rfl) (fun v11 => ?_)
        refine g_ifeq ((q_92 _).trans rfl) (fun _ => ?_) (fun _ => ?_)
        · refine g_push ((q_92 _).trans rfl) ?_
          refine g_goto ((q_92 _).trans rfl) ?_
          refine g_callS (kk := 1) ((q_92 _).trans rfl) (gHn m_92) (by exact ⟨Nat.le_of_ble_eq_true rfl, Nat.le_of_ble_eq_true rfl, rfl⟩) rfl (fun w G12 => gm_V (fun hw => ?_))
          subst hw
          refine g_aload ((q_92 _).trans rfl) rfl ?_
          refine g_getI ((q_92 _).trans rfl) (fun v14 => ?_)
          refine g_push ((q_92 _).trans rfl) ?_
          refine g_cmpge ((q_92 _).trans rfl) (fun _ => ?_) (fun _ => ?_)
          · refine g_push ((q_92 _).trans rfl) ?_
            refine g_callS (kk := 1) ((q_92 _).trans rfl) (gHn m_92) (by exact ⟨Nat.le_of_ble_eq_true rfl, Nat.le_of_ble_eq_true rfl, rfl⟩) rfl (fun w G15 => gm_V (fun hw => ?_))
            subst hw
            refine g_aload ((q_92 _).trans rfl) rfl ?_
            refine g_getR ((q_92 _).trans rfl) (fun a17 => ?_)
            refine g_iload ((q_92 _).trans rfl) rfl ?_
            refine g_aald ((q_92 _).trans rfl) (fun a18 => ?_)
            refine g_iload ((q_92 _).trans rfl) rfl ?_
            refine g_push ((q_92 _).trans rfl) ?_
            refine g_zast ((q_92 _).trans rfl) (fun G19 => ?_)
            refine g_aload ((q_92 _).trans rfl) rfl ?_
            refine g_dup_ref ((q_92 _).trans rfl) ?_
            refine g_getI ((q_92 _).trans rfl) (fun v20 => ?_)
            refine g_push ((q_92 _).trans rfl) ?_
            refine g_iadd ((q_92 _).trans rfl) ?_
            refine g_putf ((q_92 _).trans rfl) (fun G21 => ?_)
            refine g_aload ((q_92 _).trans rfl) rfl ?_
            refine g_getI ((q_92 _).trans rfl) (fun v22 => ?_)
            exact g_iret ((q_92 _).trans rfl)
          · refine g_push ((q_92 _).trans rfl) ?_
            refine g_goto ((q_92 _).trans rfl) ?_
            refine g_callS (kk := 1) ((q_92 _).trans rfl) (gHn m_92) (by exact ⟨Nat.le_of_ble_eq_true rfl, Nat.le_of_ble_eq_true rfl, rfl⟩) rfl (fun w G23 => gm_V (fun hw => ?_))
            subst hw
            refine g_aload ((q_92 _).trans rfl) rfl ?_
            refine g_getR ((q_92 _).trans rfl) (fun a25 => ?_)
            refine g_iload ((q_92 _).trans rfl) rfl ?_
            refine g_aald ((q_92 _).trans rfl) (fun a26 => ?_)
            refine g_iload ((q_92 _).trans rfl) rfl ?_
            refine g_push ((q_92 _).trans rfl) ?_
            refine g_zast ((q_92 _).trans rfl) (fun G27 => ?_)
            refine g_aload ((q_92 _).trans rfl) rfl ?_
            refine g_dup_ref ((q_92 _).trans rfl) ?_
            refine g_getI ((q_92 _).trans rfl) (fun v28 => ?_)
            refine g_push ((q_92 _).trans rfl) ?_
            refine g_iadd ((q_92 _).trans rfl) ?_
            refine g_putf ((q_92 _).trans rfl) (fun G29 => ?_)
            refine g_aload ((q_92 _).trans rfl) rfl ?_
            refine g_getI ((q_92 _).trans rfl) (fun v30 => ?_)
            exact g_iret ((q_92 _).trans rfl)
        · refine g_aload ((q_92 _).trans rfl) rfl ?_
          refine g_getR ((q_92 _).trans rfl) (fun a31 => ?_)
          refine g_iload ((q_92 _).trans rfl) rfl ?_
          refine g_aload ((q_92 _).trans rfl) rfl ?_
          refine g_getI ((q_92 _).trans rfl) (fun v32 => ?_)
          refine g_push ((q_92 _).trans rfl) ?_
          refine g_isub ((q_92 _).trans rfl) ?_
          refine g_iload ((q_92 _).trans rfl) rfl ?_
          refine g_isub ((q_92 _).trans rfl) ?_
          refine g_callV (kk := 2) ((q_92 _).trans rfl) (gHn m_92) rfl (by exact ⟨Nat.le_of_ble_eq_true rfl, rfl⟩) rfl (fun w G33 => gm_I (fun v34 hw => ?_))
          subst hw
          refine g_push ((q_92 _).trans rfl) ?_
          refine g_cmpne ((q_92 _).trans rfl) (fun _ => ?_) (fun _ => ?_)
          · refine g_push ((q_92 _).trans rfl) ?_
            refine g_goto ((q_92 _).trans rfl) ?_
            refine g_callS (kk := 1) ((q_92 _).trans rfl) (gHn m_92) (by exact ⟨Nat.le_of_ble_eq_true rfl, Nat.le_of_ble_eq_true rfl, rfl⟩) rfl (fun w G35 => gm_V (fun hw => ?_))
            subst hw
            refine g_aload ((q_92 _).trans rfl) rfl ?_
            refine g_getI ((q_92 _).trans rfl) (fun v37 => ?_)
            refine g_push ((q_92 _).trans rfl) ?_
            refine g_cmpge ((q_92 _).trans rfl) (fun _ => ?_) (fun _ => ?_)
            · refine g_push ((q_92 _).trans rfl) ?_
              refine g_callS (kk := 1) ((q_92 _).trans rfl) (gHn m_92) (by exact ⟨Nat.le_of_ble_eq_true rfl, Nat.le_of_ble_eq_true rfl, rfl⟩) rfl (fun w G38 => gm_V (fun hw => ?_))
              subst hw
              refine g_aload ((q_92 _).trans rfl) rfl ?_
              refine g_getR ((q_92 _).trans rfl) (fun a40 => ?_)
              refine g_iload ((q_92 _).trans rfl) rfl ?_
              refine g_aald ((q_92 _).trans rfl) (fun a41 => ?_)
              refine g_iload ((q_92 _).trans rfl) rfl ?_
              refine g_push ((q_92 _).trans rfl) ?_
              refine g_zast ((q_92 _).trans rfl) (fun G42 => ?_)
              refine g_aload ((q_92 _).trans rfl) rfl ?_
              refine g_dup_ref ((q_92 _).trans rfl) ?_
              refine g_getI ((q_92 _).trans rfl) (fun v43 => ?_)
              refine g_push ((q_92 _).trans rfl) ?_
              refine g_iadd ((q_92 _).trans rfl) ?_
              refine g_putf ((q_92 _).trans rfl) (fun G44 => ?_)
              refine g_aload ((q_92 _).trans rfl) rfl ?_
              refine g_getI ((q_92 _).trans rfl) (fun v45 => ?_)
              exact g_iret ((q_92 _).trans rfl)
            · refine g_push ((q_92 _).trans rfl) ?_
              refine g_goto ((q_92 _).trans rfl) ?_
              refine g_callS (kk := 1) ((q_92 _).trans rfl) (gHn m_92) (by exact ⟨Nat.le_of_ble_eq_true rfl, Nat.le_of_ble_eq_true rfl, rfl⟩) rfl (fun w G46 => gm_V (fun hw => ?_))
              subst hw
              refine g_aload ((q_92 _).trans rfl) rfl ?_
              refine g_getR ((q_92 _).trans rfl) (fun a48 => ?_)
              refine g_iload ((q_92 _).trans rfl) rfl ?_
              refine g_aald ((q_92 _).trans rfl) (fun a49 => ?_)
              refine g_iload ((q_92 _).trans rfl) rfl ?_
              refine g_push ((q_92 _).trans rfl) ?_
              refine g_zast ((q_92 _).trans rfl) (fun G50 => ?_)
              refine g_aload ((q_92 _).trans rfl) rfl ?_
              refine g_dup_ref ((q_92 _).trans rfl) ?_
              refine g_getI ((q_92 _).trans rfl) (fun v51 => ?_)
              refine g_push ((q_92 _).trans rfl) ?_
              refine g_iadd ((q_92 _).trans rfl) ?_
              refine g_putf ((q_92 _).trans rfl) (fun G52 => ?_)
              refine g_aload ((q_92 _).trans rfl) rfl ?_
              refine g_getI ((q_92 _).trans rfl) (fun v53 => ?_)
              exact g_iret ((q_92 _).trans rfl)
          · refine g_push ((q_92 _).trans rfl) ?_
            refine g_callS (kk := 1) ((q_92 _).trans rfl) (gHn m_92) (by exact ⟨Nat.le_of_ble_eq_true rfl, Nat.le_of_ble_eq_true rfl, rfl⟩) rfl (fun w G54 => gm_V (fun hw => ?_))
            subst hw
            refine g_aload ((q_92 _).trans rfl) rfl ?_
            refine g_getI ((q_92 _).trans rfl) (fun v56 => ?_)
            refine g_push ((q_92 _).trans rfl) ?_
            refine g_cmpge ((q_92 _).trans rfl) (fun _ => ?_) (fun _ => ?_)
            · refine g_push ((q_92 _).trans rfl) ?_
              refine g_callS (kk := 1) ((q_92 _).trans rfl) (gHn m_92) (by exact ⟨Nat.le_of_ble_eq_true rfl, Nat.le_of_ble_eq_true rfl, rfl⟩) rfl (fun w G57 => gm_V (fun hw => ?_))
              subst hw
              refine g_aload ((q_92 _).trans rfl) rfl ?_
              refine g_getR ((q_92 _).trans rfl) (fun a59 => ?_)
              refine g_iload ((q_92 _).trans rfl) rfl ?_
              refine g_aald ((q_92 _).trans rfl) (fun a60 => ?_)
              refine g_iload ((q_92 _).trans rfl) rfl ?_
              refine g_push ((q_92 _).trans rfl) ?_
              refine g_zast ((q_92 _).trans rfl) (fun G61 => ?_)
              refine g_aload ((q_92 _).trans rfl) rfl ?_
              refine g_dup_ref ((q_92 _).trans rfl) ?_
              refine g_getI ((q_92 _).trans rfl) (fun v62 => ?_)
              refine g_push ((q_92 _).trans rfl) ?_
              refine g_iadd ((q_92 _).trans rfl) ?_
              refine g_putf ((q_92 _).trans rfl) (fun G63 => ?_)
              refine g_aload ((q_92 _).trans rfl) rfl ?_
              refine g_getI ((q_92 _).trans rfl) (fun v64 => ?_)
              exact g_iret ((q_92 _).trans rfl)
            · refine g_push ((q_92 _).trans rfl) ?_
              refine g_goto ((q_92 _).trans rfl) ?_
              refine g_callS (kk := 1) ((q_92 _).trans rfl) (gHn m_92) (by exact ⟨Nat.le_of_ble_eq_true rfl, Nat.le_of_ble_eq_true rfl, rfl⟩) rfl (fun w G65 => gm_V (fun hw => ?_))
              subst hw
              refine g_aload ((q_92 _).trans rfl) rfl ?_
              refine g_getR ((q_92 _).trans rfl) (fun a67 => ?_)
              refine g_iload ((q_92 _).trans rfl) rfl ?_
              refine g_aald ((q_92 _).trans rfl) (fun a68 => ?_)
              refine g_iload ((q_92 _).trans rfl) rfl ?_
              refine g_push ((q_92 _).trans rfl) ?_
              refine g_zast ((q_92 _).trans rfl) (fun G69 => ?_)
              refine g_aload ((q_92 _).trans rfl) rfl ?_
              refine g_dup_ref ((q_92 _).trans rfl) ?_
              refine g_getI ((q_92 _).trans rfl) (fun v70 => ?_)
              refine g_push ((q_92 _).trans rfl) ?_
              refine g_iadd ((q_92 _).trans rfl) ?_
              refine g_putf ((q_92 _).trans rfl) (fun G71 => ?_)
              refine g_aload ((q_92 _).trans rfl) rfl ?_
              refine g_getI ((q_92 _).trans rfl) (fun v72 => ?_)
              exact g_iret ((q_92 _).trans rfl)
      · refine g_push ((q_92 _).trans rfl) ?_
        refine g_callS (kk := 1) ((q_92 _).trans rfl) (gHn m_92) (by exact ⟨Nat.le_of_ble_eq_true rfl, Nat.le_of_ble_eq_true rfl, rfl⟩) rfl (fun w G73 => gm_V (fun hw => ?_))
        subst hw
        refine g_aload ((q_92 _).trans rfl) rfl ?_
        refine g_getI ((q_92 _).trans rfl) (fun v75 => ?_)
        refine g_push ((q_92 _).trans rfl) ?_
        refine g_cmpge ((q_92 _).trans rfl) (fun _ => ?_) (fun _ => ?_)
        · refine g_push ((q_92 _).trans rfl) ?_
          refine g_callS (kk := 1) ((q_92 _).trans rfl) (gHn m_92) (by exact ⟨Nat.le_of_ble_eq_true rfl, Nat.le_of_ble_eq_true rfl, rfl⟩) rfl (fun w G76 => gm_V (fun hw => ?_))
          subst hw
          refine g_aload ((q_92 _).trans rfl) rfl ?_
          refine g_getR ((q_92 _).trans rfl) (fun a78 => ?_)
          refine g_iload ((q_92 _).trans rfl) rfl ?_
          refine g_aald ((q_92 _).trans rfl) (fun a79 => ?_)
          refine g_iload ((q_92 _).trans rfl) rfl ?_
          refine g_push ((q_92 _).trans rfl) ?_
          refine g_zast ((q_92 _).trans rfl) (fun G80 => ?_)
          refine g_aload ((q_92 _).trans rfl) rfl ?_
          refine g_dup_ref ((q_92 _).trans rfl) ?_
          refine g_getI ((q_92 _).trans rfl) (fun v81 => ?_)
          refine g_push ((q_92 _).trans rfl) ?_
          refine g_iadd ((q_92 _).trans rfl) ?_
          refine g_putf ((q_92 _).trans rfl) (fun G82 => ?_)
          refine g_aload ((q_92 _).trans rfl) rfl ?_
          refine g_getI ((q_92 _).trans rfl) (fun v83 => ?_)
          exact g_iret ((q_92 _).trans rfl)
        · refine g_push ((q_92 _).trans rfl) ?_
          refine g_goto ((q_92 _).trans rfl) ?_
          refine g_callS (kk := 1) ((q_92 _).trans rfl) (gHn m_92) (by exact ⟨Nat.le_of_ble_eq_true rfl, Nat.le_of_ble_eq_true rfl, rfl⟩) rfl (fun w G84 => gm_V (fun hw => ?_))
          subst hw
          refine g_aload ((q_92 _).trans rfl) rfl ?_
          refine g_getR ((q_92 _).trans rfl) (fun a86 => ?_)
          refine g_iload ((q_92 _).trans rfl) rfl ?_
          refine g_aald ((q_92 _).trans rfl) (fun a87 => ?_)
          refine g_iload ((q_92 _).trans rfl) rfl ?_
          refine g_push ((q_92 _).trans rfl) ?_
          refine g_zast ((q_92 _).trans rfl) (fun G88 => ?_)
          refine g_aload ((q_92 _).trans rfl) rfl ?_
          refine g_dup_ref ((q_92 _).trans rfl) ?_
          refine g_getI ((q_92 _).trans rfl) (fun v89 => ?_)
          refine g_push ((q_92 _).trans rfl) ?_
          refine g_iadd ((q_92 _).trans rfl) ?_
          refine g_putf ((q_92 _).trans rfl) (fun G90 => ?_)
          refine g_aload ((q_92 _).trans rfl) rfl ?_
          refine g_getI ((q_92 _).trans rfl) (fun v91 => ?_)
          exact g_iret ((q_92 _).trans rfl)
    · refine g_aload ((q_92 _).trans rfl) rfl ?_
      refine g_getI ((q_92 _).trans rfl) (fun v92 => ?_)
      exact g_iret ((q_92 _).trans rfl)
  · refine g_iload ((q_92 _).trans rfl) rfl ?_
    refine g_push ((q_92 _).trans rfl) ?_
    refine g_aload ((q_92 _).trans rfl) rfl ?_
    refine g_getI ((q_92 _).trans rfl) (fun v93 => ?_)
    refine g_push ((q_92 _).trans rfl) ?_
    refine g_isub ((q_92 _).trans rfl) ?_
    refine g_callS (kk := 3) ((q_92 _).trans rfl) (gHn m_92) (by exact ⟨Nat.le_of_ble_eq_true rfl, Nat.le_of_ble_eq_true rfl, rfl⟩) rfl (fun w G94 => gm_I (fun v95 hw => ?_))
    subst hw
    refine g_ifeq ((q_92 _).trans rfl) (fun _ => ?_) (fun _ => ?_)
    · refine g_push ((q_92 _).trans rfl) ?_
      refine g_callS (kk := 1) ((q_92 _).trans rfl) (gHn m_92) (by exact ⟨Nat.le_of_ble_eq_true rfl, Nat.le_of_ble_eq_true rfl, rfl⟩) rfl (fun w G96 => gm_V (fun hw => ?_))
      subst hw
      refine g_aload ((q_92 _).trans rfl) rfl ?_
      refine g_getR ((q_92 _).trans rfl) (fun a98 => ?_)
      refine g_iload ((q_92 _).trans rfl) rfl ?_
      refine g_aald ((q_92 _).trans rfl) (fun a99 => ?_)
      refine g_iload ((q_92 _).trans rfl) rfl ?_
      refine g_iald ((q_92 _).trans rfl) (fun v100 => ?_)
      refine g_ifne ((q_92 _).trans rfl) (fun _ => ?_) (fun _ => ?_)
      · refine g_aload ((q_92 _).trans rfl) rfl ?_
        refine g_getR ((q_92 _).trans rfl) (fun a101 => ?_)
        refine g_iload ((q_92 _).trans rfl) rfl ?_
        refine g_iload ((q_92 _).trans rfl) rfl ?_
        refine g_callV (kk := 2) ((q_92 _).trans rfl) (gHn m_92) rfl (by exact ⟨Nat.le_of_ble_eq_true rfl, rfl⟩) rfl (fun w G102 => gm_I (fun v103 hw => ?_))
        subst hw
        refine g_push ((q_92 _).trans rfl) ?_
        refine g_cmpne ((q_92 _).trans rfl) (fun _ => ?_) (fun _ => ?_)
        · refine g_aload ((q_92 _).trans rfl) rfl ?_
          refine g_getI ((q_92 _).trans rfl) (fun v104 => ?_)
          refine g_ifeq ((q_92 _).trans rfl) (fun _ => ?_) (fun _ => ?_)
          · refine g_push ((q_92 _).trans rfl) ?_
            refine g_goto ((q_92 _).trans rfl) ?_
            refine g_callS (kk := 1) ((q_92 _).trans rfl) (gHn m_92) (by exact ⟨Nat.le_of_ble_eq_true rfl, Nat.le_of_ble_eq_true rfl, rfl⟩) rfl (fun w G105 => gm_V (fun hw => ?_))
            subst hw
            refine g_aload ((q_92 _).trans rfl) rfl ?_
            refine g_getI ((q_92 _).trans rfl) (fun v107 => ?_)
            refine g_push ((q_92 _).trans rfl) ?_
            refine g_cmpge ((q_92 _).trans rfl) (fun _ => ?_) (fun _ => ?_)
            · refine g_push ((q_92 _).trans rfl) ?_
              refine g_callS (kk := 1) ((q_92 _).trans rfl) (gHn m_92) (by exact ⟨Nat.le_of_ble_eq_true rfl, Nat.le_of_ble_eq_true rfl, rfl⟩) rfl (fun w G108 => gm_V (fun hw => ?_))
              subst hw
              refine g_aload ((q_92 _).trans rfl) rfl ?_
              refine g_getR ((q_92 _).trans rfl) (fun a110 => ?_)
              refine g_iload ((q_92 _).trans rfl) rfl ?_
              refine g_aald ((q_92 _).trans rfl) (fun a111 => ?_)
              refine g_iload ((q_92 _).trans rfl) rfl ?_
              refine g_push ((q_92 _).trans rfl) ?_
              refine g_zast ((q_92 _).trans rfl) (fun G112 => ?_)
              refine g_aload ((q_92 _).trans rfl) rfl ?_
              refine g_dup_ref ((q_92 _).trans rfl) ?_
              refine g_getI ((q_92 _).trans rfl) (fun v113 => ?_)
              refine g_push ((q_92 _).trans rfl) ?_
              refine g_iadd ((q_92 _).trans rfl) ?_
              refine g_putf ((q_92 _).trans rfl) (fun G114 => ?_)
              refine g_aload ((q_92 _).trans rfl) rfl ?_
              refine g_getI ((q_92 _).trans rfl) (fun v115 => ?_)
              exact g_iret ((q_92 _).trans rfl)
            · refine g_push ((q_92 _).trans rfl) ?_
              refine g_goto ((q_92 _).trans rfl) ?_
              refine g_callS (kk := 1) ((q_92 _).trans rfl) (gHn m_92) (by exact ⟨Nat.le_of_ble_eq_true rfl, Nat.le_of_ble_eq_true rfl, rfl⟩) rfl (fun w G116 => gm_V (fun hw => ?_))
              subst hw
              refine g_aload ((q_92 _).trans rfl) rfl ?_
              refine g_getR ((q_92 _).trans rfl) (fun a118 => ?_)
              refine g_iload ((q_92 _).trans rfl) rfl ?_
              refine g_aald ((q_92 _).trans rfl) (fun a119 => ?_)
              refine g_iload ((q_92 _).trans rfl) rfl ?_
              refine g_push ((q_92 _).trans rfl) ?_
              refine g_zast ((q_92 _).trans rfl) (fun G120 => ?_)
              refine g_aload ((q_92 _).trans rfl) rfl ?_
              refine g_dup_ref ((q_92 _).trans rfl) ?_
              refine g_getI ((q_92 _).trans rfl) (fun v121 => ?_)
              refine g_push ((q_92 _).trans rfl) ?_
              refine g_iadd ((q_92 _).trans rfl) ?_
              refine g_putf ((q_92 _).trans rfl) (fun G122 => ?_)
              refine g_aload ((q_92 _).trans rfl) rfl ?_
              refine g_getI ((q_92 _).trans rfl) (fun v123 => ?_)
              exact g_iret ((q_92 _).trans rfl)
          · refine g_aload ((q_92 _).trans rfl) rfl ?_
            refine g_getR ((q_92 _).trans rfl) (fun a124 => ?_)
            refine g_iload ((q_92 _).trans rfl) rfl ?_
            refine g_aload ((q_92 _).trans rfl) rfl ?_
            refine g_getI ((q_92 _).trans rfl) (fun v125 => ?_)
            refine g_push ((q_92 _).trans rfl) ?_
            refine g_isub ((q_92 _).trans rfl) ?_
            refine g_iload ((q_92 _).trans rfl) rfl ?_
            refine g_isub ((q_92 _).trans rfl) ?_
            refine g_callV (kk := 2) ((q_92 _).trans rfl) (gHn m_92) rfl (by exact ⟨Nat.le_of_ble_eq_true rfl, rfl⟩) rfl (fun w G126 => gm_I (fun v127 hw => ?_))
            subst hw
            refine g_push ((q_92 _).trans rfl) ?_
            refine g_cmpne ((q_92 _).trans rfl) (fun _ => ?_) (fun _ => ?_)
            · refine g_push ((q_92 _).trans rfl) ?_
              refine g_goto ((q_92 _).trans rfl) ?_
              refine g_callS (kk := 1) ((q_92 _).trans rfl) (gHn m_92) (by exact ⟨Nat.le_of_ble_eq_true rfl, Nat.le_of_ble_eq_true rfl, rfl⟩) rfl (fun w G128 => gm_V (fun hw => ?_))
              subst hw
              refine g_aload ((q_92 _).trans rfl) rfl ?_
              refine g_getI ((q_92 _).trans rfl) (fun v130 => ?_)
              refine g_push ((q_92 _).trans rfl) ?_
              refine g_cmpge ((q_92 _).trans rfl) (fun _ => ?_) (fun _ => ?_)
              · refine g_push ((q_92 _).trans rfl) ?_
                refine g_callS (kk := 1) ((q_92 _).trans rfl) (gHn m_92) (by exact ⟨Nat.le_of_ble_eq_true rfl, Nat.le_of_ble_eq_true rfl, rfl⟩) rfl (fun w G131 => gm_V (fun hw => ?_))
                subst hw
                refine g_aload ((q_92 _).trans rfl) rfl ?_
                refine g_getR ((q_92 _).trans rfl) (fun a133 => ?_)
                refine g_iload ((q_92 _).trans rfl) rfl ?_
                refine g_aald ((q_92 _).trans rfl) (fun a134 => ?_)
                refine g_iload ((q_92 _).trans rfl) rfl ?_
                refine g_push ((q_92 _).trans rfl) ?_
                refine g_zast ((q_92 _).trans rfl) (fun G135 => ?_)
                refine g_aload ((q_92 _).trans rfl) rfl ?_
                refine g_dup_ref ((q_92 _).trans rfl) ?_
                refine g_getI ((q_92 _).trans rfl) (fun v136 => ?_)
                refine g_push ((q_92 _).trans rfl) ?_
                refine g_iadd ((q_92 _).trans rfl) ?_
                refine g_putf ((q_92 _).trans rfl) (fun G137 => ?_)
                refine g_aload ((q_92 _).trans rfl) rfl ?_
                refine g_getI ((q_92 _).trans rfl) (fun v138 => ?_)
                exact g_iret ((q_92 _).trans rfl)
              · refine g_push ((q_92 _).trans rfl) ?_
                refine g_goto ((q_92 _).trans rfl) ?_
                refine g_callS (kk := 1) ((q_92 _).trans rfl) (gHn m_92) (by exact ⟨Nat.le_of_ble_eq_true rfl, Nat.le_of_ble_eq_true rfl, rfl⟩) rfl (fun w G139 => gm_V (fun hw => ?_))
                subst hw
                refine g_aload ((q_92 _).trans rfl) rfl ?_
                refine g_getR ((q_92 _).trans rfl) (fun a141 => ?_)
                refine g_iload ((q_92 _).trans rfl) rfl ?_
                refine g_aald ((q_92 _).trans rfl) (fun a142 => ?_)
                refine g_iload ((q_92 _).trans rfl) rfl ?_
                refine g_push ((q_92 _).trans rfl) ?_
                refine g_zast ((q_92 _).trans rfl) (fun G143 => ?_)
                refine g_aload ((q_92 _).trans rfl) rfl ?_
                refine g_dup_ref ((q_92 _).trans rfl) ?_
                refine g_getI ((q_92 _).trans rfl) (fun v144 => ?_)
                refine g_push ((q_92 _).trans rfl) ?_
                refine g_iadd ((q_92 _).trans rfl) ?_
                refine g_putf ((q_92 _).trans rfl) (fun G145 => ?_)
                refine g_aload ((q_92 _).trans rfl) rfl ?_
                refine g_getI ((q_92 _).trans rfl) (fun v146 => ?_)
                exact g_iret ((q_92 _).trans rfl)
            · refine g_push ((q_92 _).trans rfl) ?_
              refine g_callS (kk := 1) ((q_92 _).trans rfl) (gHn m_92) (by exact ⟨Nat.le_of_ble_eq_true rfl, Nat.le_of_ble_eq_true rfl, rfl⟩) rfl (fun w G147 => gm_V (fun hw => ?_))
              subst hw
              refine g_aload ((q_92 _).trans rfl) rfl ?_
              refine g_getI ((q_92 _).trans rfl) (fun v149 => ?_)
              refine g_push ((q_92 _).trans rfl) ?_
              refine g_cmpge ((q_92 _).trans rfl) (fun _ => ?_) (fun _ => ?_)
              · refine g_push ((q_92 _).trans rfl) ?_
                refine g_callS (kk := 1) ((q_92 _).trans rfl) (gHn m_92) (by exact ⟨Nat.le_of_ble_eq_true rfl, Nat.le_of_ble_eq_true rfl, rfl⟩) rfl (fun w G150 => gm_V (fun hw => ?_))
                subst hw
                refine g_aload ((q_92 _).trans rfl) rfl ?_
                refine g_getR ((q_92 _).trans rfl) (fun a152 => ?_)
                refine g_iload ((q_92 _).trans rfl) rfl ?_
                refine g_aald ((q_92 _).trans rfl) (fun a153 => ?_)
                refine g_iload ((q_92 _).trans rfl) rfl ?_
                refine g_push ((q_92 _).trans rfl) ?_
                refine g_zast ((q_92 _).trans rfl) (fun G154 => ?_)
                refine g_aload ((q_92 _).trans rfl) rfl ?_
                refine g_dup_ref ((q_92 _).trans rfl) ?_
                refine g_getI ((q_92 _).trans rfl) (fun v155 => ?_)
                refine g_push ((q_92 _).trans rfl) ?_
                refine g_iadd ((q_92 _).trans rfl) ?_
                refine g_putf ((q_92 _).trans rfl) (fun G156 => ?_)
                refine g_aload ((q_92 _).trans rfl) rfl ?_
                refine g_getI ((q_92 _).trans rfl) (fun v157 => ?_)
                exact g_iret ((q_92 _).trans rfl)
              · refine g_push ((q_92 _).trans rfl) ?_
                refine g_goto ((q_92 _).trans rfl) ?_
                refine g_callS (kk := 1) ((q_92 _).trans rfl) (gHn m_92) (by exact ⟨Nat.le_of_ble_eq_true rfl, Nat.le_of_ble_eq_true rfl, rfl⟩) rfl (fun w G158 => gm_V (fun hw => ?_))
                subst hw
                refine g_aload ((q_92 _).trans rfl) rfl ?_
                refine g_getR ((q_92 _).trans rfl) (fun a160 => ?_)
                refine g_iload ((q_92 _).trans rfl) rfl ?_
                refine g_aald ((q_92 _).trans rfl) (fun a161 => ?_)
                refine g_iload ((q_92 _).trans rfl) rfl ?_
                refine g_push ((q_92 _).trans rfl) ?_
                refine g_zast ((q_92 _).trans rfl) (fun G162 => ?_)
                refine g_aload ((q_92 _).trans rfl) rfl ?_
                refine g_dup_ref ((q_92 _).trans rfl) ?_
                refine g_getI ((q_92 _).trans rfl) (fun v163 => ?_)
                refine g_push ((q_92 _).trans rfl) ?_
                refine g_iadd ((q_92 _).trans rfl) ?_
                refine g_putf ((q_92 _).trans rfl) (fun G164 => ?_)
                refine g_aload ((q_92 _).trans rfl) rfl ?_
                refine g_getI ((q_92 _).trans rfl) (fun v165 => ?_)
                exact g_iret ((q_92 _).trans rfl)
        · refine g_push ((q_92 _).trans rfl) ?_
          refine g_callS (kk := 1) ((q_92 _).trans rfl) (gHn m_92) (by exact ⟨Nat.le_of_ble_eq_true rfl, Nat.le_of_ble_eq_true rfl, rfl⟩) rfl (fun w G166 => gm_V (fun hw => ?_))
          subst hw
          refine g_aload ((q_92 _).trans rfl) rfl ?_
          refine g_getI ((q_92 _).trans rfl) (fun v168 => ?_)
          refine g_push ((q_92 _).trans rfl) ?_
          refine g_cmpge ((q_92 _).trans rfl) (fun _ => ?_) (fun _ => ?_)
          · refine g_push ((q_92 _).trans rfl) ?_
            refine g_callS (kk := 1) ((q_92 _).trans rfl) (gHn m_92) (by exact ⟨Nat.le_of_ble_eq_true rfl, Nat.le_of_ble_eq_true rfl, rfl⟩) rfl (fun w G169 => gm_V (fun hw => ?_))
            subst hw
            refine g_aload ((q_92 _).trans rfl) rfl ?_
            refine g_getR ((q_92 _).trans rfl) (fun a171 => ?_)
            refine g_iload ((q_92 _).trans rfl) rfl ?_
            refine g_aald ((q_92 _).trans rfl) (fun a172 => ?_)
            refine g_iload ((q_92 _).trans rfl) rfl ?_
            refine g_push ((q_92 _).trans rfl) ?_
            refine g_zast ((q_92 _).trans rfl) (fun G173 => ?_)
            refine g_aload ((q_92 _).trans rfl) rfl ?_
            refine g_dup_ref ((q_92 _).trans rfl) ?_
            refine g_getI ((q_92 _).trans rfl) (fun v174 => ?_)
            refine g_push ((q_92 _).trans rfl) ?_
            refine g_iadd ((q_92 _).trans rfl) ?_
            refine g_putf ((q_92 _).trans rfl) (fun G175 => ?_)
            refine g_aload ((q_92 _).trans rfl) rfl ?_
            refine g_getI ((q_92 _).trans rfl) (fun v176 => ?_)
            exact g_iret ((q_92 _).trans rfl)
          · refine g_push ((q_92 _).trans rfl) ?_
            refine g_goto ((q_92 _).trans rfl) ?_
            refine g_callS (kk := 1) ((q_92 _).trans rfl) (gHn m_92) (by exact ⟨Nat.le_of_ble_eq_true rfl, Nat.le_of_ble_eq_true rfl, rfl⟩) rfl (fun w G177 => gm_V (fun hw => ?_))
            subst hw
            refine g_aload ((q_92 _).trans rfl) rfl ?_
            refine g_getR ((q_92 _).trans rfl) (fun a179 => ?_)
            refine g_iload ((q_92 _).trans rfl) rfl ?_
            refine g_aald ((q_92 _).trans rfl) (fun a180 => ?_)
            refine g_iload ((q_92 _).trans rfl) rfl ?_
            refine g_push ((q_92 _).trans rfl) ?_
            refine g_zast ((q_92 _).trans rfl) (fun G181 => ?_)
            refine g_aload ((q_92 _).trans rfl) rfl ?_
            refine g_dup_ref ((q_92 _).trans rfl) ?_
            refine g_getI ((q_92 _).trans rfl) (fun v182 => ?_)
            refine g_push ((q_92 _).trans rfl) ?_
            refine g_iadd ((q_92 _).trans rfl) ?_
            refine g_putf ((q_92 _).trans rfl) (fun G183 => ?_)
            refine g_aload ((q_92 _).trans rfl) rfl ?_
            refine g_getI ((q_92 _).trans rfl) (fun v184 => ?_)
            exact g_iret ((q_92 _).trans rfl)
      · refine g_aload ((q_92 _).trans rfl) rfl ?_
        refine g_getI ((q_92 _).trans rfl) (fun v185 => ?_)
        exact g_iret ((q_92 _).trans rfl)
    · refine g_push ((q_92 _).trans rfl) ?_
      refine g_goto ((q_92 _).trans rfl) ?_
      refine g_callS (kk := 1) ((q_92 _).trans rfl) (gHn m_92) (by exact ⟨Nat.le_of_ble_eq_true rfl, Nat.le_of_ble_eq_true rfl, rfl⟩) rfl (fun w G186 => gm_V (fun hw => ?_))
      subst hw
      refine g_aload ((q_92 _).trans rfl) rfl ?_
      refine g_getR ((q_92 _).trans rfl) (fun a188 => ?_)
      refine g_iload ((q_92 _).trans rfl) rfl ?_
      refine g_aald ((q_92 _).trans rfl) (fun a189 => ?_)
      refine g_iload ((q_92 _).trans rfl) rfl ?_
      refine g_iald ((q_92 _).trans rfl) (fun v190 => ?_)
      refine g_ifne ((q_92 _).trans rfl) (fun _ => ?_) (fun _ => ?_)
      · refine g_aload ((q_92 _).trans rfl) rfl ?_
        refine g_getR ((q_92 _).trans rfl) (fun a191 => ?_)
        refine g_iload ((q_92 _).trans rfl) rfl ?_
        refine g_iload ((q_92 _).trans rfl) rfl ?_
        refine g_callV (kk := 2) ((q_92 _).trans rfl) (gHn m_92) rfl (by exact ⟨Nat.le_of_ble_eq_true rfl, rfl⟩) rfl (fun w G192 => gm_I (fun v193 hw => ?_))
        subst hw
        refine g_push ((q_92 _).trans rfl) ?_
        refine g_cmpne ((q_92 _).trans rfl) (fun _ => ?_) (fun _ => ?_)
        · refine g_aload ((q_92 _).trans rfl) rfl ?_
          refine g_getI ((q_92 _).trans rfl) (fun v194 => ?_)
          refine g_ifeq ((q_92 _).trans rfl) (fun _ => ?_) (fun _ => ?_)
          · refine g_push ((q_92 _).trans rfl) ?_
            refine g_goto ((q_92 _).trans rfl) ?_
            refine g_callS (kk := 1) ((q_92 _).trans rfl) (gHn m_92) (by exact ⟨Nat.le_of_ble_eq_true rfl, Nat.le_of_ble_eq_true rfl, rfl⟩) rfl (fun w G195 => gm_V (fun hw => ?_))
            subst hw
            refine g_aload ((q_92 _).trans rfl) rfl ?_
            refine g_getI ((q_92 _).trans rfl) (fun v197 => ?_)
            refine g_push ((q_92 _).trans rfl) ?_
            refine g_cmpge ((q_92 _).trans rfl) (fun _ => ?_) (fun _ => ?_)
            · refine g_push ((q_92 _).trans rfl) ?_
              refine g_callS (kk := 1) ((q_92 _).trans rfl) (gHn m_92) (by exact ⟨Nat.le_of_ble_eq_true rfl, Nat.le_of_ble_eq_true rfl, rfl⟩) rfl (fun w G198 => gm_V (fun hw => ?_))
              subst hw
              refine g_aload ((q_92 _).trans rfl) rfl ?_
              refine g_getR ((q_92 _).trans rfl) (fun a200 => ?_)
              refine g_iload ((q_92 _).trans rfl) rfl ?_
              refine g_aald ((q_92 _).trans rfl) (fun a201 => ?_)
              refine g_iload ((q_92 _).trans rfl) rfl ?_
              refine g_push ((q_92 _).trans rfl) ?_
              refine g_zast ((q_92 _).trans rfl) (fun G202 => ?_)
              refine g_aload ((q_92 _).trans rfl) rfl ?_
              refine g_dup_ref ((q_92 _).trans rfl) ?_
              refine g_getI ((q_92 _).trans rfl) (fun v203 => ?_)
              refine g_push ((q_92 _).trans rfl) ?_
              refine g_iadd ((q_92 _).trans rfl) ?_
              refine g_putf ((q_92 _).trans rfl) (fun G204 => ?_)
              refine g_aload ((q_92 _).trans rfl) rfl ?_
              refine g_getI ((q_92 _).trans rfl) (fun v205 => ?_)
              exact g_iret ((q_92 _).trans rfl)
            · refine g_push ((q_92 _).trans rfl) ?_
              refine g_goto ((q_92 _).trans rfl) ?_
              refine g_callS (kk := 1) ((q_92 _).trans rfl) (gHn m_92) (by exact ⟨Nat.le_of_ble_eq_true rfl, Nat.le_of_ble_eq_true rfl, rfl⟩) rfl (fun w G206 => gm_V (fun hw => ?_))
              subst hw
              refine g_aload ((q_92 _).trans rfl) rfl ?_
              refine g_getR ((q_92 _).trans rfl) (fun a208 => ?_)
              refine g_iload ((q_92 _).trans rfl) rfl ?_
              refine g_aald ((q_92 _).trans rfl) (fun a209 => ?_)
              refine g_iload ((q_92 _).trans rfl) rfl ?_
              refine g_push ((q_92 _).trans rfl) ?_
              refine g_zast ((q_92 _).trans rfl) (fun G210 => ?_)
              refine g_aload ((q_92 _).trans rfl) rfl ?_
              refine g_dup_ref ((q_92 _).trans rfl) ?_
              refine g_getI ((q_92 _).trans rfl) (fun v211 => ?_)
              refine g_push ((q_92 _).trans rfl) ?_
              refine g_iadd ((q_92 _).trans rfl) ?_
              refine g_putf ((q_92 _).trans rfl) (fun G212 => ?_)
              refine g_aload ((q_92 _).trans rfl) rfl ?_
              refine g_getI ((q_92 _).trans rfl) (fun v213 => ?_)
              exact g_iret ((q_92 _).trans rfl)
          · refine g_aload ((q_92 _).trans rfl) rfl ?_
            refine g_getR ((q_92 _).trans rfl) (fun a214 => ?_)
            refine g_iload ((q_92 _).trans rfl) rfl ?_
            refine g_aload ((q_92 _).trans rfl) rfl ?_
            refine g_getI ((q_92 _).trans rfl) (fun v215 => ?_)
            refine g_push ((q_92 _).trans rfl) ?_
            refine g_isub ((q_92 _).trans rfl) ?_
            refine g_iload ((q_92 _).trans rfl) rfl ?_
            refine g_isub ((q_92 _).trans rfl) ?_
            refine g_callV (kk := 2) ((q_92 _).trans rfl) (gHn m_92) rfl (by exact ⟨Nat.le_of_ble_eq_true rfl, rfl⟩) rfl (fun w G216 => gm_I (fun v217 hw => ?_))
            subst hw
            refine g_push ((q_92 _).trans rfl) ?_
            refine g_cmpne ((q_92 _).trans rfl) (fun _ => ?_) (fun _ => ?_)
            · refine g_push ((q_92 _).trans rfl) ?_
              refine g_goto ((q_92 _).trans rfl) ?_
              refine g_callS (kk := 1) ((q_92 _).trans rfl) (gHn m_92) (by exact ⟨Nat.le_of_ble_eq_true rfl, Nat.le_of_ble_eq_true rfl, rfl⟩) rfl (fun w G218 => gm_V (fun hw => ?_))
              subst hw
              refine g_aload ((q_92 _).trans rfl) rfl ?_
              refine g_getI ((q_92 _).trans rfl) (fun v220 => ?_)
              refine g_push ((q_92 _).trans rfl) ?_
              refine g_cmpge ((q_92 _).trans rfl) (fun _ => ?_) (fun _ => ?_)
              · refine g_push ((q_92 _).trans rfl) ?_
                refine g_callS (kk := 1) ((q_92 _).trans rfl) (gHn m_92) (by exact ⟨Nat.le_of_ble_eq_true rfl, Nat.le_of_ble_eq_true rfl, rfl⟩) rfl (fun w G221 => gm_V (fun hw => ?_))
                subst hw
                refine g_aload ((q_92 _).trans rfl) rfl ?_
                refine g_getR ((q_92 _).trans rfl) (fun a223 => ?_)
                refine g_iload ((q_92 _).trans rfl) rfl ?_
                refine g_aald ((q_92 _).trans rfl) (fun a224 => ?_)
                refine g_iload ((q_92 _).trans rfl) rfl ?_
                refine g_push ((q_92 _).trans rfl) ?_
                refine g_zast ((q_92 _).trans rfl) (fun G225 => ?_)
                refine g_aload ((q_92 _).trans rfl) rfl ?_
                refine g_dup_ref ((q_92 _).trans rfl) ?_
                refine g_getI ((q_92 _).trans rfl) (fun v226 => ?_)
                refine g_push ((q_92 _).trans rfl) ?_
                refine g_iadd ((q_92 _).trans rfl) ?_
                refine g_putf ((q_92 _).trans rfl) (fun G227 => ?_)
                refine g_aload ((q_92 _).trans rfl) rfl ?_
                refine g_getI ((q_92 _).trans rfl) (fun v228 => ?_)
                exact g_iret ((q_92 _).trans rfl)
              · refine g_push ((q_92 _).trans rfl) ?_
                refine g_goto ((q_92 _).trans rfl) ?_
                refine g_callS (kk := 1) ((q_92 _).trans rfl) (gHn m_92) (by exact ⟨Nat.le_of_ble_eq_true rfl, Nat.le_of_ble_eq_true rfl, rfl⟩) rfl (fun w G229 => gm_V (fun hw => ?_))
                subst hw
                refine g_aload ((q_92 _).trans rfl) rfl ?_
                refine g_getR ((q_92 _).trans rfl) (fun a231 => ?_)
                refine g_iload ((q_92 _).trans rfl) rfl ?_
                refine g_aald ((q_92 _).trans rfl) (fun a232 => ?_)
                refine g_iload ((q_92 _).trans rfl) rfl ?_
                refine g_push ((q_92 _).trans rfl) ?_
                refine g_zast ((q_92 _).trans rfl) (fun G233 => ?_)
                refine g_aload ((q_92 _).trans rfl) rfl ?_
                refine g_dup_ref ((q_92 _).trans rfl) ?_
                refine g_getI ((q_92 _).trans rfl) (fun v234 => ?_)
                refine g_push ((q_92 _).trans rfl) ?_
                refine g_iadd ((q_92 _).trans rfl) ?_
                refine g_putf ((q_92 _).trans rfl) (fun G235 => ?_)
                refine g_aload ((q_92 _).trans rfl) rfl ?_
                refine g_getI ((q_92 _).trans rfl) (fun v236 => ?_)
                exact g_iret ((q_92 _).trans rfl)
            · refine g_push ((q_92 _).trans rfl) ?_
              refine g_callS (kk := 1) ((q_92 _).trans rfl) (gHn m_92) (by exact ⟨Nat.le_of_ble_eq_true rfl, Nat.le_of_ble_eq_true rfl, rfl⟩) rfl (fun w G237 => gm_V (fun hw => ?_))
              subst hw
              refine g_aload ((q_92 _).trans rfl) rfl ?_
              refine g_getI ((q_92 _).trans rfl) (fun v239 => ?_)
              refine g_push ((q_92 _).trans rfl) ?_
              refine g_cmpge ((q_92 _).trans rfl) (fun _ => ?_) (fun _ => ?_)
              · refine g_push ((q_92 _).trans rfl) ?_
                refine g_callS (kk := 1) ((q_92 _).trans rfl) (gHn m_92) (by exact ⟨Nat.le_of_ble_eq_true rfl, Nat.le_of_ble_eq_true rfl, rfl⟩) rfl (fun w G240 => gm_V (fun hw => ?_))
                subst hw
                refine g_aload ((q_92 _).trans rfl) rfl ?_
                refine g_getR ((q_92 _).trans rfl) (fun a242 => ?_)
                refine g_iload ((q_92 _).trans rfl) rfl ?_
                refine g_aald ((q_92 _).trans rfl) (fun a243 => ?_)
                refine g_iload ((q_92 _).trans rfl) rfl ?_
                refine g_push ((q_92 _).trans rfl) ?_
                refine g_zast ((q_92 _).trans rfl) (fun G244 => ?_)
                refine g_aload ((q_92 _).trans rfl) rfl ?_
                refine g_dup_ref ((q_92 _).trans rfl) ?_
                refine g_getI ((q_92 _).trans rfl) (fun v245 => ?_)
                refine g_push ((q_92 _).trans rfl) ?_
                refine g_iadd ((q_92 _).trans rfl) ?_
                refine g_putf ((q_92 _).trans rfl) (fun G246 => ?_)
                refine g_aload ((q_92 _).trans rfl) rfl ?_
                refine g_getI ((q_92 _).trans rfl) (fun v247 => ?_)
                exact g_iret ((q_92 _).trans rfl)
              · refine g_push ((q_92 _).trans rfl) ?_
                refine g_goto ((q_92 _).trans rfl) ?_
                refine g_callS (kk := 1) ((q_92 _).trans rfl) (gHn m_92) (by exact ⟨Nat.le_of_ble_eq_true rfl, Nat.le_of_ble_eq_true rfl, rfl⟩) rfl (fun w G248 => gm_V (fun hw => ?_))
                subst hw
                refine g_aload ((q_92 _).trans rfl) rfl ?_
                refine g_getR ((q_92 _).trans rfl) (fun a250 => ?_)
                refine g_iload ((q_92 _).trans rfl) rfl ?_
                refine g_aald ((q_92 _).trans rfl) (fun a251 => ?_)
                refine g_iload ((q_92 _).trans rfl) rfl ?_
                refine g_push ((q_92 _).trans rfl) ?_
                refine g_zast ((q_92 _).trans rfl) (fun G252 => ?_)
                refine g_aload ((q_92 _).trans rfl) rfl ?_
                refine g_dup_ref ((q_92 _).trans rfl) ?_
                refine g_getI ((q_92 _).trans rfl) (fun v253 => ?_)
                refine g_push ((q_92 _).trans rfl) ?_
                refine g_iadd ((q_92 _).trans rfl) ?_
                refine g_putf ((q_92 _).trans rfl) (fun G254 => ?_)
                refine g_aload ((q_92 _).trans rfl) rfl ?_
                refine g_getI ((q_92 _).trans rfl) (fun v255 => ?_)
                exact g_iret ((q_92 _).trans rfl)
        · refine g_push ((q_92 _).trans rfl) ?_
          refine g_callS (kk := 1) ((q_92 _).trans rfl) (gHn m_92) (by exact ⟨Nat.le_of_ble_eq_true rfl, Nat.le_of_ble_eq_true rfl, rfl⟩) rfl (fun w G256 => gm_V (fun hw => ?_))
          subst hw
          refine g_aload ((q_92 _).trans rfl) rfl ?_
          refine g_getI ((q_92 _).trans rfl) (fun v258 => ?_)
          refine g_push ((q_92 _).trans rfl) ?_
          refine g_cmpge ((q_92 _).trans rfl) (fun _ => ?_) (fun _ => ?_)
          · refine g_push ((q_92 _).trans rfl) ?_
            refine g_callS (kk := 1) ((q_92 _).trans rfl) (gHn m_92) (by exact ⟨Nat.le_of_ble_eq_true rfl, Nat.le_of_ble_eq_true rfl, rfl⟩) rfl (fun w G259 => gm_V (fun hw => ?_))
            subst hw
            refine g_aload ((q_92 _).trans rfl) rfl ?_
            refine g_getR ((q_92 _).trans rfl) (fun a261 => ?_)
            refine g_iload ((q_92 _).trans rfl) rfl ?_
            refine g_aald ((q_92 _).trans rfl) (fun a262 => ?_)
            refine g_iload ((q_92 _).trans rfl) rfl ?_
            refine g_push ((q_92 _).trans rfl) ?_
            refine g_zast ((q_92 _).trans rfl) (fun G263 => ?_)
            refine g_aload ((q_92 _).trans rfl) rfl ?_
            refine g_dup_ref ((q_92 _).trans rfl) ?_
            refine g_getI ((q_92 _).trans rfl) (fun v264 => ?_)
            refine g_push ((q_92 _).trans rfl) ?_
            refine g_iadd ((q_92 _).trans rfl) ?_
            refine g_putf ((q_92 _).trans rfl) (fun G265 => ?_)
            refine g_aload ((q_92 _).trans rfl) rfl ?_
            refine g_getI ((q_92 _).trans rfl) (fun v266 => ?_)
            exact g_iret ((q_92 _).trans rfl)
          · refine g_push ((q_92 _).trans rfl) ?_
            refine g_goto ((q_92 _).trans rfl) ?_
            refine g_callS (kk := 1) ((q_92 _).trans rfl) (gHn m_92) (by exact ⟨Nat.le_of_ble_eq_true rfl, Nat.le_of_ble_eq_true rfl, rfl⟩) rfl (fun w G267 => gm_V (fun hw => ?_))
            subst hw
            refine g_aload ((q_92 _).trans rfl) rfl ?_
            refine g_getR ((q_92 _).trans rfl) (fun a269 => ?_)
            refine g_iload ((q_92 _).trans rfl) rfl ?_
            refine g_aald ((q_92 _).trans rfl) (fun a270 => ?_)
            refine g_iload ((q_92 _).trans rfl) rfl ?_
            refine g_push ((q_92 _).trans rfl) ?_
            refine g_zast ((q_92 _).trans rfl) (fun G271 => ?_)
            refine g_aload ((q_92 _).trans rfl) rfl ?_
            refine g_dup_ref ((q_92 _).trans rfl) ?_
            refine g_getI ((q_92 _).trans rfl) (fun v272 => ?_)
            refine g_push ((q_92 _).trans rfl) ?_
            refine g_iadd ((q_92 _).trans rfl) ?_
            refine g_putf ((q_92 _).trans rfl) (fun G273 => ?_)
            refine g_aload ((q_92 _).trans rfl) rfl ?_
            refine g_getI ((q_92 _).trans rfl) (fun v274 => ?_)
            exact g_iret ((q_92 _).trans rfl)
      · refine g_aload ((q_92 _).trans rfl) rfl ?_
        refine g_getI ((q_92 _).trans rfl) (fun v275 => ?_)
        exact g_iret ((q_92 _).trans rfl)
theorem c_92 {K : gK} {d : Nat} {l0 : Nat} {l1 : Int32} {l2 : Int32} {G : gH} : gle (t_92_0 K d l0 l1 l2 G) (gCa K (d + 1) 92 [.ref l0, .int l1, .int l2] G) := by
  have h : gent (gMx 92) [.ref l0, .int l1, .int l2] = [some (.ref l0), some (.int l1), some (.int l2)] := by
    show gent (gT 92).2.2.2.1 _ = _
    rw [m_92]; rfl
  exact fun r e => (congrArg (fun q => gRn K d 92 0 q [] G) h).trans (e_92_0 r e)
theorem q_93 {K : gK} (pc : Nat) : gP K 93 pc = ((gL_93 K).lookup pc).getD o_none := rfl
noncomputable def t_93_0_1 (K : gK) (d : Nat) (G : gH) (v6 : Int32) : Option gO := if v6 = ((-1) : Int32) then (if narrow .boolean (.int (0 : Int32)) = .int (0 : Int32) then some (.inl (some (.int (0 : Int32))), G) else none) else (if narrow .boolean (.int (1 : Int32)) = .int (1 : Int32) then some (.inl (some (.int (1 : Int32))), G) else none)
noncomputable def t_93_0_2 (K : gK) (d : Nat) (G : gH) (a4 : Nat) (l1 : Int32) (l2 : Int32) (v5 : Int32) : Option gO := xI G a4 0 (((((12 : Int32) * l1) + v5) - (1 : Int32)) - l2) (t_93_0_1 K d G)
noncomputable def t_93_0_3 (K : gK) (d : Nat) (G : gH) (l0 : Nat) (l1 : Int32) (l2 : Int32) (a4 : Nat) : Option gO := rI G l0 3 1 (t_93_0_2 K d G a4 l1 l2)
noncomputable def t_93_0_4 (K : gK) (d : Nat) (G : gH) (l0 : Nat) (l1 : Int32) (l2 : Int32) (v3 : Int32) : Option gO := if v3 = 0 then (if narrow .boolean (.int (0 : Int32)) = .int (0 : Int32) then some (.inl (some (.int (0 : Int32))), G) else none) else (rR G l0 3 25 (t_93_0_3 K d G l0 l1 l2))
noncomputable def t_93_0_5 (K : gK) (d : Nat) (G : gH) (v10 : Int32) : Option gO := if v10 = ((-1) : Int32) then (if narrow .boolean (.int (0 : Int32)) = .int (0 : Int32) then some (.inl (some (.int (0 : Int32))), G) else none) else (if narrow .boolean (.int (1 : Int32)) = .int (1 : Int32) then some (.inl (some (.int (1 : Int32))), G) else none)
noncomputable def t_93_0_6 (K : gK) (d : Nat) (G : gH) (a8 : Nat) (l1 : Int32) (l2 : Int32) (v9 : Int32) : Option gO := xI G a8 0 (((((12 : Int32) * l1) + v9) - (1 : Int32)) - l2) (t_93_0_5 K d G)
noncomputable def t_93_0_7 (K : gK) (d : Nat) (G : gH) (l0 : Nat) (l1 : Int32) (l2 : Int32) (a8 : Nat) : Option gO := rI G l0 3 1 (t_93_0_6 K d G a8 l1 l2)
noncomputable def t_93_0_8 (K : gK) (d : Nat) (G : gH) (l0 : Nat) (l1 : Int32) (l2 : Int32) (v7 : Int32) : Option gO := if v7 = 0 then (if narrow .boolean (.int (0 : Int32)) = .int (0 : Int32) then some (.inl (some (.int (0 : Int32))), G) else none) else (rR G l0 3 25 (t_93_0_7 K d G l0 l1 l2))
noncomputable def t_93_0_9 (K : gK) (d : Nat) (G : gH) (l0 : Nat) (l1 : Int32) (l2 : Int32) (v2 : Int32) : Option gO := if v2 = ((-1) : Int32) then (if (0 : Int32) = 0 then (rI G l0 3 3 (t_93_0_4 K d G l0 l1 l2)) else (if narrow .boolean (.int (1 : Int32)) = .int (1 : Int32) then some (.inl (some (.int (1 : Int32))), G) else none)) else (if (1 : Int32) = 0 then (rI G l0 3 3 (t_93_0_8 K d G l0 l1 l2)) else (if narrow .boolean (.int (1 : Int32)) = .int (1 : Int32) then some (.inl (some (.int (1 : Int32))), G) else none))
noncomputable def t_93_0_10 (K : gK) (d : Nat) (G : gH) (l1 : Int32) (l2 : Int32) (l0 : Nat) (a1 : Nat) : Option gO := xI G a1 0 (((12 : Int32) * l1) + l2) (t_93_0_9 K d G l0 l1 l2)
noncomputable def t_93_0 (K : gK) (d : Nat) (l0 : Nat) (l1 : Int32) (l2 : Int32) (G : gH) : Option gO := rR G l0 3 25 (t_93_0_10 K d G l1 l2 l0)
theorem e_93_0 {K : gK} {d : Nat} {l0 : Nat} {l1 : Int32} {l2 : Int32} {G : gH} : gle (t_93_0 K d l0 l1 l2 G) (gRn K d 93 0 [some (.ref l0), some (.int l1), some (.int l2), none] [] G) := by
  unfold t_93_0
  refine g_aload ((q_93 _).trans rfl) rfl ?_
  refine g_getR ((q_93 _).trans rfl) (fun a1 => ?_)
  refine g_push ((q_93 _).trans rfl) ?_
  refine g_iload ((q_93 _).trans rfl) rfl ?_
  refine g_imul ((q_93 _).trans rfl) ?_
  refine g_iload ((q_93 _).trans rfl) rfl ?_
  refine g_iadd ((q_93 _).trans rfl) ?_
  refine g_iald ((q_93 _).trans rfl) (fun v2 => ?_)
  refine g_push ((q_93 _).trans rfl) ?_
  refine g_cmpeq ((q_93 _).trans rfl) (fun _ => ?_) (fun _ => ?_)
  · refine g_push ((q_93 _).trans rfl) ?_
    refine g_istore ((q_93 _).trans rfl) ?_
    refine g_iload ((q_93 _).trans rfl) rfl ?_
    refine g_ifne ((q_93 _).trans rfl) (fun _ => ?_) (fun _ => ?_)
    · refine g_aload ((q_93 _).trans rfl) rfl ?_
      refine g_getI ((q_93 _).trans rfl) (fun v3 => ?_)
      refine g_ifeq ((q_93 _).trans rfl) (fun _ => ?_) (fun _ => ?_)
      · refine g_push ((q_93 _).trans rfl) ?_
        exact g_zret ((q_93 _).trans rfl)
      · refine g_aload ((q_93 _).trans rfl) rfl ?_
        refine g_getR ((q_93 _).trans rfl) (fun a4 => ?_)
        refine g_push ((q_93 _).trans rfl) ?_
        refine g_iload ((q_93 _).trans rfl) rfl ?_
        refine g_imul ((q_93 _).trans rfl) ?_
        refine g_aload ((q_93 _).trans rfl) rfl ?_
        refine g_getI ((q_93 _).trans rfl) (fun v5 => ?_)
        refine g_iadd ((q_93 _).trans rfl) ?_
        refine g_push ((q_93 _).trans rfl) ?_
        refine g_isub ((q_93 _).trans rfl) ?_
        refine g_iload ((q_93 _).trans rfl) rfl ?_
        refine g_isub ((q_93 _).trans rfl) ?_
        refine g_iald ((q_93 _).trans rfl) (fun v6 => ?_)
        refine g_push ((q_93 _).trans rfl) ?_
        refine g_cmpeq ((q_93 _).trans rfl) (fun _ => ?_) (fun _ => ?_)
        · refine g_push ((q_93 _).trans rfl) ?_
          exact g_zret ((q_93 _).trans rfl)
        · refine g_push ((q_93 _).trans rfl) ?_
          refine g_goto ((q_93 _).trans rfl) ?_
          exact g_zret ((q_93 _).trans rfl)
    · refine g_push ((q_93 _).trans rfl) ?_
      refine g_goto ((q_93 _).trans rfl) ?_
      exact g_zret ((q_93 _).trans rfl)
  · refine g_push ((q_93 _).trans rfl) ?_
    refine g_goto ((q_93 _).trans rfl) ?_
    refine g_istore ((q_93 _).trans rfl) ?_
    refine g_iload ((q_93 _).trans rfl) rfl ?_
    refine g_ifne ((q_93 _).trans rfl) (fun _ => ?_) (fun _ => ?_)
    · refine g_aload ((q_93 _).trans rfl) rfl ?_
      refine g_getI ((q_93 _).trans rfl) (fun v7 => ?_)
      refine g_ifeq ((q_93 _).trans rfl) (fun _ => ?_) (fun _ => ?_)
      · refine g_push ((q_93 _).trans rfl) ?_
        exact g_zret ((q_93 _).trans rfl)
      · refine g_aload ((q_93 _).trans rfl) rfl ?_
        refine g_getR ((q_93 _).trans rfl) (fun a8 => ?_)
        refine g_push ((q_93 _).trans rfl) ?_
        refine g_iload ((q_93 _).trans rfl) rfl ?_
        refine g_imul ((q_93 _).trans rfl) ?_
        refine g_aload ((q_93 _).trans rfl) rfl ?_
        refine g_getI ((q_93 _).trans rfl) (fun v9 => ?_)
        refine g_iadd ((q_93 _).trans rfl) ?_
        refine g_push ((q_93 _).trans rfl) ?_
        refine g_isub ((q_93 _).trans rfl) ?_
        refine g_iload ((q_93 _).trans rfl) rfl ?_
        refine g_isub ((q_93 _).trans rfl) ?_
        refine g_iald ((q_93 _).trans rfl) (fun v10 => ?_)
        refine g_push ((q_93 _).trans rfl) ?_
        refine g_cmpeq ((q_93 _).trans rfl) (fun _ => ?_) (fun _ => ?_)
        · refine g_push ((q_93 _).trans rfl) ?_
          exact g_zret ((q_93 _).trans rfl)
        · refine g_push ((q_93 _).trans rfl) ?_
          refine g_goto ((q_93 _).trans rfl) ?_
          exact g_zret ((q_93 _).trans rfl)
    · refine g_push ((q_93 _).trans rfl) ?_
      refine g_goto ((q_93 _).trans rfl) ?_
      exact g_zret ((q_93 _).trans rfl)
theorem c_93 {K : gK} {d : Nat} {l0 : Nat} {l1 : Int32} {l2 : Int32} {G : gH} : gle (t_93_0 K d l0 l1 l2 G) (gCa K (d + 1) 93 [.ref l0, .int l1, .int l2] G) := by
  have h : gent (gMx 93) [.ref l0, .int l1, .int l2] = [some (.ref l0), some (.int l1), some (.int l2), none] := by
    show gent (gT 93).2.2.2.1 _ = _
    rw [m_93]; rfl
  exact fun r e => (congrArg (fun q => gRn K d 93 0 q [] G) h).trans (e_93_0 r e)
theorem q_94 {K : gK} (pc : Nat) : gP K 94 pc = ((gL_94 K).lookup pc).getD o_none := rfl
noncomputable def t_94_0_1 (K : gK) (d : Nat) (v15 : Int32) (G14 : gH) : Option gO := some (.inl (some (.int (v15 - (1 : Int32)))), G14)
noncomputable def t_94_0_2 (K : gK) (d : Nat) (G11 : gH) (a13 : Nat) : Option gO := if g_cls G11 a13 = some 12 then (cI (gCa K d 110 [.ref a13] G11) (t_94_0_1 K d)) else none
noncomputable def t_94_0_3 (K : gK) (d : Nat) (l0 : Nat) (v12 : Int32) (G11 : gH) : Option gO := rR G11 l0 0 0 (t_94_0_2 K d G11)
noncomputable def t_94_0_4 (K : gK) (d : Nat) (a8 : Nat) (G6 : gH) (l0 : Nat) (G9 : gH) : Option gO := if g_cls G9 a8 = some 12 then (cI (gCa K d 156 [.ref a8, .ref (G6.2.1)] G9) (t_94_0_3 K d l0)) else none
noncomputable def t_94_0_5 (K : gK) (d : Nat) (G6 : gH) (a2 : Nat) (l2 : Int32) (l0 : Nat) (a8 : Nat) : Option gO := cV (gCa K d 155 [.ref (G6.2.1), .ref a2, .int l2] (gnew G6 (.inr (4, [.null, .int 0, .null, .int 0, .null, .int 0, .int 0, .int 0, .null])) 9)) (t_94_0_4 K d a8 G6 l0)
noncomputable def t_94_0_6 (K : gK) (d : Nat) (l0 : Nat) (a2 : Nat) (l2 : Int32) (G6 : gH) : Option gO := rR G6 l0 0 0 (t_94_0_5 K d G6 a2 l2 l0)
noncomputable def t_94_0_7 (K : gK) (d : Nat) (v25 : Int32) (G24 : gH) : Option gO := some (.inl (some (.int (v25 - (1 : Int32)))), G24)
noncomputable def t_94_0_8 (K : gK) (d : Nat) (G21 : gH) (a23 : Nat) : Option gO := if g_cls G21 a23 = some 12 then (cI (gCa K d 110 [.ref a23] G21) (t_94_0_7 K d)) else none
noncomputable def t_94_0_9 (K : gK) (d : Nat) (l0 : Nat) (v22 : Int32) (G21 : gH) : Option gO := rR G21 l0 0 0 (t_94_0_8 K d G21)
noncomputable def t_94_0_10 (K : gK) (d : Nat) (a18 : Nat) (G16 : gH) (l0 : Nat) (G19 : gH) : Option gO := if g_cls G19 a18 = some 12 then (cI (gCa K d 156 [.ref a18, .ref (G16.2.1)] G19) (t_94_0_9 K d l0)) else none
noncomputable def t_94_0_11 (K : gK) (d : Nat) (G16 : gH) (a2 : Nat) (l2 : Int32) (l0 : Nat) (a18 : Nat) : Option gO := cV (gCa K d 155 [.ref (G16.2.1), .ref a2, .int l2] (gnew G16 (.inr (4, [.null, .int 0, .null, .int 0, .null, .int 0, .int 0, .int 0, .null])) 9)) (t_94_0_10 K d a18 G16 l0)
noncomputable def t_94_0_12 (K : gK) (d : Nat) (l0 : Nat) (a2 : Nat) (l2 : Int32) (G16 : gH) : Option gO := rR G16 l0 0 0 (t_94_0_11 K d G16 a2 l2 l0)
noncomputable def t_94_0_13 (K : gK) (d : Nat) (l0 : Nat) (a2 : Nat) (l2 : Int32) (v5 : Int32) (G4 : gH) : Option gO := if (8 : Int32) ≤ v5 then (cV (gCa K d 151 [.int (0 : Int32)] G4) (t_94_0_6 K d l0 a2 l2)) else (cV (gCa K d 151 [.int (1 : Int32)] G4) (t_94_0_12 K d l0 a2 l2))
noncomputable def t_94_0_14 (K : gK) (d : Nat) (G1 : gH) (l0 : Nat) (a2 : Nat) (l2 : Int32) (a3 : Nat) : Option gO := if g_cls G1 a3 = some 12 then (cI (gCa K d 110 [.ref a3] G1) (t_94_0_13 K d l0 a2 l2)) else none
noncomputable def t_94_0_15 (K : gK) (d : Nat) (l0 : Nat) (l2 : Int32) (a2 : Nat) (G1 : gH) : Option gO := rR G1 l0 0 0 (t_94_0_14 K d G1 l0 a2 l2)
noncomputable def t_94_0 (K : gK) (d : Nat) (l0 : Nat) (l1 : Int32) (l2 : Int32) (G : gH) : Option gO := cR (gCa K d 154 [.int l1] G) (t_94_0_15 K d l0 l2)
theorem e_94_0 {K : gK} {d : Nat} {l0 : Nat} {l1 : Int32} {l2 : Int32} {G : gH} : gle (t_94_0 K d l0 l1 l2 G) (gRn K d 94 0 [some (.ref l0), some (.int l1), some (.int l2), none] [] G) := by
  unfold t_94_0
  refine g_iload ((q_94 _).trans rfl) rfl ?_
  refine g_callS (kk := 1) ((q_94 _).trans rfl) (gHn m_94) (by exact ⟨Nat.le_of_ble_eq_true rfl, Nat.le_of_ble_eq_true rfl, rfl⟩) rfl (fun w G1 => gm_R (fun a2 hw => ?_))
  subst hw
  refine g_astore ((q_94 _).trans rfl) ?_
  refine g_aload ((q_94 _).trans rfl) rfl ?_
  refine g_getR ((q_94 _).trans rfl) (fun a3 => ?_)
  refine g_callV (kk := 0) ((q_94 _).trans rfl) (gHn m_94) rfl (by exact ⟨Nat.le_of_ble_eq_true rfl, rfl⟩) rfl (fun w G4 => gm_I (fun v5 hw => ?_))
  subst hw
  refine g_push ((q_94 _).trans rfl) ?_
  refine g_cmpge ((q_94 _).trans rfl) (fun _ => ?_) (fun _ => ?_)
  · refine g_push ((q_94 _).trans rfl) ?_
    refine g_callS (kk := 1) ((q_94 _).trans rfl) (gHn m_94) (by exact ⟨Nat.le_of_ble_eq_true rfl, Nat.le_of_ble_eq_true rfl, rfl⟩) rfl (fun w G6 => gm_V (fun hw => ?_))
    subst hw
    refine g_aload ((q_94 _).trans rfl) rfl ?_
    refine g_getR ((q_94 _).trans rfl) (fun a8 => ?_)
    refine g_new ((q_94 _).trans rfl) ?_
    refine g_dup_ref ((q_94 _).trans rfl) ?_
    refine g_aload ((q_94 _).trans rfl) rfl ?_
    refine g_iload ((q_94 _).trans rfl) rfl ?_
    refine g_callI (kk := 2) ((q_94 _).trans rfl) (gHn m_94) rfl (by exact ⟨Nat.le_of_ble_eq_true rfl, rfl⟩) rfl (fun w G9 => gm_V (fun hw => ?_))
    subst hw
    refine g_callV (kk := 1) ((q_94 _).trans rfl) (gHn m_94) rfl (by exact ⟨Nat.le_of_ble_eq_true rfl, rfl⟩) rfl (fun w G11 => gm_I (fun v12 hw => ?_))
    subst hw
    refine g_pop_int ((q_94 _).trans rfl) ?_
    refine g_aload ((q_94 _).trans rfl) rfl ?_
    refine g_getR ((q_94 _).trans rfl) (fun a13 => ?_)
    refine g_callV (kk := 0) ((q_94 _).trans rfl) (gHn m_94) rfl (by exact ⟨Nat.le_of_ble_eq_true rfl, rfl⟩) rfl (fun w G14 => gm_I (fun v15 hw => ?_))
    subst hw
    refine g_push ((q_94 _).trans rfl) ?_
    refine g_isub ((q_94 _).trans rfl) ?_
    exact g_iret ((q_94 _).trans rfl)
  · refine g_push ((q_94 _).trans rfl) ?_
    refine g_goto ((q_94 _).trans rfl) ?_
    refine g_callS (kk := 1) ((q_94 _).trans rfl) (gHn m_94) (by exact ⟨Nat.le_of_ble_eq_true rfl, Nat.le_of_ble_eq_true rfl, rfl⟩) rfl (fun w G16 => gm_V (fun hw => ?_))
    subst hw
    refine g_aload ((q_94 _).trans rfl) rfl ?_
    refine g_getR ((q_94 _).trans rfl) (fun a18 => ?_)
    refine g_new ((q_94 _).trans rfl) ?_
    refine g_dup_ref ((q_94 _).trans rfl) ?_
    refine g_aload ((q_94 _).trans rfl) rfl ?_
    refine g_iload ((q_94 _).trans rfl) rfl ?_
    refine g_callI (kk := 2) ((q_94 _).trans rfl) (gHn m_94) rfl (by exact ⟨Nat.le_of_ble_eq_true rfl, rfl⟩) rfl (fun w G19 => gm_V (fun hw => ?_))
    subst hw
    refine g_callV (kk := 1) ((q_94 _).trans rfl) (gHn m_94) rfl (by exact ⟨Nat.le_of_ble_eq_true rfl, rfl⟩) rfl (fun w G21 => gm_I (fun v22 hw => ?_))
    subst hw
    refine g_pop_int ((q_94 _).trans rfl) ?_
    refine g_aload ((q_94 _).trans rfl) rfl ?_
    refine g_getR ((q_94 _).trans rfl) (fun a23 => ?_)
    refine g_callV (kk := 0) ((q_94 _).trans rfl) (gHn m_94) rfl (by exact ⟨Nat.le_of_ble_eq_true rfl, rfl⟩) rfl (fun w G24 => gm_I (fun v25 hw => ?_))
    subst hw
    refine g_push ((q_94 _).trans rfl) ?_
    refine g_isub ((q_94 _).trans rfl) ?_
    exact g_iret ((q_94 _).trans rfl)
theorem c_94 {K : gK} {d : Nat} {l0 : Nat} {l1 : Int32} {l2 : Int32} {G : gH} : gle (t_94_0 K d l0 l1 l2 G) (gCa K (d + 1) 94 [.ref l0, .int l1, .int l2] G) := by
  have h : gent (gMx 94) [.ref l0, .int l1, .int l2] = [some (.ref l0), some (.int l1), some (.int l2), none] := by
    show gent (gT 94).2.2.2.1 _ = _
    rw [m_94]; rfl
  exact fun r e => (congrArg (fun q => gRn K d 94 0 q [] G) h).trans (e_94_0 r e)
theorem q_95 {K : gK} (pc : Nat) : gP K 95 pc = ((gL_95 K).lookup pc).getD o_none := rfl
noncomputable def t_95_0_1 (K : gK) (d : Nat) (v25 : Int32) (G24 : gH) : Option gO := some (.inl (some (.int v25)), G24)
noncomputable def t_95_0_2 (K : gK) (d : Nat) (G21 : gH) (a23 : Nat) : Option gO := if g_cls G21 a23 = some 12 then (cI (gCa K d 110 [.ref a23] G21) (t_95_0_1 K d)) else none
noncomputable def t_95_0_3 (K : gK) (d : Nat) (a2 : Nat) (G21 : gH) : Option gO := rR G21 a2 4 2 (t_95_0_2 K d G21)
noncomputable def t_95_0_4 (K : gK) (d : Nat) (a2 : Nat) (v20 : Int32) (G19 : gH) : Option gO := if g_cls G19 a2 = some 4 then (cV (gCa K d 162 [.ref a2] G19) (t_95_0_3 K d a2)) else none
noncomputable def t_95_0_5 (K : gK) (d : Nat) (a16 : Nat) (G14 : gH) (a2 : Nat) (G17 : gH) : Option gO := if g_cls G17 a16 = some 12 then (cI (gCa K d 156 [.ref a16, .ref (G14.2.1)] G17) (t_95_0_4 K d a2)) else none
noncomputable def t_95_0_6 (K : gK) (d : Nat) (G14 : gH) (l2 : Int32) (l3 : Int32) (a2 : Nat) (a16 : Nat) : Option gO := cV (gCa K d 161 [.ref (G14.2.1), .int l2, .int l3] (gnew G14 (.inr (5, [.int 0, .int 0])) 2)) (t_95_0_5 K d a16 G14 a2)
noncomputable def t_95_0_7 (K : gK) (d : Nat) (a2 : Nat) (l2 : Int32) (l3 : Int32) (G14 : gH) : Option gO := rR G14 a2 4 2 (t_95_0_6 K d G14 l2 l3 a2)
noncomputable def t_95_0_8 (K : gK) (d : Nat) (v37 : Int32) (G36 : gH) : Option gO := some (.inl (some (.int v37)), G36)
noncomputable def t_95_0_9 (K : gK) (d : Nat) (G33 : gH) (a35 : Nat) : Option gO := if g_cls G33 a35 = some 12 then (cI (gCa K d 110 [.ref a35] G33) (t_95_0_8 K d)) else none
noncomputable def t_95_0_10 (K : gK) (d : Nat) (a2 : Nat) (G33 : gH) : Option gO := rR G33 a2 4 2 (t_95_0_9 K d G33)
noncomputable def t_95_0_11 (K : gK) (d : Nat) (a2 : Nat) (v32 : Int32) (G31 : gH) : Option gO := if g_cls G31 a2 = some 4 then (cV (gCa K d 162 [.ref a2] G31) (t_95_0_10 K d a2)) else none
noncomputable def t_95_0_12 (K : gK) (d : Nat) (a28 : Nat) (G26 : gH) (a2 : Nat) (G29 : gH) : Option gO := if g_cls G29 a28 = some 12 then (cI (gCa K d 156 [.ref a28, .ref (G26.2.1)] G29) (t_95_0_11 K d a2)) else none
noncomputable def t_95_0_13 (K : gK) (d : Nat) (G26 : gH) (l2 : Int32) (l3 : Int32) (a2 : Nat) (a28 : Nat) : Option gO := cV (gCa K d 161 [.ref (G26.2.1), .int l2, .int l3] (gnew G26 (.inr (5, [.int 0, .int 0])) 2)) (t_95_0_12 K d a28 G26 a2)
noncomputable def t_95_0_14 (K : gK) (d : Nat) (a2 : Nat) (l2 : Int32) (l3 : Int32) (G26 : gH) : Option gO := rR G26 a2 4 2 (t_95_0_13 K d G26 l2 l3 a2)
noncomputable def t_95_0_15 (K : gK) (d : Nat) (G11 : gH) (a2 : Nat) (l2 : Int32) (l3 : Int32) (v13 : Int32) : Option gO := if v13 = 0 then (cV (gCa K d 151 [.int (1 : Int32)] G11) (t_95_0_7 K d a2 l2 l3)) else (cV (gCa K d 151 [.int (0 : Int32)] G11) (t_95_0_14 K d a2 l2 l3))
noncomputable def t_95_0_16 (K : gK) (d : Nat) (v49 : Int32) (G48 : gH) : Option gO := some (.inl (some (.int v49)), G48)
noncomputable def t_95_0_17 (K : gK) (d : Nat) (G45 : gH) (a47 : Nat) : Option gO := if g_cls G45 a47 = some 12 then (cI (gCa K d 110 [.ref a47] G45) (t_95_0_16 K d)) else none
noncomputable def t_95_0_18 (K : gK) (d : Nat) (a2 : Nat) (G45 : gH) : Option gO := rR G45 a2 4 2 (t_95_0_17 K d G45)
noncomputable def t_95_0_19 (K : gK) (d : Nat) (a2 : Nat) (v44 : Int32) (G43 : gH) : Option gO := if g_cls G43 a2 = some 4 then (cV (gCa K d 162 [.ref a2] G43) (t_95_0_18 K d a2)) else none
noncomputable def t_95_0_20 (K : gK) (d : Nat) (a40 : Nat) (G38 : gH) (a2 : Nat) (G41 : gH) : Option gO := if g_cls G41 a40 = some 12 then (cI (gCa K d 156 [.ref a40, .ref (G38.2.1)] G41) (t_95_0_19 K d a2)) else none
noncomputable def t_95_0_21 (K : gK) (d : Nat) (G38 : gH) (l2 : Int32) (l3 : Int32) (a2 : Nat) (a40 : Nat) : Option gO := cV (gCa K d 161 [.ref (G38.2.1), .int l2, .int l3] (gnew G38 (.inr (5, [.int 0, .int 0])) 2)) (t_95_0_20 K d a40 G38 a2)
noncomputable def t_95_0_22 (K : gK) (d : Nat) (a2 : Nat) (l2 : Int32) (l3 : Int32) (G38 : gH) : Option gO := rR G38 a2 4 2 (t_95_0_21 K d G38 l2 l3 a2)
noncomputable def t_95_0_23 (K : gK) (d : Nat) (a2 : Nat) (l2 : Int32) (l3 : Int32) (v12 : Int32) (G11 : gH) : Option gO := if v12 = 0 then (rI G11 a2 4 7 (t_95_0_15 K d G11 a2 l2 l3)) else (cV (gCa K d 151 [.int (0 : Int32)] G11) (t_95_0_22 K d a2 l2 l3))
noncomputable def t_95_0_24 (K : gK) (d : Nat) (l0 : Nat) (a2 : Nat) (l2 : Int32) (l3 : Int32) (G9 : gH) : Option gO := if g_cls G9 l0 = some 0 then (cI (gCa K d 160 [.ref l0, .ref a2] G9) (t_95_0_23 K d a2 l2 l3)) else none
noncomputable def t_95_0_25 (K : gK) (d : Nat) (v66 : Int32) (G65 : gH) : Option gO := some (.inl (some (.int v66)), G65)
noncomputable def t_95_0_26 (K : gK) (d : Nat) (G62 : gH) (a64 : Nat) : Option gO := if g_cls G62 a64 = some 12 then (cI (gCa K d 110 [.ref a64] G62) (t_95_0_25 K d)) else none
noncomputable def t_95_0_27 (K : gK) (d : Nat) (a2 : Nat) (G62 : gH) : Option gO := rR G62 a2 4 2 (t_95_0_26 K d G62)
noncomputable def t_95_0_28 (K : gK) (d : Nat) (a2 : Nat) (v61 : Int32) (G60 : gH) : Option gO := if g_cls G60 a2 = some 4 then (cV (gCa K d 162 [.ref a2] G60) (t_95_0_27 K d a2)) else none
noncomputable def t_95_0_29 (K : gK) (d : Nat) (a57 : Nat) (G55 : gH) (a2 : Nat) (G58 : gH) : Option gO := if g_cls G58 a57 = some 12 then (cI (gCa K d 156 [.ref a57, .ref (G55.2.1)] G58) (t_95_0_28 K d a2)) else none
noncomputable def t_95_0_30 (K : gK) (d : Nat) (G55 : gH) (l2 : Int32) (l3 : Int32) (a2 : Nat) (a57 : Nat) : Option gO := cV (gCa K d 161 [.ref (G55.2.1), .int l2, .int l3] (gnew G55 (.inr (5, [.int 0, .int 0])) 2)) (t_95_0_29 K d a57 G55 a2)
noncomputable def t_95_0_31 (K : gK) (d : Nat) (a2 : Nat) (l2 : Int32) (l3 : Int32) (G55 : gH) : Option gO := rR G55 a2 4 2 (t_95_0_30 K d G55 l2 l3 a2)
noncomputable def t_95_0_32 (K : gK) (d : Nat) (v78 : Int32) (G77 : gH) : Option gO := some (.inl (some (.int v78)), G77)
noncomputable def t_95_0_33 (K : gK) (d : Nat) (G74 : gH) (a76 : Nat) : Option gO := if g_cls G74 a76 = some 12 then (cI (gCa K d 110 [.ref a76] G74) (t_95_0_32 K d)) else none
noncomputable def t_95_0_34 (K : gK) (d : Nat) (a2 : Nat) (G74 : gH) : Option gO := rR G74 a2 4 2 (t_95_0_33 K d G74)
noncomputable def t_95_0_35 (K : gK) (d : Nat) (a2 : Nat) (v73 : Int32) (G72 : gH) : Option gO := if g_cls G72 a2 = some 4 then (cV (gCa K d 162 [.ref a2] G72) (t_95_0_34 K d a2)) else none
noncomputable def t_95_0_36 (K : gK) (d : Nat) (a69 : Nat) (G67 : gH) (a2 : Nat) (G70 : gH) : Option gO := if g_cls G70 a69 = some 12 then (cI (gCa K d 156 [.ref a69, .ref (G67.2.1)] G70) (t_95_0_35 K d a2)) else none
noncomputable def t_95_0_37 (K : gK) (d : Nat) (G67 : gH) (l2 : Int32) (l3 : Int32) (a2 : Nat) (a69 : Nat) : Option gO := cV (gCa K d 161 [.ref (G67.2.1), .int l2, .int l3] (gnew G67 (.inr (5, [.int 0, .int 0])) 2)) (t_95_0_36 K d a69 G67 a2)
noncomputable def t_95_0_38 (K : gK) (d : Nat) (a2 : Nat) (l2 : Int32) (l3 : Int32) (G67 : gH) : Option gO := rR G67 a2 4 2 (t_95_0_37 K d G67 l2 l3 a2)
noncomputable def t_95_0_39 (K : gK) (d : Nat) (G52 : gH) (a2 : Nat) (l2 : Int32) (l3 : Int32) (v54 : Int32) : Option gO := if v54 = 0 then (cV (gCa K d 151 [.int (1 : Int32)] G52) (t_95_0_31 K d a2 l2 l3)) else (cV (gCa K d 151 [.int (0 : Int32)] G52) (t_95_0_38 K d a2 l2 l3))
noncomputable def t_95_0_40 (K : gK) (d : Nat) (v90 : Int32) (G89 : gH) : Option gO := some (.inl (some (.int v90)), G89)
noncomputable def t_95_0_41 (K : gK) (d : Nat) (G86 : gH) (a88 : Nat) : Option gO := if g_cls G86 a88 = some 12 then (cI (gCa K d 110 [.ref a88] G86) (t_95_0_40 K d)) else none
noncomputable def t_95_0_42 (K : gK) (d : Nat) (a2 : Nat) (G86 : gH) : Option gO := rR G86 a2 4 2 (t_95_0_41 K d G86)
noncomputable def t_95_0_43 (K : gK) (d : Nat) (a2 : Nat) (v85 : Int32) (G84 : gH) : Option gO := if g_cls G84 a2 = some 4 then (cV (gCa K d 162 [.ref a2] G84) (t_95_0_42 K d a2)) else none
noncomputable def t_95_0_44 (K : gK) (d : Nat) (a81 : Nat) (G79 : gH) (a2 : Nat) (G82 : gH) : Option gO := if g_cls G82 a81 = some 12 then (cI (gCa K d 156 [.ref a81, .ref (G79.2.1)] G82) (t_95_0_43 K d a2)) else none
noncomputable def t_95_0_45 (K : gK) (d : Nat) (G79 : gH) (l2 : Int32) (l3 : Int32) (a2 : Nat) (a81 : Nat) : Option gO := cV (gCa K d 161 [.ref (G79.2.1), .int l2, .int l3] (gnew G79 (.inr (5, [.int 0, .int 0])) 2)) (t_95_0_44 K d a81 G79 a2)
noncomputable def t_95_0_46 (K : gK) (d : Nat) (a2 : Nat) (l2 : Int32) (l3 : Int32) (G79 : gH) : Option gO := rR G79 a2 4 2 (t_95_0_45 K d G79 l2 l3 a2)
noncomputable def t_95_0_47 (K : gK) (d : Nat) (a2 : Nat) (l2 : Int32) (l3 : Int32) (v53 : Int32) (G52 : gH) : Option gO := if v53 = 0 then (rI G52 a2 4 7 (t_95_0_39 K d G52 a2 l2 l3)) else (cV (gCa K d 151 [.int (0 : Int32)] G52) (t_95_0_46 K d a2 l2 l3))
noncomputable def t_95_0_48 (K : gK) (d : Nat) (l0 : Nat) (a2 : Nat) (l2 : Int32) (l3 : Int32) (G50 : gH) : Option gO := if g_cls G50 l0 = some 0 then (cI (gCa K d 160 [.ref l0, .ref a2] G50) (t_95_0_47 K d a2 l2 l3)) else none
noncomputable def t_95_0_49 (K : gK) (d : Nat) (l0 : Nat) (a2 : Nat) (l2 : Int32) (l3 : Int32) (v8 : Int32) (G7 : gH) : Option gO := if v8 = 0 then (cV (gCa K d 153 [.int (1 : Int32)] G7) (t_95_0_24 K d l0 a2 l2 l3)) else (cV (gCa K d 153 [.int (0 : Int32)] G7) (t_95_0_48 K d l0 a2 l2 l3))
noncomputable def t_95_0_50 (K : gK) (d : Nat) (a2 : Nat) (l2 : Int32) (l3 : Int32) (l0 : Nat) (G5 : gH) : Option gO := if g_cls G5 a2 = some 4 then (cI (gCa K d 159 [.ref a2, .int l2, .int l3] G5) (t_95_0_49 K d l0 a2 l2 l3)) else none
noncomputable def t_95_0_51 (K : gK) (d : Nat) (a2 : Nat) (l2 : Int32) (l3 : Int32) (l0 : Nat) (v4 : Int32) (G3 : gH) : Option gO := cV (gCa K d 149 [.int v4] G3) (t_95_0_50 K d a2 l2 l3 l0)
noncomputable def t_95_0_52 (K : gK) (d : Nat) (l2 : Int32) (l3 : Int32) (l0 : Nat) (a2 : Nat) (G1 : gH) : Option gO := cI (gCa K d 158 [.int l2, .int l3] G1) (t_95_0_51 K d a2 l2 l3 l0)
noncomputable def t_95_0 (K : gK) (d : Nat) (l0 : Nat) (l1 : Int32) (l2 : Int32) (l3 : Int32) (G : gH) : Option gO := if g_cls G l0 = some 0 then (cR (gCa K d 157 [.ref l0, .int l1] G) (t_95_0_52 K d l2 l3 l0)) else none
theorem e_95_0 {K : gK} {d : Nat} {l0 : Nat} {l1 : Int32} {l2 : Int32} {l3 : Int32} {G : gH} : gle (t_95_0 K d l0 l1 l2 l3 G) (gRn K d 95 0 [some (.ref l0), some (.int l1), some (.int l2), some (.int l3), none] [] G) := by
  unfold t_95_0
  refine g_aload ((q_95 _).trans rfl) rfl ?_
  refine g_iload ((q_95 _).trans rfl) rfl ?_
  refine g_callV (kk := 1) ((q_95 _).trans rfl) (gHn m_95) rfl (by exact ⟨Nat.le_of_ble_eq_true rfl, rfl⟩) rfl (fun w G1 => gm_R (fun a2 hw => ?_))
  subst hw
  refine g_astore ((q_95 _).trans rfl) ?_
  refine g_iload ((q_95 _).trans rfl) rfl ?_
  refine g_iload ((q_95 _).trans rfl) rfl ?_
  refine g_callS (kk := 2) ((q_95 _).trans rfl) (gHn m_95) (by exact ⟨Nat.le_of_ble_eq_true rfl, Nat.le_of_ble_eq_true rfl, rfl⟩) rfl (fun w G3 => gm_I (fun v4 hw => ?_))
  subst hw
  refine g_callS (kk := 1) ((q_95 _).trans rfl) (gHn m_95) (by exact ⟨Nat.le_of_ble_eq_true rfl, Nat.le_of_ble_eq_true rfl, rfl⟩) rfl (fun w G5 => gm_V (fun hw => ?_))
  subst hw
  refine g_aload ((q_95 _).trans rfl) rfl ?_
  refine g_iload ((q_95 _).trans rfl) rfl ?_
  refine g_iload ((q_95 _).trans rfl) rfl ?_
  refine g_callV (kk := 2) ((q_95 _).trans rfl) (gHn m_95) rfl (by exact ⟨Nat.le_of_ble_eq_true rfl, rfl⟩) rfl (fun w G7 => gm_I (fun v8 hw => ?_))
  subst hw
  refine g_ifne ((q_95 _).trans rfl) (fun _ => ?_) (fun _ => ?_)
  · refine g_push ((q_95 _).trans rfl) ?_
    refine g_goto ((q_95 _).trans rfl) ?_
    refine g_callS (kk := 1) ((q_95 _).trans rfl) (gHn m_95) (by exact ⟨Nat.le_of_ble_eq_true rfl, Nat.le_of_ble_eq_true rfl, rfl⟩) rfl (fun w G9 => gm_V (fun hw => ?_))
    subst hw
    refine g_aload ((q_95 _).trans rfl) rfl ?_
    refine g_aload ((q_95 _).trans rfl) rfl ?_
    refine g_callV (kk := 1) ((q_95 _).trans rfl) (gHn m_95) rfl (by exact ⟨Nat.le_of_ble_eq_true rfl, rfl⟩) rfl (fun w G11 => gm_I (fun v12 hw => ?_))
    subst hw
    refine g_ifne ((q_95 _).trans rfl) (fun _ => ?_) (fun _ => ?_)
    · refine g_aload ((q_95 _).trans rfl) rfl ?_
      refine g_getI ((q_95 _).trans rfl) (fun v13 => ?_)
      refine g_ifne ((q_95 _).trans rfl) (fun _ => ?_) (fun _ => ?_)
      · refine g_push ((q_95 _).trans rfl) ?_
        refine g_goto ((q_95 _).trans rfl) ?_
        refine g_callS (kk := 1) ((q_95 _).trans rfl) (gHn m_95) (by exact ⟨Nat.le_of_ble_eq_true rfl, Nat.le_of_ble_eq_true rfl, rfl⟩) rfl (fun w G14 => gm_V (fun hw => ?_))
        subst hw
        refine g_aload ((q_95 _).trans rfl) rfl ?_
        refine g_getR ((q_95 _).trans rfl) (fun a16 => ?_)
        refine g_new ((q_95 _).trans rfl) ?_
        refine g_dup_ref ((q_95 _).trans rfl) ?_
        refine g_iload ((q_95 _).trans rfl) rfl ?_
        refine g_iload ((q_95 _).trans rfl) rfl ?_
        refine g_callI (kk := 2) ((q_95 _).trans rfl) (gHn m_95) rfl (by exact ⟨Nat.le_of_ble_eq_true rfl, rfl⟩) rfl (fun w G17 => gm_V (fun hw => ?_))
        subst hw
        refine g_callV (kk := 1) ((q_95 _).trans rfl) (gHn m_95) rfl (by exact ⟨Nat.le_of_ble_eq_true rfl, rfl⟩) rfl (fun w G19 => gm_I (fun v20 hw => ?_))
        subst hw
        refine g_pop_int ((q_95 _).trans rfl) ?_
        refine g_aload ((q_95 _).trans rfl) rfl ?_
        refine g_callV (kk := 0) ((q_95 _).trans rfl) (gHn m_95) rfl (by exact ⟨Nat.le_of_ble_eq_true rfl, rfl⟩) rfl (fun w G21 => gm_V (fun hw => ?_))
        subst hw
        refine g_aload ((q_95 _).trans rfl) rfl ?_
        refine g_getR ((q_95 _).trans rfl) (fun a23 => ?_)
        refine g_callV (kk := 0) ((q_95 _).trans rfl) (gHn m_95) rfl (by exact ⟨Nat.le_of_ble_eq_true rfl, rfl⟩) rfl (fun w G24 => gm_I (fun v25 hw => ?_))
        subst hw
        exact g_iret ((q_95 _).trans rfl)
      · refine g_push ((q_95 _).trans rfl) ?_
        refine g_callS (kk := 1) ((q_95 _).trans rfl) (gHn m_95) (by exact ⟨Nat.le_of_ble_eq_true rfl, Nat.le_of_ble_eq_true rfl, rfl⟩) rfl (fun w G26 => gm_V (fun hw => ?_))
        subst hw
        refine g_aload ((q_95 _).trans rfl) rfl ?_
        refine g_getR ((q_95 _).trans rfl) (fun a28 => ?_)
        refine g_new ((q_95 _).trans rfl) ?_
        refine g_dup_ref ((q_95 _).trans rfl) ?_
        refine g_iload ((q_95 _).trans rfl) rfl ?_
        refine g_iload ((q_95 _).trans rfl) rfl ?_
        refine g_callI (kk := 2) ((q_95 _).trans rfl) (gHn m_95) rfl (by exact ⟨Nat.le_of_ble_eq_true rfl, rfl⟩) rfl (fun w G29 => gm_V (fun hw => ?_))
        subst hw
        refine g_callV (kk := 1) ((q_95 _).trans rfl) (gHn m_95) rfl (by exact ⟨Nat.le_of_ble_eq_true rfl, rfl⟩) rfl (fun w G31 => gm_I (fun v32 hw => ?_))
        subst hw
        refine g_pop_int ((q_95 _).trans rfl) ?_
        refine g_aload ((q_95 _).trans rfl) rfl ?_
        refine g_callV (kk := 0) ((q_95 _).trans rfl) (gHn m_95) rfl (by exact ⟨Nat.le_of_ble_eq_true rfl, rfl⟩) rfl (fun w G33 => gm_V (fun hw => ?_))
        subst hw
        refine g_aload ((q_95 _).trans rfl) rfl ?_
        refine g_getR ((q_95 _).trans rfl) (fun a35 => ?_)
        refine g_callV (kk := 0) ((q_95 _).trans rfl) (gHn m_95) rfl (by exact ⟨Nat.le_of_ble_eq_true rfl, rfl⟩) rfl (fun w G36 => gm_I (fun v37 hw => ?_))
        subst hw
        exact g_iret ((q_95 _).trans rfl)
    · refine g_push ((q_95 _).trans rfl) ?_
      refine g_callS (kk := 1) ((q_95 _).trans rfl) (gHn m_95) (by exact ⟨Nat.le_of_ble_eq_true rfl, Nat.le_of_ble_eq_true rfl, rfl⟩) rfl (fun w G38 => gm_V (fun hw => ?_))
      subst hw
      refine g_aload ((q_95 _).trans rfl) rfl ?_
      refine g_getR ((q_95 _).trans rfl) (fun a40 => ?_)
      refine g_new ((q_95 _).trans rfl) ?_
      refine g_dup_ref ((q_95 _).trans rfl) ?_
      refine g_iload ((q_95 _).trans rfl) rfl ?_
      refine g_iload ((q_95 _).trans rfl) rfl ?_
      refine g_callI (kk := 2) ((q_95 _).trans rfl) (gHn m_95) rfl (by exact ⟨Nat.le_of_ble_eq_true rfl, rfl⟩) rfl (fun w G41 => gm_V (fun hw => ?_))
      subst hw
      refine g_callV (kk := 1) ((q_95 _).trans rfl) (gHn m_95) rfl (by exact ⟨Nat.le_of_ble_eq_true rfl, rfl⟩) rfl (fun w G43 => gm_I (fun v44 hw => ?_))
      subst hw
      refine g_pop_int ((q_95 _).trans rfl) ?_
      refine g_aload ((q_95 _).trans rfl) rfl ?_
      refine g_callV (kk := 0) ((q_95 _).trans rfl) (gHn m_95) rfl (by exact ⟨Nat.le_of_ble_eq_true rfl, rfl⟩) rfl (fun w G45 => gm_V (fun hw => ?_))
      subst hw
      refine g_aload ((q_95 _).trans rfl) rfl ?_
      refine g_getR ((q_95 _).trans rfl) (fun a47 => ?_)
      refine g_callV (kk := 0) ((q_95 _).trans rfl) (gHn m_95) rfl (by exact ⟨Nat.le_of_ble_eq_true rfl, rfl⟩) rfl (fun w G48 => gm_I (fun v49 hw => ?_))
      subst hw
      exact g_iret ((q_95 _).trans rfl)
  · refine g_push ((q_95 _).trans rfl) ?_
    refine g_callS (kk := 1) ((q_95 _).trans rfl) (gHn m_95) (by exact ⟨Nat.le_of_ble_eq_true rfl, Nat.le_of_ble_eq_true rfl, rfl⟩) rfl (fun w G50 => gm_V (fun hw => ?_))
    subst hw
    refine g_aload ((q_95 _).trans rfl) rfl ?_
    refine g_aload ((q_95 _).trans rfl) rfl ?_
    refine g_callV (kk := 1) ((q_95 _).trans rfl) (gHn m_95) rfl (by exact ⟨Nat.le_of_ble_eq_true rfl, rfl⟩) rfl (fun w G52 => gm_I (fun v53 hw => ?_))
    subst hw
    refine g_ifne ((q_95 _).trans rfl) (fun _ => ?_) (fun _ => ?_)
    · refine g_aload ((q_95 _).trans rfl) rfl ?_
      refine g_getI ((q_95 _).trans rfl) (fun v54 => ?_)
      refine g_ifne ((q_95 _).trans rfl) (fun _ => ?_) (fun _ => ?_)
      · refine g_push ((q_95 _).trans rfl) ?_
        refine g_goto ((q_95 _).trans rfl) ?_
        refine g_callS (kk := 1) ((q_95 _).trans rfl) (gHn m_95) (by exact ⟨Nat.le_of_ble_eq_true rfl, Nat.le_of_ble_eq_true rfl, rfl⟩) rfl (fun w G55 => gm_V (fun hw => ?_))
        subst hw
        refine g_aload ((q_95 _).trans rfl) rfl ?_
        refine g_getR ((q_95 _).trans rfl) (fun a57 => ?_)
        refine g_new ((q_95 _).trans rfl) ?_
        refine g_dup_ref ((q_95 _).trans rfl) ?_
        refine g_iload ((q_95 _).trans rfl) rfl ?_
        refine g_iload ((q_95 _).trans rfl) rfl ?_
        refine g_callI (kk := 2) ((q_95 _).trans rfl) (gHn m_95) rfl (by exact ⟨Nat.le_of_ble_eq_true rfl, rfl⟩) rfl (fun w G58 => gm_V (fun hw => ?_))
        subst hw
        refine g_callV (kk := 1) ((q_95 _).trans rfl) (gHn m_95) rfl (by exact ⟨Nat.le_of_ble_eq_true rfl, rfl⟩) rfl (fun w G60 => gm_I (fun v61 hw => ?_))
        subst hw
        refine g_pop_int ((q_95 _).trans rfl) ?_
        refine g_aload ((q_95 _).trans rfl) rfl ?_
        refine g_callV (kk := 0) ((q_95 _).trans rfl) (gHn m_95) rfl (by exact ⟨Nat.le_of_ble_eq_true rfl, rfl⟩) rfl (fun w G62 => gm_V (fun hw => ?_))
        subst hw
        refine g_aload ((q_95 _).trans rfl) rfl ?_
        refine g_getR ((q_95 _).trans rfl) (fun a64 => ?_)
        refine g_callV (kk := 0) ((q_95 _).trans rfl) (gHn m_95) rfl (by exact ⟨Nat.le_of_ble_eq_true rfl, rfl⟩) rfl (fun w G65 => gm_I (fun v66 hw => ?_))
        subst hw
        exact g_iret ((q_95 _).trans rfl)
      · refine g_push ((q_95 _).trans rfl) ?_
        refine g_callS (kk := 1) ((q_95 _).trans rfl) (gHn m_95) (by exact ⟨Nat.le_of_ble_eq_true rfl, Nat.le_of_ble_eq_true rfl, rfl⟩) rfl (fun w G67 => gm_V (fun hw => ?_))
        subst hw
        refine g_aload ((q_95 _).trans rfl) rfl ?_
        refine g_getR ((q_95 _).trans rfl) (fun a69 => ?_)
        refine g_new ((q_95 _).trans rfl) ?_
        refine g_dup_ref ((q_95 _).trans rfl) ?_
        refine g_iload ((q_95 _).trans rfl) rfl ?_
        refine g_iload ((q_95 _).trans rfl) rfl ?_
        refine g_callI (kk := 2) ((q_95 _).trans rfl) (gHn m_95) rfl (by exact ⟨Nat.le_of_ble_eq_true rfl, rfl⟩) rfl (fun w G70 => gm_V (fun hw => ?_))
        subst hw
        refine g_callV (kk := 1) ((q_95 _).trans rfl) (gHn m_95) rfl (by exact ⟨Nat.le_of_ble_eq_true rfl, rfl⟩) rfl (fun w G72 => gm_I (fun v73 hw => ?_))
        subst hw
        refine g_pop_int ((q_95 _).trans rfl) ?_
        refine g_aload ((q_95 _).trans rfl) rfl ?_
        refine g_callV (kk := 0) ((q_95 _).trans rfl) (gHn m_95) rfl (by exact ⟨Nat.le_of_ble_eq_true rfl, rfl⟩) rfl (fun w G74 => gm_V (fun hw => ?_))
        subst hw
        refine g_aload ((q_95 _).trans rfl) rfl ?_
        refine g_getR ((q_95 _).trans rfl) (fun a76 => ?_)
        refine g_callV (kk := 0) ((q_95 _).trans rfl) (gHn m_95) rfl (by exact ⟨Nat.le_of_ble_eq_true rfl, rfl⟩) rfl (fun w G77 => gm_I (fun v78 hw => ?_))
        subst hw
        exact g_iret ((q_95 _).trans rfl)
    · refine g_push ((q_95 _).trans rfl) ?_
      refine g_callS (kk := 1) ((q_95 _).trans rfl) (gHn m_95) (by exact ⟨Nat.le_of_ble_eq_true rfl, Nat.le_of_ble_eq_true rfl, rfl⟩) rfl (fun w G79 => gm_V (fun hw => ?_))
      subst hw
      refine g_aload ((q_95 _).trans rfl) rfl ?_
      refine g_getR ((q_95 _).trans rfl) (fun a81 => ?_)
      refine g_new ((q_95 _).trans rfl) ?_
      refine g_dup_ref ((q_95 _).trans rfl) ?_
      refine g_iload ((q_95 _).trans rfl) rfl ?_
      refine g_iload ((q_95 _).trans rfl) rfl ?_
      refine g_callI (kk := 2) ((q_95 _).trans rfl) (gHn m_95) rfl (by exact ⟨Nat.le_of_ble_eq_true rfl, rfl⟩) rfl (fun w G82 => gm_V (fun hw => ?_))
      subst hw
      refine g_callV (kk := 1) ((q_95 _).trans rfl) (gHn m_95) rfl (by exact ⟨Nat.le_of_ble_eq_true rfl, rfl⟩) rfl (fun w G84 => gm_I (fun v85 hw => ?_))
      subst hw
      refine g_pop_int ((q_95 _).trans rfl) ?_
      refine g_aload ((q_95 _).trans rfl) rfl ?_
      refine g_callV (kk := 0) ((q_95 _).trans rfl) (gHn m_95) rfl (by exact ⟨Nat.le_of_ble_eq_true rfl, rfl⟩) rfl (fun w G86 => gm_V (fun hw => ?_))
      subst hw
      refine g_aload ((q_95 _).trans rfl) rfl ?_
      refine g_getR ((q_95 _).trans rfl) (fun a88 => ?_)
      refine g_callV (kk := 0) ((q_95 _).trans rfl) (gHn m_95) rfl (by exact ⟨Nat.le_of_ble_eq_true rfl, rfl⟩) rfl (fun w G89 => gm_I (fun v90 hw => ?_))
      subst hw
      exact g_iret ((q_95 _).trans rfl)
theorem c_95 {K : gK} {d : Nat} {l0 : Nat} {l1 : Int32} {l2 : Int32} {l3 : Int32} {G : gH} : gle (t_95_0 K d l0 l1 l2 l3 G) (gCa K (d + 1) 95 [.ref l0, .int l1, .int l2, .int l3] G) := by
  have h : gent (gMx 95) [.ref l0, .int l1, .int l2, .int l3] = [some (.ref l0), some (.int l1), some (.int l2), some (.int l3), none] := by
    show gent (gT 95).2.2.2.1 _ = _
    rw [m_95]; rfl
  exact fun r e => (congrArg (fun q => gRn K d 95 0 q [] G) h).trans (e_95_0 r e)
theorem q_96 {K : gK} (pc : Nat) : gP K 96 pc = ((gL_96 K).lookup pc).getD o_none := rfl
noncomputable def t_96_0_1 (K : gK) (d : Nat) (v3 : Int32) (G2 : gH) : Option gO := if narrow .boolean (.int v3) = .int v3 then some (.inl (some (.int v3)), G2) else none
noncomputable def t_96_0_2 (K : gK) (d : Nat) (l1 : Int32) (G : gH) (v1 : Int32) : Option gO := cI (gCa K d 89 [.int l1, .int (0 : Int32), .int (v1 - (1 : Int32))] G) (t_96_0_1 K d)
noncomputable def t_96_0 (K : gK) (d : Nat) (l0 : Nat) (l1 : Int32) (G : gH) : Option gO := rI G l0 3 7 (t_96_0_2 K d l1 G)
theorem e_96_0 {K : gK} {d : Nat} {l0 : Nat} {l1 : Int32} {G : gH} : gle (t_96_0 K d l0 l1 G) (gRn K d 96 0 [some (.ref l0), some (.int l1)] [] G) := by
  unfold t_96_0
  refine g_iload ((q_96 _).trans rfl) rfl ?_
  refine g_push ((q_96 _).trans rfl) ?_
  refine g_aload ((q_96 _).trans rfl) rfl ?_
  refine g_getI ((q_96 _).trans rfl) (fun v1 => ?_)
  refine g_push ((q_96 _).trans rfl) ?_
  refine g_isub ((q_96 _).trans rfl) ?_
  refine g_callS (kk := 3) ((q_96 _).trans rfl) (gHn m_96) (by exact ⟨Nat.le_of_ble_eq_true rfl, Nat.le_of_ble_eq_true rfl, rfl⟩) rfl (fun w G2 => gm_I (fun v3 hw => ?_))
  subst hw
  exact g_zret ((q_96 _).trans rfl)
theorem c_96 {K : gK} {d : Nat} {l0 : Nat} {l1 : Int32} {G : gH} : gle (t_96_0 K d l0 l1 G) (gCa K (d + 1) 96 [.ref l0, .int l1] G) := by
  have h : gent (gMx 96) [.ref l0, .int l1] = [some (.ref l0), some (.int l1)] := by
    show gent (gT 96).2.2.2.1 _ = _
    rw [m_96]; rfl
  exact fun r e => (congrArg (fun q => gRn K d 96 0 q [] G) h).trans (e_96_0 r e)
theorem q_97 {K : gK} (pc : Nat) : gP K 97 pc = ((gL_97 K).lookup pc).getD o_none := rfl
noncomputable def t_97_0 (K : gK) (d : Nat) (l0 : Nat) (l1 : Int32) (G : gH) : Option gO := gRn K d 97 4 [some (.ref l0), some (.int l1), some (.int (0 : Int32)), some (.int (0 : Int32))] [] G
theorem e_97_0 {K : gK} {d : Nat} {l0 : Nat} {l1 : Int32} {G : gH} : gle (t_97_0 K d l0 l1 G) (gRn K d 97 0 [some (.ref l0), some (.int l1), none, none] [] G) := by
  unfold t_97_0
  refine g_push ((q_97 _).trans rfl) ?_
  refine g_istore ((q_97 _).trans rfl) ?_
  refine g_push ((q_97 _).trans rfl) ?_
  refine g_istore ((q_97 _).trans rfl) ?_
  exact gle.rf _
theorem c_97 {K : gK} {d : Nat} {l0 : Nat} {l1 : Int32} {G : gH} : gle (t_97_0 K d l0 l1 G) (gCa K (d + 1) 97 [.ref l0, .int l1] G) := by
  have h : gent (gMx 97) [.ref l0, .int l1] = [some (.ref l0), some (.int l1), none, none] := by
    show gent (gT 97).2.2.2.1 _ = _
    rw [m_97]; rfl
  exact fun r e => (congrArg (fun q => gRn K d 97 0 q [] G) h).trans (e_97_0 r e)
noncomputable def t_97_4_1 (K : gK) (d : Nat) (l1 : Int32) (l0 : Nat) (l3 : Int32) (G : gH) (v3 : Int32) : Option gO := if v3 = l1 then (gRn K d 97 4 [some (.ref l0), some (.int l1), some (.int (1 : Int32)), some (.int (l3 + 1))] [] G) else (gRn K d 97 4 [some (.ref l0), some (.int l1), some (.int (0 : Int32)), some (.int (l3 + 1))] [] G)
noncomputable def t_97_4_2 (K : gK) (d : Nat) (G : gH) (l3 : Int32) (l1 : Int32) (l0 : Nat) (a2 : Nat) : Option gO := xI G a2 0 l3 (t_97_4_1 K d l1 l0 l3 G)
noncomputable def t_97_4_3 (K : gK) (d : Nat) (l3 : Int32) (l2 : Int32) (G : gH) (l0 : Nat) (l1 : Int32) (v1 : Int32) : Option gO := if v1 ≤ l3 then (if narrow .boolean (.int l2) = .int l2 then some (.inl (some (.int l2)), G) else none) else (if l2 = 0 then (rR G l0 3 20 (t_97_4_2 K d G l3 l1 l0)) else (gRn K d 97 4 [some (.ref l0), some (.int l1), some (.int (1 : Int32)), some (.int (l3 + 1))] [] G))
noncomputable def t_97_4 (K : gK) (d : Nat) (l0 : Nat) (l1 : Int32) (l2 : Int32) (l3 : Int32) (G : gH) : Option gO := rI G l0 3 17 (t_97_4_3 K d l3 l2 G l0 l1)
theorem e_97_4 {K : gK} {d : Nat} {l0 : Nat} {l1 : Int32} {l2 : Int32} {l3 : Int32} {G : gH} : gle (t_97_4 K d l0 l1 l2 l3 G) (gRn K d 97 4 [some (.ref l0), some (.int l1), some (.int l2), some (.int l3)] [] G) := by
  unfold t_97_4
  refine g_iload ((q_97 _).trans rfl) rfl ?_
  refine g_aload ((q_97 _).trans rfl) rfl ?_
  refine g_getI ((q_97 _).trans rfl) (fun v1 => ?_)
  refine g_cmpge ((q_97 _).trans rfl) (fun _ => ?_) (fun _ => ?_)
  · refine g_iload ((q_97 _).trans rfl) rfl ?_
    exact g_zret ((q_97 _).trans rfl)
  · refine g_iload ((q_97 _).trans rfl) rfl ?_
    refine g_ifne ((q_97 _).trans rfl) (fun _ => ?_) (fun _ => ?_)
    · refine g_aload ((q_97 _).trans rfl) rfl ?_
      refine g_getR ((q_97 _).trans rfl) (fun a2 => ?_)
      refine g_iload ((q_97 _).trans rfl) rfl ?_
      refine g_iald ((q_97 _).trans rfl) (fun v3 => ?_)
      refine g_iload ((q_97 _).trans rfl) rfl ?_
      refine g_cmpne ((q_97 _).trans rfl) (fun _ => ?_) (fun _ => ?_)
      · refine g_push ((q_97 _).trans rfl) ?_
        refine g_goto ((q_97 _).trans rfl) ?_
        refine g_istore ((q_97 _).trans rfl) ?_
        refine g_iinc ((q_97 _).trans rfl) rfl ?_
        refine g_goto ((q_97 _).trans rfl) ?_
        exact gle.rf _
      · refine g_push ((q_97 _).trans rfl) ?_
        refine g_istore ((q_97 _).trans rfl) ?_
        refine g_iinc ((q_97 _).trans rfl) rfl ?_
        refine g_goto ((q_97 _).trans rfl) ?_
        exact gle.rf _
    · refine g_push ((q_97 _).trans rfl) ?_
      refine g_goto ((q_97 _).trans rfl) ?_
      refine g_istore ((q_97 _).trans rfl) ?_
      refine g_iinc ((q_97 _).trans rfl) rfl ?_
      refine g_goto ((q_97 _).trans rfl) ?_
      exact gle.rf _
theorem q_98 {K : gK} (pc : Nat) : gP K 98 pc = ((gL_98 K).lookup pc).getD o_none := rfl
noncomputable def t_98_0_1 (K : gK) (d : Nat) (v11 : Int32) (G16 : gH) : Option gO := some (.inl (some (.int v11)), G16)
noncomputable def t_98_0_2 (K : gK) (d : Nat) (a2 : Nat) (v11 : Int32) (G15 : gH) : Option gO := if g_cls G15 a2 = some 4 then (cV (gCa K d 162 [.ref a2] G15) (t_98_0_1 K d v11)) else none
noncomputable def t_98_0_3 (K : gK) (d : Nat) (G12 : gH) (a2 : Nat) (v11 : Int32) (G13 : gH) : Option gO := if narrow (.object "CuttingRoom$Cell") (.ref (G12.2.1)) = .ref (G12.2.1) ∧ fits (.object "CuttingRoom$Cell") (.ref (G12.2.1)) = true then wF G13 a2 4 4 (.ref (G12.2.1)) (t_98_0_2 K d a2 v11) else none
noncomputable def t_98_0_4 (K : gK) (d : Nat) (l3 : Int32) (l4 : Int32) (a2 : Nat) (v11 : Int32) (G12 : gH) : Option gO := cV (gCa K d 161 [.ref (G12.2.1), .int l3, .int l4] (gnew G12 (.inr (5, [.int 0, .int 0])) 2)) (t_98_0_3 K d G12 a2 v11)
noncomputable def t_98_0_5 (K : gK) (d : Nat) (l2 : Int32) (G9 : gH) (a2 : Nat) (l3 : Int32) (l4 : Int32) (v11 : Int32) : Option gO := if narrow .int (.int l2) = .int l2 ∧ fits .int (.int l2) = true then wF G9 a2 4 3 (.int l2) (t_98_0_4 K d l3 l4 a2 v11) else none
noncomputable def t_98_0_6 (K : gK) (d : Nat) (a2 : Nat) (l2 : Int32) (l3 : Int32) (l4 : Int32) (G9 : gH) : Option gO := rI G9 a2 4 3 (t_98_0_5 K d l2 G9 a2 l3 l4)
noncomputable def t_98_0_7 (K : gK) (d : Nat) (v20 : Int32) (G25 : gH) : Option gO := some (.inl (some (.int v20)), G25)
noncomputable def t_98_0_8 (K : gK) (d : Nat) (a2 : Nat) (v20 : Int32) (G24 : gH) : Option gO := if g_cls G24 a2 = some 4 then (cV (gCa K d 162 [.ref a2] G24) (t_98_0_7 K d v20)) else none
noncomputable def t_98_0_9 (K : gK) (d : Nat) (G21 : gH) (a2 : Nat) (v20 : Int32) (G22 : gH) : Option gO := if narrow (.object "CuttingRoom$Cell") (.ref (G21.2.1)) = .ref (G21.2.1) ∧ fits (.object "CuttingRoom$Cell") (.ref (G21.2.1)) = true then wF G22 a2 4 4 (.ref (G21.2.1)) (t_98_0_8 K d a2 v20) else none
noncomputable def t_98_0_10 (K : gK) (d : Nat) (l3 : Int32) (l4 : Int32) (a2 : Nat) (v20 : Int32) (G21 : gH) : Option gO := cV (gCa K d 161 [.ref (G21.2.1), .int l3, .int l4] (gnew G21 (.inr (5, [.int 0, .int 0])) 2)) (t_98_0_9 K d G21 a2 v20)
noncomputable def t_98_0_11 (K : gK) (d : Nat) (l2 : Int32) (G18 : gH) (a2 : Nat) (l3 : Int32) (l4 : Int32) (v20 : Int32) : Option gO := if narrow .int (.int l2) = .int l2 ∧ fits .int (.int l2) = true then wF G18 a2 4 3 (.int l2) (t_98_0_10 K d l3 l4 a2 v20) else none
noncomputable def t_98_0_12 (K : gK) (d : Nat) (a2 : Nat) (l2 : Int32) (l3 : Int32) (l4 : Int32) (G18 : gH) : Option gO := rI G18 a2 4 3 (t_98_0_11 K d l2 G18 a2 l3 l4)
noncomputable def t_98_0_13 (K : gK) (d : Nat) (a2 : Nat) (l2 : Int32) (l3 : Int32) (l4 : Int32) (v8 : Int32) (G7 : gH) : Option gO := if v8 = 0 then (cV (gCa K d 151 [.int (1 : Int32)] G7) (t_98_0_6 K d a2 l2 l3 l4)) else (cV (gCa K d 151 [.int (0 : Int32)] G7) (t_98_0_12 K d a2 l2 l3 l4))
noncomputable def t_98_0_14 (K : gK) (d : Nat) (l0 : Nat) (a2 : Nat) (l2 : Int32) (l3 : Int32) (l4 : Int32) (G5 : gH) : Option gO := if g_cls G5 l0 = some 0 then (cI (gCa K d 160 [.ref l0, .ref a2] G5) (t_98_0_13 K d a2 l2 l3 l4)) else none
noncomputable def t_98_0_15 (K : gK) (d : Nat) (v35 : Int32) (G40 : gH) : Option gO := some (.inl (some (.int v35)), G40)
noncomputable def t_98_0_16 (K : gK) (d : Nat) (a2 : Nat) (v35 : Int32) (G39 : gH) : Option gO := if g_cls G39 a2 = some 4 then (cV (gCa K d 162 [.ref a2] G39) (t_98_0_15 K d v35)) else none
noncomputable def t_98_0_17 (K : gK) (d : Nat) (G36 : gH) (a2 : Nat) (v35 : Int32) (G37 : gH) : Option gO := if narrow (.object "CuttingRoom$Cell") (.ref (G36.2.1)) = .ref (G36.2.1) ∧ fits (.object "CuttingRoom$Cell") (.ref (G36.2.1)) = true then wF G37 a2 4 4 (.ref (G36.2.1)) (t_98_0_16 K d a2 v35) else none
noncomputable def t_98_0_18 (K : gK) (d : Nat) (l3 : Int32) (l4 : Int32) (a2 : Nat) (v35 : Int32) (G36 : gH) : Option gO := cV (gCa K d 161 [.ref (G36.2.1), .int l3, .int l4] (gnew G36 (.inr (5, [.int 0, .int 0])) 2)) (t_98_0_17 K d G36 a2 v35)
noncomputable def t_98_0_19 (K : gK) (d : Nat) (l2 : Int32) (G33 : gH) (a2 : Nat) (l3 : Int32) (l4 : Int32) (v35 : Int32) : Option gO := if narrow .int (.int l2) = .int l2 ∧ fits .int (.int l2) = true then wF G33 a2 4 3 (.int l2) (t_98_0_18 K d l3 l4 a2 v35) else none
noncomputable def t_98_0_20 (K : gK) (d : Nat) (a2 : Nat) (l2 : Int32) (l3 : Int32) (l4 : Int32) (G33 : gH) : Option gO := rI G33 a2 4 3 (t_98_0_19 K d l2 G33 a2 l3 l4)
noncomputable def t_98_0_21 (K : gK) (d : Nat) (v44 : Int32) (G49 : gH) : Option gO := some (.inl (some (.int v44)), G49)
noncomputable def t_98_0_22 (K : gK) (d : Nat) (a2 : Nat) (v44 : Int32) (G48 : gH) : Option gO := if g_cls G48 a2 = some 4 then (cV (gCa K d 162 [.ref a2] G48) (t_98_0_21 K d v44)) else none
noncomputable def t_98_0_23 (K : gK) (d : Nat) (G45 : gH) (a2 : Nat) (v44 : Int32) (G46 : gH) : Option gO := if narrow (.object "CuttingRoom$Cell") (.ref (G45.2.1)) = .ref (G45.2.1) ∧ fits (.object "CuttingRoom$Cell") (.ref (G45.2.1)) = true then wF G46 a2 4 4 (.ref (G45.2.1)) (t_98_0_22 K d a2 v44) else none
noncomputable def t_98_0_24 (K : gK) (d : Nat) (l3 : Int32) (l4 : Int32) (a2 : Nat) (v44 : Int32) (G45 : gH) : Option gO := cV (gCa K d 161 [.ref (G45.2.1), .int l3, .int l4] (gnew G45 (.inr (5, [.int 0, .int 0])) 2)) (t_98_0_23 K d G45 a2 v44)
noncomputable def t_98_0_25 (K : gK) (d : Nat) (l2 : Int32) (G42 : gH) (a2 : Nat) (l3 : Int32) (l4 : Int32) (v44 : Int32) : Option gO := if narrow .int (.int l2) = .int l2 ∧ fits .int (.int l2) = true then wF G42 a2 4 3 (.int l2) (t_98_0_24 K d l3 l4 a2 v44) else none
noncomputable def t_98_0_26 (K : gK) (d : Nat) (a2 : Nat) (l2 : Int32) (l3 : Int32) (l4 : Int32) (G42 : gH) : Option gO := rI G42 a2 4 3 (t_98_0_25 K d l2 G42 a2 l3 l4)
noncomputable def t_98_0_27 (K : gK) (d : Nat) (a2 : Nat) (l2 : Int32) (l3 : Int32) (l4 : Int32) (v32 : Int32) (G31 : gH) : Option gO := if v32 = 0 then (cV (gCa K d 151 [.int (1 : Int32)] G31) (t_98_0_20 K d a2 l2 l3 l4)) else (cV (gCa K d 151 [.int (0 : Int32)] G31) (t_98_0_26 K d a2 l2 l3 l4))
noncomputable def t_98_0_28 (K : gK) (d : Nat) (l0 : Nat) (a2 : Nat) (l2 : Int32) (l3 : Int32) (l4 : Int32) (G29 : gH) : Option gO := if g_cls G29 l0 = some 0 then (cI (gCa K d 160 [.ref l0, .ref a2] G29) (t_98_0_27 K d a2 l2 l3 l4)) else none
noncomputable def t_98_0_29 (K : gK) (d : Nat) (v57 : Int32) (G62 : gH) : Option gO := some (.inl (some (.int v57)), G62)
noncomputable def t_98_0_30 (K : gK) (d : Nat) (a2 : Nat) (v57 : Int32) (G61 : gH) : Option gO := if g_cls G61 a2 = some 4 then (cV (gCa K d 162 [.ref a2] G61) (t_98_0_29 K d v57)) else none
noncomputable def t_98_0_31 (K : gK) (d : Nat) (G58 : gH) (a2 : Nat) (v57 : Int32) (G59 : gH) : Option gO := if narrow (.object "CuttingRoom$Cell") (.ref (G58.2.1)) = .ref (G58.2.1) ∧ fits (.object "CuttingRoom$Cell") (.ref (G58.2.1)) = true then wF G59 a2 4 4 (.ref (G58.2.1)) (t_98_0_30 K d a2 v57) else none
noncomputable def t_98_0_32 (K : gK) (d : Nat) (l3 : Int32) (l4 : Int32) (a2 : Nat) (v57 : Int32) (G58 : gH) : Option gO := cV (gCa K d 161 [.ref (G58.2.1), .int l3, .int l4] (gnew G58 (.inr (5, [.int 0, .int 0])) 2)) (t_98_0_31 K d G58 a2 v57)
noncomputable def t_98_0_33 (K : gK) (d : Nat) (l2 : Int32) (G55 : gH) (a2 : Nat) (l3 : Int32) (l4 : Int32) (v57 : Int32) : Option gO := if narrow .int (.int l2) = .int l2 ∧ fits .int (.int l2) = true then wF G55 a2 4 3 (.int l2) (t_98_0_32 K d l3 l4 a2 v57) else none
noncomputable def t_98_0_34 (K : gK) (d : Nat) (a2 : Nat) (l2 : Int32) (l3 : Int32) (l4 : Int32) (G55 : gH) : Option gO := rI G55 a2 4 3 (t_98_0_33 K d l2 G55 a2 l3 l4)
noncomputable def t_98_0_35 (K : gK) (d : Nat) (v66 : Int32) (G71 : gH) : Option gO := some (.inl (some (.int v66)), G71)
noncomputable def t_98_0_36 (K : gK) (d : Nat) (a2 : Nat) (v66 : Int32) (G70 : gH) : Option gO := if g_cls G70 a2 = some 4 then (cV (gCa K d 162 [.ref a2] G70) (t_98_0_35 K d v66)) else none
noncomputable def t_98_0_37 (K : gK) (d : Nat) (G67 : gH) (a2 : Nat) (v66 : Int32) (G68 : gH) : Option gO := if narrow (.object "CuttingRoom$Cell") (.ref (G67.2.1)) = .ref (G67.2.1) ∧ fits (.object "CuttingRoom$Cell") (.ref (G67.2.1)) = true then wF G68 a2 4 4 (.ref (G67.2.1)) (t_98_0_36 K d a2 v66) else none
noncomputable def t_98_0_38 (K : gK) (d : Nat) (l3 : Int32) (l4 : Int32) (a2 : Nat) (v66 : Int32) (G67 : gH) : Option gO := cV (gCa K d 161 [.ref (G67.2.1), .int l3, .int l4] (gnew G67 (.inr (5, [.int 0, .int 0])) 2)) (t_98_0_37 K d G67 a2 v66)
noncomputable def t_98_0_39 (K : gK) (d : Nat) (l2 : Int32) (G64 : gH) (a2 : Nat) (l3 : Int32) (l4 : Int32) (v66 : Int32) : Option gO := if narrow .int (.int l2) = .int l2 ∧ fits .int (.int l2) = true then wF G64 a2 4 3 (.int l2) (t_98_0_38 K d l3 l4 a2 v66) else none
noncomputable def t_98_0_40 (K : gK) (d : Nat) (a2 : Nat) (l2 : Int32) (l3 : Int32) (l4 : Int32) (G64 : gH) : Option gO := rI G64 a2 4 3 (t_98_0_39 K d l2 G64 a2 l3 l4)
noncomputable def t_98_0_41 (K : gK) (d : Nat) (a2 : Nat) (l2 : Int32) (l3 : Int32) (l4 : Int32) (v54 : Int32) (G53 : gH) : Option gO := if v54 = 0 then (cV (gCa K d 151 [.int (1 : Int32)] G53) (t_98_0_34 K d a2 l2 l3 l4)) else (cV (gCa K d 151 [.int (0 : Int32)] G53) (t_98_0_40 K d a2 l2 l3 l4))
noncomputable def t_98_0_42 (K : gK) (d : Nat) (l0 : Nat) (a2 : Nat) (l2 : Int32) (l3 : Int32) (l4 : Int32) (G51 : gH) : Option gO := if g_cls G51 l0 = some 0 then (cI (gCa K d 160 [.ref l0, .ref a2] G51) (t_98_0_41 K d a2 l2 l3 l4)) else none
noncomputable def t_98_0_43 (K : gK) (d : Nat) (l0 : Nat) (a2 : Nat) (l2 : Int32) (l3 : Int32) (l4 : Int32) (v28 : Int32) (G27 : gH) : Option gO := if v28 = 0 then (cV (gCa K d 149 [.int (0 : Int32)] G27) (t_98_0_28 K d l0 a2 l2 l3 l4)) else (cV (gCa K d 149 [.int (1 : Int32)] G27) (t_98_0_42 K d l0 a2 l2 l3 l4))
noncomputable def t_98_0_44 (K : gK) (d : Nat) (l0 : Nat) (a2 : Nat) (l2 : Int32) (l3 : Int32) (l4 : Int32) (v4 : Int32) (G3 : gH) : Option gO := if v4 = 0 then (cV (gCa K d 149 [.int (0 : Int32)] G3) (t_98_0_14 K d l0 a2 l2 l3 l4)) else (cI (gCa K d 158 [.int l3, .int l4] G3) (t_98_0_43 K d l0 a2 l2 l3 l4))
noncomputable def t_98_0_45 (K : gK) (d : Nat) (l2 : Int32) (l0 : Nat) (l3 : Int32) (l4 : Int32) (a2 : Nat) (G1 : gH) : Option gO := cI (gCa K d 148 [.int l2, .int ((-1) : Int32), .int (3 : Int32)] G1) (t_98_0_44 K d l0 a2 l2 l3 l4)
noncomputable def t_98_0 (K : gK) (d : Nat) (l0 : Nat) (l1 : Int32) (l2 : Int32) (l3 : Int32) (l4 : Int32) (G : gH) : Option gO := if g_cls G l0 = some 0 then (cR (gCa K d 157 [.ref l0, .int l1] G) (t_98_0_45 K d l2 l0 l3 l4)) else none
theorem e_98_0 {K : gK} {d : Nat} {l0 : Nat} {l1 : Int32} {l2 : Int32} {l3 : Int32} {l4 : Int32} {G : gH} : gle (t_98_0 K d l0 l1 l2 l3 l4 G) (gRn K d 98 0 [some (.ref l0), some (.int l1), some (.int l2), some (.int l3), some (.int l4), none, none] [] G) := by
  unfold t_98_0
  refine g_aload ((q_98 _).trans rfl) rfl ?_
  refine g_iload ((q_98 _).trans rfl) rfl ?_
  refine g_callV (kk := 1) ((q_98 _).trans rfl) (gHn m_98) rfl (by exact ⟨Nat.le_of_ble_eq_true rfl, rfl⟩) rfl (fun w G1 => gm_R (fun a2 hw => ?_))
  subst hw
  refine g_astore ((q_98 _).trans rfl) ?_
  refine g_iload ((q_98 _).trans rfl) rfl ?_
  refine g_push ((q_98 _).trans rfl) ?_
  refine g_push ((q_98 _).trans rfl) ?_
  refine g_callS (kk := 3) ((q_98 _).trans rfl) (gHn m_98) (by exact ⟨Nat.le_of_ble_eq_true rfl, Nat.le_of_ble_eq_true rfl, rfl⟩) rfl (fun w G3 => gm_I (fun v4 hw => ?_))
  subst hw
  refine g_ifeq ((q_98 _).trans rfl) (fun _ => ?_) (fun _ => ?_)
  · refine g_push ((q_98 _).trans rfl) ?_
    refine g_callS (kk := 1) ((q_98 _).trans rfl) (gHn m_98) (by exact ⟨Nat.le_of_ble_eq_true rfl, Nat.le_of_ble_eq_true rfl, rfl⟩) rfl (fun w G5 => gm_V (fun hw => ?_))
    subst hw
    refine g_aload ((q_98 _).trans rfl) rfl ?_
    refine g_aload ((q_98 _).trans rfl) rfl ?_
    refine g_callV (kk := 1) ((q_98 _).trans rfl) (gHn m_98) rfl (by exact ⟨Nat.le_of_ble_eq_true rfl, rfl⟩) rfl (fun w G7 => gm_I (fun v8 hw => ?_))
    subst hw
    refine g_ifne ((q_98 _).trans rfl) (fun _ => ?_) (fun _ => ?_)
    · refine g_push ((q_98 _).trans rfl) ?_
      refine g_goto ((q_98 _).trans rfl) ?_
      refine g_callS (kk := 1) ((q_98 _).trans rfl) (gHn m_98) (by exact ⟨Nat.le_of_ble_eq_true rfl, Nat.le_of_ble_eq_true rfl, rfl⟩) rfl (fun w G9 => gm_V (fun hw => ?_))
      subst hw
      refine g_aload ((q_98 _).trans rfl) rfl ?_
      refine g_getI ((q_98 _).trans rfl) (fun v11 => ?_)
      refine g_istore ((q_98 _).trans rfl) ?_
      refine g_aload ((q_98 _).trans rfl) rfl ?_
      refine g_iload ((q_98 _).trans rfl) rfl ?_
      refine g_putf ((q_98 _).trans rfl) (fun G12 => ?_)
      refine g_aload ((q_98 _).trans rfl) rfl ?_
      refine g_new ((q_98 _).trans rfl) ?_
      refine g_dup_ref ((q_98 _).trans rfl) ?_
      refine g_iload ((q_98 _).trans rfl) rfl ?_
      refine g_iload ((q_98 _).trans rfl) rfl ?_
      refine g_callI (kk := 2) ((q_98 _).trans rfl) (gHn m_98) rfl (by exact ⟨Nat.le_of_ble_eq_true rfl, rfl⟩) rfl (fun w G13 => gm_V (fun hw => ?_))
      subst hw
      refine g_putf ((q_98 _).trans rfl) (fun G15 => ?_)
      refine g_aload ((q_98 _).trans rfl) rfl ?_
      refine g_callV (kk := 0) ((q_98 _).trans rfl) (gHn m_98) rfl (by exact ⟨Nat.le_of_ble_eq_true rfl, rfl⟩) rfl (fun w G16 => gm_V (fun hw => ?_))
      subst hw
      refine g_iload ((q_98 _).trans rfl) rfl ?_
      exact g_iret ((q_98 _).trans rfl)
    · refine g_push ((q_98 _).trans rfl) ?_
      refine g_callS (kk := 1) ((q_98 _).trans rfl) (gHn m_98) (by exact ⟨Nat.le_of_ble_eq_true rfl, Nat.le_of_ble_eq_true rfl, rfl⟩) rfl (fun w G18 => gm_V (fun hw => ?_))
      subst hw
      refine g_aload ((q_98 _).trans rfl) rfl ?_
      refine g_getI ((q_98 _).trans rfl) (fun v20 => ?_)
      refine g_istore ((q_98 _).trans rfl) ?_
      refine g_aload ((q_98 _).trans rfl) rfl ?_
      refine g_iload ((q_98 _).trans rfl) rfl ?_
      refine g_putf ((q_98 _).trans rfl) (fun G21 => ?_)
      refine g_aload ((q_98 _).trans rfl) rfl ?_
      refine g_new ((q_98 _).trans rfl) ?_
      refine g_dup_ref ((q_98 _).trans rfl) ?_
      refine g_iload ((q_98 _).trans rfl) rfl ?_
      refine g_iload ((q_98 _).trans rfl) rfl ?_
      refine g_callI (kk := 2) ((q_98 _).trans rfl) (gHn m_98) rfl (by exact ⟨Nat.le_of_ble_eq_true rfl, rfl⟩) rfl (fun w G22 => gm_V (fun hw => ?_))
      subst hw
      refine g_putf ((q_98 _).trans rfl) (fun G24 => ?_)
      refine g_aload ((q_98 _).trans rfl) rfl ?_
      refine g_callV (kk := 0) ((q_98 _).trans rfl) (gHn m_98) rfl (by exact ⟨Nat.le_of_ble_eq_true rfl, rfl⟩) rfl (fun w G25 => gm_V (fun hw => ?_))
      subst hw
      refine g_iload ((q_98 _).trans rfl) rfl ?_
      exact g_iret ((q_98 _).trans rfl)
  · refine g_iload ((q_98 _).trans rfl) rfl ?_
    refine g_iload ((q_98 _).trans rfl) rfl ?_
    refine g_callS (kk := 2) ((q_98 _).trans rfl) (gHn m_98) (by exact ⟨Nat.le_of_ble_eq_true rfl, Nat.le_of_ble_eq_true rfl, rfl⟩) rfl (fun w G27 => gm_I (fun v28 hw => ?_))
    subst hw
    refine g_ifeq ((q_98 _).trans rfl) (fun _ => ?_) (fun _ => ?_)
    · refine g_push ((q_98 _).trans rfl) ?_
      refine g_callS (kk := 1) ((q_98 _).trans rfl) (gHn m_98) (by exact ⟨Nat.le_of_ble_eq_true rfl, Nat.le_of_ble_eq_true rfl, rfl⟩) rfl (fun w G29 => gm_V (fun hw => ?_))
      subst hw
      refine g_aload ((q_98 _).trans rfl) rfl ?_
      refine g_aload ((q_98 _).trans rfl) rfl ?_
      refine g_callV (kk := 1) ((q_98 _).trans rfl) (gHn m_98) rfl (by exact ⟨Nat.le_of_ble_eq_true rfl, rfl⟩) rfl (fun w G31 => gm_I (fun v32 hw => ?_))
      subst hw
      refine g_ifne ((q_98 _).trans rfl) (fun _ => ?_) (fun _ => ?_)
      · refine g_push ((q_98 _).trans rfl) ?_
        refine g_goto ((q_98 _).trans rfl) ?_
        refine g_callS (kk := 1) ((q_98 _).trans rfl) (gHn m_98) (by exact ⟨Nat.le_of_ble_eq_true rfl, Nat.le_of_ble_eq_true rfl, rfl⟩) rfl (fun w G33 => gm_V (fun hw => ?_))
        subst hw
        refine g_aload ((q_98 _).trans rfl) rfl ?_
        refine g_getI ((q_98 _).trans rfl) (fun v35 => ?_)
        refine g_istore ((q_98 _).trans rfl) ?_
        refine g_aload ((q_98 _).trans rfl) rfl ?_
        refine g_iload ((q_98 _).trans rfl) rfl ?_
        refine g_putf ((q_98 _).trans rfl) (fun G36 => ?_)
        refine g_aload ((q_98 _).trans rfl) rfl ?_
        refine g_new ((q_98 _).trans rfl) ?_
        refine g_dup_ref ((q_98 _).trans rfl) ?_
        refine g_iload ((q_98 _).trans rfl) rfl ?_
        refine g_iload ((q_98 _).trans rfl) rfl ?_
        refine g_callI (kk := 2) ((q_98 _).trans rfl) (gHn m_98) rfl (by exact ⟨Nat.le_of_ble_eq_true rfl, rfl⟩) rfl (fun w G37 => gm_V (fun hw => ?_))
        subst hw
        refine g_putf ((q_98 _).trans rfl) (fun G39 => ?_)
        refine g_aload ((q_98 _).trans rfl) rfl ?_
        refine g_callV (kk := 0) ((q_98 _).trans rfl) (gHn m_98) rfl (by exact ⟨Nat.le_of_ble_eq_true rfl, rfl⟩) rfl (fun w G40 => gm_V (fun hw => ?_))
        subst hw
        refine g_iload ((q_98 _).trans rfl) rfl ?_
        exact g_iret ((q_98 _).trans rfl)
      · refine g_push ((q_98 _).trans rfl) ?_
        refine g_callS (kk := 1) ((q_98 _).trans rfl) (gHn m_98) (by exact ⟨Nat.le_of_ble_eq_true rfl, Nat.le_of_ble_eq_true rfl, rfl⟩) rfl (fun w G42 => gm_V (fun hw => ?_))
        subst hw
        refine g_aload ((q_98 _).trans rfl) rfl ?_
        refine g_getI ((q_98 _).trans rfl) (fun v44 => ?_)
        refine g_istore ((q_98 _).trans rfl) ?_
        refine g_aload ((q_98 _).trans rfl) rfl ?_
        refine g_iload ((q_98 _).trans rfl) rfl ?_
        refine g_putf ((q_98 _).trans rfl) (fun G45 => ?_)
        refine g_aload ((q_98 _).trans rfl) rfl ?_
        refine g_new ((q_98 _).trans rfl) ?_
        refine g_dup_ref ((q_98 _).trans rfl) ?_
        refine g_iload ((q_98 _).trans rfl) rfl ?_
        refine g_iload ((q_98 _).trans rfl) rfl ?_
        refine g_callI (kk := 2) ((q_98 _).trans rfl) (gHn m_98) rfl (by exact ⟨Nat.le_of_ble_eq_true rfl, rfl⟩) rfl (fun w G46 => gm_V (fun hw => ?_))
        subst hw
        refine g_putf ((q_98 _).trans rfl) (fun G48 => ?_)
        refine g_aload ((q_98 _).trans rfl) rfl ?_
        refine g_callV (kk := 0) ((q_98 _).trans rfl) (gHn m_98) rfl (by exact ⟨Nat.le_of_ble_eq_true rfl, rfl⟩) rfl (fun w G49 => gm_V (fun hw => ?_))
        subst hw
        refine g_iload ((q_98 _).trans rfl) rfl ?_
        exact g_iret ((q_98 _).trans rfl)
    · refine g_push ((q_98 _).trans rfl) ?_
      refine g_goto ((q_98 _).trans rfl) ?_
      refine g_callS (kk := 1) ((q_98 _).trans rfl) (gHn m_98) (by exact ⟨Nat.le_of_ble_eq_true rfl, Nat.le_of_ble_eq_true rfl, rfl⟩) rfl (fun w G51 => gm_V (fun hw => ?_))
      subst hw
      refine g_aload ((q_98 _).trans rfl) rfl ?_
      refine g_aload ((q_98 _).trans rfl) rfl ?_
      refine g_callV (kk := 1) ((q_98 _).trans rfl) (gHn m_98) rfl (by exact ⟨Nat.le_of_ble_eq_true rfl, rfl⟩) rfl (fun w G53 => gm_I (fun v54 hw => ?_))
      subst hw
      refine g_ifne ((q_98 _).trans rfl) (fun _ => ?_) (fun _ => ?_)
      · refine g_push ((q_98 _).trans rfl) ?_
        refine g_goto ((q_98 _).trans rfl) ?_
        refine g_callS (kk := 1) ((q_98 _).trans rfl) (gHn m_98) (by exact ⟨Nat.le_of_ble_eq_true rfl, Nat.le_of_ble_eq_true rfl, rfl⟩) rfl (fun w G55 => gm_V (fun hw => ?_))
        subst hw
        refine g_aload ((q_98 _).trans rfl) rfl ?_
        refine g_getI ((q_98 _).trans rfl) (fun v57 => ?_)
        refine g_istore ((q_98 _).trans rfl) ?_
        refine g_aload ((q_98 _).trans rfl) rfl ?_
        refine g_iload ((q_98 _).trans rfl) rfl ?_
        refine g_putf ((q_98 _).trans rfl) (fun G58 => ?_)
        refine g_aload ((q_98 _).trans rfl) rfl ?_
        refine g_new ((q_98 _).trans rfl) ?_
        refine g_dup_ref ((q_98 _).trans rfl) ?_
        refine g_iload ((q_98 _).trans rfl) rfl ?_
        refine g_iload ((q_98 _).trans rfl) rfl ?_
        refine g_callI (kk := 2) ((q_98 _).trans rfl) (gHn m_98) rfl (by exact ⟨Nat.le_of_ble_eq_true rfl, rfl⟩) rfl (fun w G59 => gm_V (fun hw => ?_))
        subst hw
        refine g_putf ((q_98 _).trans rfl) (fun G61 => ?_)
        refine g_aload ((q_98 _).trans rfl) rfl ?_
        refine g_callV (kk := 0) ((q_98 _).trans rfl) (gHn m_98) rfl (by exact ⟨Nat.le_of_ble_eq_true rfl, rfl⟩) rfl (fun w G62 => gm_V (fun hw => ?_))
        subst hw
        refine g_iload ((q_98 _).trans rfl) rfl ?_
        exact g_iret ((q_98 _).trans rfl)
      · refine g_push ((q_98 _).trans rfl) ?_
        refine g_callS (kk := 1) ((q_98 _).trans rfl) (gHn m_98) (by exact ⟨Nat.le_of_ble_eq_true rfl, Nat.le_of_ble_eq_true rfl, rfl⟩) rfl (fun w G64 => gm_V (fun hw => ?_))
        subst hw
        refine g_aload ((q_98 _).trans rfl) rfl ?_
        refine g_getI ((q_98 _).trans rfl) (fun v66 => ?_)
        refine g_istore ((q_98 _).trans rfl) ?_
        refine g_aload ((q_98 _).trans rfl) rfl ?_
        refine g_iload ((q_98 _).trans rfl) rfl ?_
        refine g_putf ((q_98 _).trans rfl) (fun G67 => ?_)
        refine g_aload ((q_98 _).trans rfl) rfl ?_
        refine g_new ((q_98 _).trans rfl) ?_
        refine g_dup_ref ((q_98 _).trans rfl) ?_
        refine g_iload ((q_98 _).trans rfl) rfl ?_
        refine g_iload ((q_98 _).trans rfl) rfl ?_
        refine g_callI (kk := 2) ((q_98 _).trans rfl) (gHn m_98) rfl (by exact ⟨Nat.le_of_ble_eq_true rfl, rfl⟩) rfl (fun w G68 => gm_V (fun hw => ?_))
        subst hw
        refine g_putf ((q_98 _).trans rfl) (fun G70 => ?_)
        refine g_aload ((q_98 _).trans rfl) rfl ?_
        refine g_callV (kk := 0) ((q_98 _).trans rfl) (gHn m_98) rfl (by exact ⟨Nat.le_of_ble_eq_true rfl, rfl⟩) rfl (fun w G71 => gm_V (fun hw => ?_))
        subst hw
        refine g_iload ((q_98 _).trans rfl) rfl ?_
        exact g_iret ((q_98 _).trans rfl)
theorem c_98 {K : gK} {d : Nat} {l0 : Nat} {l1 : Int32} {l2 : Int32} {l3 : Int32} {l4 : Int32} {G : gH} : gle (t_98_0 K d l0 l1 l2 l3 l4 G) (gCa K (d + 1) 98 [.ref l0, .int l1, .int l2, .int l3, .int l4] G) := by
  have h : gent (gMx 98) [.ref l0, .int l1, .int l2, .int l3, .int l4] = [some (.ref l0), some (.int l1), some (.int l2), some (.int l3), some (.int l4), none, none] := by
    show gent (gT 98).2.2.2.1 _ = _
    rw [m_98]; rfl
  exact fun r e => (congrArg (fun q => gRn K d 98 0 q [] G) h).trans (e_98_0 r e)
theorem q_99 {K : gK} (pc : Nat) : gP K 99 pc = ((gL_99 K).lookup pc).getD o_none := rfl
noncomputable def t_99_0_1 (K : gK) (d : Nat) (v5 : Int32) (G4 : gH) : Option gO := some (.inl (some (.int v5)), G4)
noncomputable def t_99_0_2 (K : gK) (d : Nat) (G1 : gH) (a3 : Nat) : Option gO := if g_cls G1 a3 = some 12 then (cI (gCa K d 110 [.ref a3] G1) (t_99_0_1 K d)) else none
noncomputable def t_99_0_3 (K : gK) (d : Nat) (a2 : Nat) (G1 : gH) : Option gO := rR G1 a2 4 2 (t_99_0_2 K d G1)
noncomputable def t_99_0 (K : gK) (d : Nat) (l0 : Nat) (l1 : Int32) (G : gH) : Option gO := if g_cls G l0 = some 0 then (cR (gCa K d 157 [.ref l0, .int l1] G) (t_99_0_3 K d)) else none
theorem e_99_0 {K : gK} {d : Nat} {l0 : Nat} {l1 : Int32} {G : gH} : gle (t_99_0 K d l0 l1 G) (gRn K d 99 0 [some (.ref l0), some (.int l1)] [] G) := by
  unfold t_99_0
  refine g_aload ((q_99 _).trans rfl) rfl ?_
  refine g_iload ((q_99 _).trans rfl) rfl ?_
  refine g_callV (kk := 1) ((q_99 _).trans rfl) (gHn m_99) rfl (by exact ⟨Nat.le_of_ble_eq_true rfl, rfl⟩) rfl (fun w G1 => gm_R (fun a2 hw => ?_))
  subst hw
  refine g_getR ((q_99 _).trans rfl) (fun a3 => ?_)
  refine g_callV (kk := 0) ((q_99 _).trans rfl) (gHn m_99) rfl (by exact ⟨Nat.le_of_ble_eq_true rfl, rfl⟩) rfl (fun w G4 => gm_I (fun v5 hw => ?_))
  subst hw
  exact g_iret ((q_99 _).trans rfl)
theorem c_99 {K : gK} {d : Nat} {l0 : Nat} {l1 : Int32} {G : gH} : gle (t_99_0 K d l0 l1 G) (gCa K (d + 1) 99 [.ref l0, .int l1] G) := by
  have h : gent (gMx 99) [.ref l0, .int l1] = [some (.ref l0), some (.int l1)] := by
    show gent (gT 99).2.2.2.1 _ = _
    rw [m_99]; rfl
  exact fun r e => (congrArg (fun q => gRn K d 99 0 q [] G) h).trans (e_99_0 r e)
theorem q_100 {K : gK} (pc : Nat) : gP K 100 pc = ((gL_100 K).lookup pc).getD o_none := rfl
noncomputable def t_100_0_1 (K : gK) (d : Nat) (v22 : Int32) (G21 : gH) : Option gO := some (.inl (some (.int v22)), G21)
noncomputable def t_100_0_2 (K : gK) (d : Nat) (l0 : Nat) (G19 : gH) : Option gO := if g_cls G19 l0 = some 0 then (cI (gCa K d 167 [.ref l0] G19) (t_100_0_1 K d)) else none
noncomputable def t_100_0_3 (K : gK) (d : Nat) (v26 : Int32) (G25 : gH) : Option gO := some (.inl (some (.int v26)), G25)
noncomputable def t_100_0_4 (K : gK) (d : Nat) (l0 : Nat) (G23 : gH) : Option gO := if g_cls G23 l0 = some 0 then (cI (gCa K d 167 [.ref l0] G23) (t_100_0_3 K d)) else none
noncomputable def t_100_0_5 (K : gK) (d : Nat) (l0 : Nat) (v18 : Int32) (G17 : gH) : Option gO := if (40 : Int32) ≤ v18 then (cV (gCa K d 151 [.int (0 : Int32)] G17) (t_100_0_2 K d l0)) else (cV (gCa K d 151 [.int (1 : Int32)] G17) (t_100_0_4 K d l0))
noncomputable def t_100_0_6 (K : gK) (d : Nat) (G14 : gH) (l0 : Nat) (a16 : Nat) : Option gO := if g_cls G14 a16 = some 12 then (cI (gCa K d 110 [.ref a16] G14) (t_100_0_5 K d l0)) else none
noncomputable def t_100_0_7 (K : gK) (d : Nat) (l0 : Nat) (G14 : gH) : Option gO := rR G14 l0 0 2 (t_100_0_6 K d G14 l0)
noncomputable def t_100_0_8 (K : gK) (d : Nat) (v35 : Int32) (G34 : gH) : Option gO := some (.inl (some (.int v35)), G34)
noncomputable def t_100_0_9 (K : gK) (d : Nat) (l0 : Nat) (G32 : gH) : Option gO := if g_cls G32 l0 = some 0 then (cI (gCa K d 167 [.ref l0] G32) (t_100_0_8 K d)) else none
noncomputable def t_100_0_10 (K : gK) (d : Nat) (v39 : Int32) (G38 : gH) : Option gO := some (.inl (some (.int v39)), G38)
noncomputable def t_100_0_11 (K : gK) (d : Nat) (l0 : Nat) (G36 : gH) : Option gO := if g_cls G36 l0 = some 0 then (cI (gCa K d 167 [.ref l0] G36) (t_100_0_10 K d)) else none
noncomputable def t_100_0_12 (K : gK) (d : Nat) (l0 : Nat) (v31 : Int32) (G30 : gH) : Option gO := if (40 : Int32) ≤ v31 then (cV (gCa K d 151 [.int (0 : Int32)] G30) (t_100_0_9 K d l0)) else (cV (gCa K d 151 [.int (1 : Int32)] G30) (t_100_0_11 K d l0))
noncomputable def t_100_0_13 (K : gK) (d : Nat) (G27 : gH) (l0 : Nat) (a29 : Nat) : Option gO := if g_cls G27 a29 = some 12 then (cI (gCa K d 110 [.ref a29] G27) (t_100_0_12 K d l0)) else none
noncomputable def t_100_0_14 (K : gK) (d : Nat) (l0 : Nat) (G27 : gH) : Option gO := rR G27 l0 0 2 (t_100_0_13 K d G27 l0)
noncomputable def t_100_0_15 (K : gK) (d : Nat) (l0 : Nat) (v13 : Int32) (G12 : gH) : Option gO := if v13 = (45 : Int32) then (cV (gCa K d 153 [.int (1 : Int32)] G12) (t_100_0_7 K d l0)) else (cV (gCa K d 153 [.int (0 : Int32)] G12) (t_100_0_14 K d l0))
noncomputable def t_100_0_16 (K : gK) (d : Nat) (G9 : gH) (l0 : Nat) (a11 : Nat) : Option gO := if g_cls G9 l0 = some 0 then (cI (gCa K d 166 [.ref l0, .ref a11] G9) (t_100_0_15 K d l0)) else none
noncomputable def t_100_0_17 (K : gK) (d : Nat) (l0 : Nat) (G9 : gH) : Option gO := rR G9 l0 0 6 (t_100_0_16 K d G9 l0)
noncomputable def t_100_0_18 (K : gK) (d : Nat) (G6 : gH) (l2 : Int32) (l3 : Int32) (l4 : Int32) (l0 : Nat) (a8 : Nat) : Option gO := if g_cls G6 a8 = some 1 then (cV (gCa K d 165 [.ref a8, .int l2, .int l3, .int l4] G6) (t_100_0_17 K d l0)) else none
noncomputable def t_100_0_19 (K : gK) (d : Nat) (l0 : Nat) (l2 : Int32) (l3 : Int32) (l4 : Int32) (G6 : gH) : Option gO := rR G6 l0 0 5 (t_100_0_18 K d G6 l2 l3 l4 l0)
noncomputable def t_100_0_20 (K : gK) (d : Nat) (l2 : Int32) (l0 : Nat) (l3 : Int32) (l4 : Int32) (G4 : gH) : Option gO := cV (gCa K d 164 [.int l2] G4) (t_100_0_19 K d l0 l2 l3 l4)
noncomputable def t_100_0_21 (K : gK) (d : Nat) (a1 : Nat) (l5 : Int32) (l2 : Int32) (l0 : Nat) (l3 : Int32) (l4 : Int32) (a3 : Nat) (G2 : gH) : Option gO := if g_cls G2 a1 = some 1 then (cV (gCa K d 163 [.ref a1, .ref a3, .int l5] G2) (t_100_0_20 K d l2 l0 l3 l4)) else none
noncomputable def t_100_0_22 (K : gK) (d : Nat) (G : gH) (l0 : Nat) (l1 : Int32) (l5 : Int32) (l2 : Int32) (l3 : Int32) (l4 : Int32) (a1 : Nat) : Option gO := if g_cls G l0 = some 0 then (cR (gCa K d 157 [.ref l0, .int l1] G) (t_100_0_21 K d a1 l5 l2 l0 l3 l4)) else none
noncomputable def t_100_0 (K : gK) (d : Nat) (l0 : Nat) (l1 : Int32) (l2 : Int32) (l3 : Int32) (l4 : Int32) (l5 : Int32) (G : gH) : Option gO := rR G l0 0 5 (t_100_0_22 K d G l0 l1 l5 l2 l3 l4)
theorem e_100_0 {K : gK} {d : Nat} {l0 : Nat} {l1 : Int32} {l2 : Int32} {l3 : Int32} {l4 : Int32} {l5 : Int32} {G : gH} : gle (t_100_0 K d l0 l1 l2 l3 l4 l5 G) (gRn K d 100 0 [some (.ref l0), some (.int l1), some (.int l2), some (.int l3), some (.int l4), some (.int l5)] [] G) := by
  unfold t_100_0
  refine g_aload ((q_100 _).trans rfl) rfl ?_
  refine g_getR ((q_100 _).trans rfl) (fun a1 => ?_)
  refine g_aload ((q_100 _).trans rfl) rfl ?_
  refine g_iload ((q_100 _).trans rfl) rfl ?_
  refine g_callV (kk := 1) ((q_100 _).trans rfl) (gHn m_100) rfl (by exact ⟨Nat.le_of_ble_eq_true rfl, rfl⟩) rfl (fun w G2 => gm_R (fun a3 hw => ?_))
  subst hw
  refine g_iload ((q_100 _).trans rfl) rfl ?_
  refine g_callV (kk := 2) ((q_100 _).trans rfl) (gHn m_100) rfl (by exact ⟨Nat.le_of_ble_eq_true rfl, rfl⟩) rfl (fun w G4 => gm_V (fun hw => ?_))
  subst hw
  refine g_iload ((q_100 _).trans rfl) rfl ?_
  refine g_callS (kk := 1) ((q_100 _).trans rfl) (gHn m_100) (by exact ⟨Nat.le_of_ble_eq_true rfl, Nat.le_of_ble_eq_true rfl, rfl⟩) rfl (fun w G6 => gm_V (fun hw => ?_))
  subst hw
  refine g_aload ((q_100 _).trans rfl) rfl ?_
  refine g_getR ((q_100 _).trans rfl) (fun a8 => ?_)
  refine g_iload ((q_100 _).trans rfl) rfl ?_
  refine g_iload ((q_100 _).trans rfl) rfl ?_
  refine g_iload ((q_100 _).trans rfl) rfl ?_
  refine g_callV (kk := 3) ((q_100 _).trans rfl) (gHn m_100) rfl (by exact ⟨Nat.le_of_ble_eq_true rfl, rfl⟩) rfl (fun w G9 => gm_V (fun hw => ?_))
  subst hw
  refine g_aload ((q_100 _).trans rfl) rfl ?_
  refine g_aload ((q_100 _).trans rfl) rfl ?_
  refine g_getR ((q_100 _).trans rfl) (fun a11 => ?_)
  refine g_callV (kk := 1) ((q_100 _).trans rfl) (gHn m_100) rfl (by exact ⟨Nat.le_of_ble_eq_true rfl, rfl⟩) rfl (fun w G12 => gm_I (fun v13 hw => ?_))
  subst hw
  refine g_push ((q_100 _).trans rfl) ?_
  refine g_cmpne ((q_100 _).trans rfl) (fun _ => ?_) (fun _ => ?_)
  · refine g_push ((q_100 _).trans rfl) ?_
    refine g_goto ((q_100 _).trans rfl) ?_
    refine g_callS (kk := 1) ((q_100 _).trans rfl) (gHn m_100) (by exact ⟨Nat.le_of_ble_eq_true rfl, Nat.le_of_ble_eq_true rfl, rfl⟩) rfl (fun w G14 => gm_V (fun hw => ?_))
    subst hw
    refine g_aload ((q_100 _).trans rfl) rfl ?_
    refine g_getR ((q_100 _).trans rfl) (fun a16 => ?_)
    refine g_callV (kk := 0) ((q_100 _).trans rfl) (gHn m_100) rfl (by exact ⟨Nat.le_of_ble_eq_true rfl, rfl⟩) rfl (fun w G17 => gm_I (fun v18 hw => ?_))
    subst hw
    refine g_push ((q_100 _).trans rfl) ?_
    refine g_cmpge ((q_100 _).trans rfl) (fun _ => ?_) (fun _ => ?_)
    · refine g_push ((q_100 _).trans rfl) ?_
      refine g_callS (kk := 1) ((q_100 _).trans rfl) (gHn m_100) (by exact ⟨Nat.le_of_ble_eq_true rfl, Nat.le_of_ble_eq_true rfl, rfl⟩) rfl (fun w G19 => gm_V (fun hw => ?_))
      subst hw
      refine g_aload ((q_100 _).trans rfl) rfl ?_
      refine g_callV (kk := 0) ((q_100 _).trans rfl) (gHn m_100) rfl (by exact ⟨Nat.le_of_ble_eq_true rfl, rfl⟩) rfl (fun w G21 => gm_I (fun v22 hw => ?_))
      subst hw
      exact g_iret ((q_100 _).trans rfl)
    · refine g_push ((q_100 _).trans rfl) ?_
      refine g_goto ((q_100 _).trans rfl) ?_
      refine g_callS (kk := 1) ((q_100 _).trans rfl) (gHn m_100) (by exact ⟨Nat.le_of_ble_eq_true rfl, Nat.le_of_ble_eq_true rfl, rfl⟩) rfl (fun w G23 => gm_V (fun hw => ?_))
      subst hw
      refine g_aload ((q_100 _).trans rfl) rfl ?_
      refine g_callV (kk := 0) ((q_100 _).trans rfl) (gHn m_100) rfl (by exact ⟨Nat.le_of_ble_eq_true rfl, rfl⟩) rfl (fun w G25 => gm_I (fun v26 hw => ?_))
      subst hw
      exact g_iret ((q_100 _).trans rfl)
  · refine g_push ((q_100 _).trans rfl) ?_
    refine g_callS (kk := 1) ((q_100 _).trans rfl) (gHn m_100) (by exact ⟨Nat.le_of_ble_eq_true rfl, Nat.le_of_ble_eq_true rfl, rfl⟩) rfl (fun w G27 => gm_V (fun hw => ?_))
    subst hw
    refine g_aload ((q_100 _).trans rfl) rfl ?_
    refine g_getR ((q_100 _).trans rfl) (fun a29 => ?_)
    refine g_callV (kk := 0) ((q_100 _).trans rfl) (gHn m_100) rfl (by exact ⟨Nat.le_of_ble_eq_true rfl, rfl⟩) rfl (fun w G30 => gm_I (fun v31 hw => ?_))
    subst hw
    refine g_push ((q_100 _).trans rfl) ?_
    refine g_cmpge ((q_100 _).trans rfl) (fun _ => ?_) (fun _ => ?_)
    · refine g_push ((q_100 _).trans rfl) ?_
      refine g_callS (kk := 1) ((q_100 _).trans rfl) (gHn m_100) (by exact ⟨Nat.le_of_ble_eq_true rfl, Nat.le_of_ble_eq_true rfl, rfl⟩) rfl (fun w G32 => gm_V (fun hw => ?_))
      subst hw
      refine g_aload ((q_100 _).trans rfl) rfl ?_
      refine g_callV (kk := 0) ((q_100 _).trans rfl) (gHn m_100) rfl (by exact ⟨Nat.le_of_ble_eq_true rfl, rfl⟩) rfl (fun w G34 => gm_I (fun v35 hw => ?_))
      subst hw
      exact g_iret ((q_100 _).trans rfl)
    · refine g_push ((q_100 _).trans rfl) ?_
      refine g_goto ((q_100 _).trans rfl) ?_
      refine g_callS (kk := 1) ((q_100 _).trans rfl) (gHn m_100) (by exact ⟨Nat.le_of_ble_eq_true rfl, Nat.le_of_ble_eq_true rfl, rfl⟩) rfl (fun w G36 => gm_V (fun hw => ?_))
      subst hw
      refine g_aload ((q_100 _).trans rfl) rfl ?_
      refine g_callV (kk := 0) ((q_100 _).trans rfl) (gHn m_100) rfl (by exact ⟨Nat.le_of_ble_eq_true rfl, rfl⟩) rfl (fun w G38 => gm_I (fun v39 hw => ?_))
      subst hw
      exact g_iret ((q_100 _).trans rfl)
theorem c_100 {K : gK} {d : Nat} {l0 : Nat} {l1 : Int32} {l2 : Int32} {l3 : Int32} {l4 : Int32} {l5 : Int32} {G : gH} : gle (t_100_0 K d l0 l1 l2 l3 l4 l5 G) (gCa K (d + 1) 100 [.ref l0, .int l1, .int l2, .int l3, .int l4, .int l5] G) := by
  have h : gent (gMx 100) [.ref l0, .int l1, .int l2, .int l3, .int l4, .int l5] = [some (.ref l0), some (.int l1), some (.int l2), some (.int l3), some (.int l4), some (.int l5)] := by
    show gent (gT 100).2.2.2.1 _ = _
    rw [m_100]; rfl
  exact fun r e => (congrArg (fun q => gRn K d 100 0 q [] G) h).trans (e_100_0 r e)
theorem q_101 {K : gK} (pc : Nat) : gP K 101 pc = ((gL_101 K).lookup pc).getD o_none := rfl
noncomputable def t_101_0_1 (K : gK) (d : Nat) (G : gH) (v4 : Int32) : Option gO := if v4 = 0 then (if narrow .char (.int (101 : Int32)) = .int (101 : Int32) then some (.inl (some (.int (101 : Int32))), G) else none) else (if narrow .char (.int (116 : Int32)) = .int (116 : Int32) then some (.inl (some (.int (116 : Int32))), G) else none)
noncomputable def t_101_0_2 (K : gK) (d : Nat) (G : gH) (l1 : Int32) (a3 : Nat) : Option gO := xI G a3 0 l1 (t_101_0_1 K d G)
noncomputable def t_101_0_3 (K : gK) (d : Nat) (G5 : gH) (v8 : Int32) : Option gO := if v8 = 0 then (if narrow .char (.int (101 : Int32)) = .int (101 : Int32) then some (.inl (some (.int (101 : Int32))), G5) else none) else (if narrow .char (.int (116 : Int32)) = .int (116 : Int32) then some (.inl (some (.int (116 : Int32))), G5) else none)
noncomputable def t_101_0_4 (K : gK) (d : Nat) (G5 : gH) (l1 : Int32) (a7 : Nat) : Option gO := xI G5 a7 0 l1 (t_101_0_3 K d G5)
noncomputable def t_101_0_5 (K : gK) (d : Nat) (v22 : Int32) (v24 : Int32) (G23 : gH) : Option gO := if v22 = v24 then (if (1 : Int32) = 0 then (if narrow .char (.int (115 : Int32)) = .int (115 : Int32) then some (.inl (some (.int (115 : Int32))), G23) else none) else (if narrow .char (.int (45 : Int32)) = .int (45 : Int32) then some (.inl (some (.int (45 : Int32))), G23) else none)) else (if (0 : Int32) = 0 then (if narrow .char (.int (115 : Int32)) = .int (115 : Int32) then some (.inl (some (.int (115 : Int32))), G23) else none) else (if narrow .char (.int (45 : Int32)) = .int (45 : Int32) then some (.inl (some (.int (45 : Int32))), G23) else none))
noncomputable def t_101_0_6 (K : gK) (d : Nat) (G13 : gH) (l0 : Nat) (l3 : Int32) (v22 : Int32) : Option gO := if g_cls G13 l0 = some 3 then (cI (gCa K d 172 [.ref l0, .int l3] G13) (t_101_0_5 K d v22)) else none
noncomputable def t_101_0_7 (K : gK) (d : Nat) (G13 : gH) (a19 : Nat) (l0 : Nat) (l3 : Int32) (v21 : Int32) : Option gO := xI G13 a19 0 v21 (t_101_0_6 K d G13 l0 l3)
noncomputable def t_101_0_8 (K : gK) (d : Nat) (G13 : gH) (l1 : Int32) (a19 : Nat) (l0 : Nat) (l3 : Int32) (a20 : Nat) : Option gO := xI G13 a20 0 l1 (t_101_0_7 K d G13 a19 l0 l3)
noncomputable def t_101_0_9 (K : gK) (d : Nat) (G13 : gH) (l0 : Nat) (l1 : Int32) (l3 : Int32) (a19 : Nat) : Option gO := rR G13 l0 3 12 (t_101_0_8 K d G13 l1 a19 l0 l3)
noncomputable def t_101_0_10 (K : gK) (d : Nat) (G13 : gH) (l0 : Nat) (l1 : Int32) (l3 : Int32) (v18 : Int32) : Option gO := if v18 = 0 then (if (1 : Int32) = 0 then (if narrow .char (.int (115 : Int32)) = .int (115 : Int32) then some (.inl (some (.int (115 : Int32))), G13) else none) else (if narrow .char (.int (45 : Int32)) = .int (45 : Int32) then some (.inl (some (.int (45 : Int32))), G13) else none)) else (rR G13 l0 3 26 (t_101_0_9 K d G13 l0 l1 l3))
noncomputable def t_101_0_11 (K : gK) (d : Nat) (G13 : gH) (a15 : Nat) (l0 : Nat) (l1 : Int32) (l3 : Int32) (v17 : Int32) : Option gO := xI G13 a15 0 v17 (t_101_0_10 K d G13 l0 l1 l3)
noncomputable def t_101_0_12 (K : gK) (d : Nat) (G13 : gH) (l1 : Int32) (a15 : Nat) (l0 : Nat) (l3 : Int32) (a16 : Nat) : Option gO := xI G13 a16 0 l1 (t_101_0_11 K d G13 a15 l0 l1 l3)
noncomputable def t_101_0_13 (K : gK) (d : Nat) (G13 : gH) (l0 : Nat) (l1 : Int32) (l3 : Int32) (a15 : Nat) : Option gO := rR G13 l0 3 12 (t_101_0_12 K d G13 l1 a15 l0 l3)
noncomputable def t_101_0_14 (K : gK) (d : Nat) (l0 : Nat) (l1 : Int32) (l3 : Int32) (v14 : Int32) (G13 : gH) : Option gO := if v14 = 0 then (if (1 : Int32) = 0 then (if narrow .char (.int (115 : Int32)) = .int (115 : Int32) then some (.inl (some (.int (115 : Int32))), G13) else none) else (if narrow .char (.int (45 : Int32)) = .int (45 : Int32) then some (.inl (some (.int (45 : Int32))), G13) else none)) else (rR G13 l0 3 27 (t_101_0_13 K d G13 l0 l1 l3))
noncomputable def t_101_0_15 (K : gK) (d : Nat) (l0 : Nat) (l1 : Int32) (l3 : Int32) (v12 : Int32) (G11 : gH) : Option gO := if v12 ≤ 0 then (if g_cls G11 l0 = some 3 then (cI (gCa K d 171 [.ref l0, .int l1] G11) (t_101_0_14 K d l0 l1 l3)) else none) else (if v12 = (3 : Int32) then (if narrow .char (.int (111 : Int32)) = .int (111 : Int32) then some (.inl (some (.int (111 : Int32))), G11) else none) else (if v12 = (2 : Int32) then (if narrow .char (.int (102 : Int32)) = .int (102 : Int32) then some (.inl (some (.int (102 : Int32))), G11) else none) else (if narrow .char (.int (112 : Int32)) = .int (112 : Int32) then some (.inl (some (.int (112 : Int32))), G11) else none)))
noncomputable def t_101_0_16 (K : gK) (d : Nat) (l0 : Nat) (l3 : Int32) (l4 : Int32) (l1 : Int32) (G9 : gH) : Option gO := if g_cls G9 l0 = some 3 then (cI (gCa K d 170 [.ref l0, .int l3, .int l4] G9) (t_101_0_15 K d l0 l1 l3)) else none
noncomputable def t_101_0_17 (K : gK) (d : Nat) (v41 : Int32) (v43 : Int32) (G42 : gH) : Option gO := if v41 = v43 then (if (1 : Int32) = 0 then (if narrow .char (.int (115 : Int32)) = .int (115 : Int32) then some (.inl (some (.int (115 : Int32))), G42) else none) else (if narrow .char (.int (45 : Int32)) = .int (45 : Int32) then some (.inl (some (.int (45 : Int32))), G42) else none)) else (if (0 : Int32) = 0 then (if narrow .char (.int (115 : Int32)) = .int (115 : Int32) then some (.inl (some (.int (115 : Int32))), G42) else none) else (if narrow .char (.int (45 : Int32)) = .int (45 : Int32) then some (.inl (some (.int (45 : Int32))), G42) else none))
noncomputable def t_101_0_18 (K : gK) (d : Nat) (G32 : gH) (l0 : Nat) (l3 : Int32) (v41 : Int32) : Option gO := if g_cls G32 l0 = some 3 then (cI (gCa K d 172 [.ref l0, .int l3] G32) (t_101_0_17 K d v41)) else none
noncomputable def t_101_0_19 (K : gK) (d : Nat) (G32 : gH) (a38 : Nat) (l0 : Nat) (l3 : Int32) (v40 : Int32) : Option gO := xI G32 a38 0 v40 (t_101_0_18 K d G32 l0 l3)
noncomputable def t_101_0_20 (K : gK) (d : Nat) (G32 : gH) (l1 : Int32) (a38 : Nat) (l0 : Nat) (l3 : Int32) (a39 : Nat) : Option gO := xI G32 a39 0 l1 (t_101_0_19 K d G32 a38 l0 l3)
noncomputable def t_101_0_21 (K : gK) (d : Nat) (G32 : gH) (l0 : Nat) (l1 : Int32) (l3 : Int32) (a38 : Nat) : Option gO := rR G32 l0 3 12 (t_101_0_20 K d G32 l1 a38 l0 l3)
noncomputable def t_101_0_22 (K : gK) (d : Nat) (G32 : gH) (l0 : Nat) (l1 : Int32) (l3 : Int32) (v37 : Int32) : Option gO := if v37 = 0 then (if (1 : Int32) = 0 then (if narrow .char (.int (115 : Int32)) = .int (115 : Int32) then some (.inl (some (.int (115 : Int32))), G32) else none) else (if narrow .char (.int (45 : Int32)) = .int (45 : Int32) then some (.inl (some (.int (45 : Int32))), G32) else none)) else (rR G32 l0 3 26 (t_101_0_21 K d G32 l0 l1 l3))
noncomputable def t_101_0_23 (K : gK) (d : Nat) (G32 : gH) (a34 : Nat) (l0 : Nat) (l1 : Int32) (l3 : Int32) (v36 : Int32) : Option gO := xI G32 a34 0 v36 (t_101_0_22 K d G32 l0 l1 l3)
noncomputable def t_101_0_24 (K : gK) (d : Nat) (G32 : gH) (l1 : Int32) (a34 : Nat) (l0 : Nat) (l3 : Int32) (a35 : Nat) : Option gO := xI G32 a35 0 l1 (t_101_0_23 K d G32 a34 l0 l1 l3)
noncomputable def t_101_0_25 (K : gK) (d : Nat) (G32 : gH) (l0 : Nat) (l1 : Int32) (l3 : Int32) (a34 : Nat) : Option gO := rR G32 l0 3 12 (t_101_0_24 K d G32 l1 a34 l0 l3)
noncomputable def t_101_0_26 (K : gK) (d : Nat) (l0 : Nat) (l1 : Int32) (l3 : Int32) (v33 : Int32) (G32 : gH) : Option gO := if v33 = 0 then (if (1 : Int32) = 0 then (if narrow .char (.int (115 : Int32)) = .int (115 : Int32) then some (.inl (some (.int (115 : Int32))), G32) else none) else (if narrow .char (.int (45 : Int32)) = .int (45 : Int32) then some (.inl (some (.int (45 : Int32))), G32) else none)) else (rR G32 l0 3 27 (t_101_0_25 K d G32 l0 l1 l3))
noncomputable def t_101_0_27 (K : gK) (d : Nat) (l0 : Nat) (l1 : Int32) (l3 : Int32) (v31 : Int32) (G30 : gH) : Option gO := if v31 ≤ 0 then (if g_cls G30 l0 = some 3 then (cI (gCa K d 171 [.ref l0, .int l1] G30) (t_101_0_26 K d l0 l1 l3)) else none) else (if v31 = (3 : Int32) then (if narrow .char (.int (111 : Int32)) = .int (111 : Int32) then some (.inl (some (.int (111 : Int32))), G30) else none) else (if v31 = (2 : Int32) then (if narrow .char (.int (102 : Int32)) = .int (102 : Int32) then some (.inl (some (.int (102 : Int32))), G30) else none) else (if narrow .char (.int (112 : Int32)) = .int (112 : Int32) then some (.inl (some (.int (112 : Int32))), G30) else none)))
noncomputable def t_101_0_28 (K : gK) (d : Nat) (l0 : Nat) (l3 : Int32) (l4 : Int32) (l1 : Int32) (G28 : gH) : Option gO := if g_cls G28 l0 = some 3 then (cI (gCa K d 170 [.ref l0, .int l3, .int l4] G28) (t_101_0_27 K d l0 l1 l3)) else none
noncomputable def t_101_0_29 (K : gK) (d : Nat) (G5 : gH) (l0 : Nat) (l1 : Int32) (l2 : Int32) (l5 : Int32) (l3 : Int32) (l4 : Int32) (v27 : Int32) : Option gO := if v27 = 0 then (if g_cls G5 l0 = some 3 then (cV (gCa K d 169 [.ref l0, .int l1, .int l2, .int l5] G5) (t_101_0_28 K d l0 l3 l4 l1)) else none) else (if narrow .char (.int (109 : Int32)) = .int (109 : Int32) then some (.inl (some (.int (109 : Int32))), G5) else none)
noncomputable def t_101_0_30 (K : gK) (d : Nat) (G5 : gH) (l0 : Nat) (l1 : Int32) (l2 : Int32) (l5 : Int32) (l3 : Int32) (l4 : Int32) (v26 : Int32) : Option gO := if v26 = 0 then (if narrow .char (.int (109 : Int32)) = .int (109 : Int32) then some (.inl (some (.int (109 : Int32))), G5) else none) else (rI G5 l0 3 3 (t_101_0_29 K d G5 l0 l1 l2 l5 l3 l4))
noncomputable def t_101_0_31 (K : gK) (d : Nat) (G5 : gH) (l1 : Int32) (l0 : Nat) (l2 : Int32) (l5 : Int32) (l3 : Int32) (l4 : Int32) (a25 : Nat) : Option gO := xI G5 a25 1 l1 (t_101_0_30 K d G5 l0 l1 l2 l5 l3 l4)
noncomputable def t_101_0_32 (K : gK) (d : Nat) (l0 : Nat) (l1 : Int32) (l5 : Int32) (l2 : Int32) (l3 : Int32) (l4 : Int32) (v6 : Int32) (G5 : gH) : Option gO := if v6 = 0 then (rR G5 l0 3 11 (t_101_0_4 K d G5 l1)) else (if l5 = 0 then (if g_cls G5 l0 = some 3 then (cV (gCa K d 169 [.ref l0, .int l1, .int l2, .int l5] G5) (t_101_0_16 K d l0 l3 l4 l1)) else none) else (rR G5 l0 3 9 (t_101_0_31 K d G5 l1 l0 l2 l5 l3 l4)))
noncomputable def t_101_0_33 (K : gK) (d : Nat) (G : gH) (l0 : Nat) (l1 : Int32) (l2 : Int32) (l5 : Int32) (l3 : Int32) (l4 : Int32) (v2 : Int32) : Option gO := if v2 = 0 then (rR G l0 3 11 (t_101_0_2 K d G l1)) else (if g_cls G l0 = some 3 then (cI (gCa K d 168 [.ref l0, .int l1, .int l2] G) (t_101_0_32 K d l0 l1 l5 l2 l3 l4)) else none)
noncomputable def t_101_0_34 (K : gK) (d : Nat) (G : gH) (l1 : Int32) (l0 : Nat) (l2 : Int32) (l5 : Int32) (l3 : Int32) (l4 : Int32) (a1 : Nat) : Option gO := xI G a1 0 l1 (t_101_0_33 K d G l0 l1 l2 l5 l3 l4)
noncomputable def t_101_0 (K : gK) (d : Nat) (l0 : Nat) (l1 : Int32) (l2 : Int32) (l3 : Int32) (l4 : Int32) (l5 : Int32) (G : gH) : Option gO := rR G l0 3 11 (t_101_0_34 K d G l1 l0 l2 l5 l3 l4)
theorem e_101_0 {K : gK} {d : Nat} {l0 : Nat} {l1 : Int32} {l2 : Int32} {l3 : Int32} {l4 : Int32} {l5 : Int32} {G : gH} : gle (t_101_0 K d l0 l1 l2 l3 l4 l5 G) (gRn K d 101 0 [some (.ref l0), some (.int l1), some (.int l2), some (.int l3), some (.int l4), some (.int l5), none, none] [] G) := by
  unfold t_101_0
  refine g_aload ((q_101 _).trans rfl) rfl ?_
  refine g_getR ((q_101 _).trans rfl) (fun a1 => ?_)
  refine g_iload ((q_101 _).trans rfl) rfl ?_
  refine g_iald ((q_101 _).trans rfl) (fun v2 => ?_)
  refine g_ifeq ((q_101 _).trans rfl) (fun _ => ?_) (fun _ => ?_)
  · refine g_aload ((q_101 _).trans rfl) rfl ?_
    refine g_getR ((q_101 _).trans rfl) (fun a3 => ?_)
    refine g_iload ((q_101 _).trans rfl) rfl ?_
    refine g_iald ((q_101 _).trans rfl) (fun v4 => ?_)
    refine g_ifne ((q_101 _).trans rfl) (fun _ => ?_) (fun _ => ?_)
    · refine g_push ((q_101 _).trans rfl) ?_
      refine g_goto ((q_101 _).trans rfl) ?_
      exact g_zret ((q_101 _).trans rfl)
    · refine g_push ((q_101 _).trans rfl) ?_
      exact g_zret ((q_101 _).trans rfl)
  · refine g_aload ((q_101 _).trans rfl) rfl ?_
    refine g_iload ((q_101 _).trans rfl) rfl ?_
    refine g_iload ((q_101 _).trans rfl) rfl ?_
    refine g_callV (kk := 2) ((q_101 _).trans rfl) (gHn m_101) rfl (by exact ⟨Nat.le_of_ble_eq_true rfl, rfl⟩) rfl (fun w G5 => gm_I (fun v6 hw => ?_))
    subst hw
    refine g_ifne ((q_101 _).trans rfl) (fun _ => ?_) (fun _ => ?_)
    · refine g_aload ((q_101 _).trans rfl) rfl ?_
      refine g_getR ((q_101 _).trans rfl) (fun a7 => ?_)
      refine g_iload ((q_101 _).trans rfl) rfl ?_
      refine g_iald ((q_101 _).trans rfl) (fun v8 => ?_)
      refine g_ifne ((q_101 _).trans rfl) (fun _ => ?_) (fun _ => ?_)
      · refine g_push ((q_101 _).trans rfl) ?_
        refine g_goto ((q_101 _).trans rfl) ?_
        exact g_zret ((q_101 _).trans rfl)
      · refine g_push ((q_101 _).trans rfl) ?_
        exact g_zret ((q_101 _).trans rfl)
    · refine g_iload ((q_101 _).trans rfl) rfl ?_
      refine g_ifeq ((q_101 _).trans rfl) (fun _ => ?_) (fun _ => ?_)
      · refine g_aload ((q_101 _).trans rfl) rfl ?_
        refine g_iload ((q_101 _).trans rfl) rfl ?_
        refine g_iload ((q_101 _).trans rfl) rfl ?_
        refine g_iload ((q_101 _).trans rfl) rfl ?_
        refine g_callV (kk := 3) ((q_101 _).trans rfl) (gHn m_101) rfl (by exact ⟨Nat.le_of_ble_eq_true rfl, rfl⟩) rfl (fun w G9 => gm_V (fun hw => ?_))
        subst hw
        refine g_aload ((q_101 _).trans rfl) rfl ?_
        refine g_iload ((q_101 _).trans rfl) rfl ?_
        refine g_iload ((q_101 _).trans rfl) rfl ?_
        refine g_callV (kk := 2) ((q_101 _).trans rfl) (gHn m_101) rfl (by exact ⟨Nat.le_of_ble_eq_true rfl, rfl⟩) rfl (fun w G11 => gm_I (fun v12 hw => ?_))
        subst hw
        refine g_istore ((q_101 _).trans rfl) ?_
        refine g_iload ((q_101 _).trans rfl) rfl ?_
        refine g_ifle ((q_101 _).trans rfl) (fun _ => ?_) (fun _ => ?_)
        · refine g_aload ((q_101 _).trans rfl) rfl ?_
          refine g_iload ((q_101 _).trans rfl) rfl ?_
          refine g_callV (kk := 1) ((q_101 _).trans rfl) (gHn m_101) rfl (by exact ⟨Nat.le_of_ble_eq_true rfl, rfl⟩) rfl (fun w G13 => gm_I (fun v14 hw => ?_))
          subst hw
          refine g_ifeq ((q_101 _).trans rfl) (fun _ => ?_) (fun _ => ?_)
          · refine g_push ((q_101 _).trans rfl) ?_
            refine g_goto ((q_101 _).trans rfl) ?_
            refine g_istore ((q_101 _).trans rfl) ?_
            refine g_iload ((q_101 _).trans rfl) rfl ?_
            refine g_ifeq ((q_101 _).trans rfl) (fun _ => ?_) (fun _ => ?_)
            · refine g_push ((q_101 _).trans rfl) ?_
              exact g_zret ((q_101 _).trans rfl)
            · refine g_push ((q_101 _).trans rfl) ?_
              refine g_goto ((q_101 _).trans rfl) ?_
              exact g_zret ((q_101 _).trans rfl)
          · refine g_aload ((q_101 _).trans rfl) rfl ?_
            refine g_getR ((q_101 _).trans rfl) (fun a15 => ?_)
            refine g_aload ((q_101 _).trans rfl) rfl ?_
            refine g_getR ((q_101 _).trans rfl) (fun a16 => ?_)
            refine g_iload ((q_101 _).trans rfl) rfl ?_
            refine g_iald ((q_101 _).trans rfl) (fun v17 => ?_)
            refine g_iald ((q_101 _).trans rfl) (fun v18 => ?_)
            refine g_ifeq ((q_101 _).trans rfl) (fun _ => ?_) (fun _ => ?_)
            · refine g_push ((q_101 _).trans rfl) ?_
              refine g_goto ((q_101 _).trans rfl) ?_
              refine g_istore ((q_101 _).trans rfl) ?_
              refine g_iload ((q_101 _).trans rfl) rfl ?_
              refine g_ifeq ((q_101 _).trans rfl) (fun _ => ?_) (fun _ => ?_)
              · refine g_push ((q_101 _).trans rfl) ?_
                exact g_zret ((q_101 _).trans rfl)
              · refine g_push ((q_101 _).trans rfl) ?_
                refine g_goto ((q_101 _).trans rfl) ?_
                exact g_zret ((q_101 _).trans rfl)
            · refine g_aload ((q_101 _).trans rfl) rfl ?_
              refine g_getR ((q_101 _).trans rfl) (fun a19 => ?_)
              refine g_aload ((q_101 _).trans rfl) rfl ?_
              refine g_getR ((q_101 _).trans rfl) (fun a20 => ?_)
              refine g_iload ((q_101 _).trans rfl) rfl ?_
              refine g_iald ((q_101 _).trans rfl) (fun v21 => ?_)
              refine g_iald ((q_101 _).trans rfl) (fun v22 => ?_)
              refine g_aload ((q_101 _).trans rfl) rfl ?_
              refine g_iload ((q_101 _).trans rfl) rfl ?_
              refine g_callV (kk := 1) ((q_101 _).trans rfl) (gHn m_101) rfl (by exact ⟨Nat.le_of_ble_eq_true rfl, rfl⟩) rfl (fun w G23 => gm_I (fun v24 hw => ?_))
              subst hw
              refine g_cmpne ((q_101 _).trans rfl) (fun _ => ?_) (fun _ => ?_)
              · refine g_push ((q_101 _).trans rfl) ?_
                refine g_goto ((q_101 _).trans rfl) ?_
                refine g_istore ((q_101 _).trans rfl) ?_
                refine g_iload ((q_101 _).trans rfl) rfl ?_
                refine g_ifeq ((q_101 _).trans rfl) (fun _ => ?_) (fun _ => ?_)
                · refine g_push ((q_101 _).trans rfl) ?_
                  exact g_zret ((q_101 _).trans rfl)
                · refine g_push ((q_101 _).trans rfl) ?_
                  refine g_goto ((q_101 _).trans rfl) ?_
                  exact g_zret ((q_101 _).trans rfl)
              · refine g_push ((q_101 _).trans rfl) ?_
                refine g_istore ((q_101 _).trans rfl) ?_
                refine g_iload ((q_101 _).trans rfl) rfl ?_
                refine g_ifeq ((q_101 _).trans rfl) (fun _ => ?_) (fun _ => ?_)
                · refine g_push ((q_101 _).trans rfl) ?_
                  exact g_zret ((q_101 _).trans rfl)
                · refine g_push ((q_101 _).trans rfl) ?_
                  refine g_goto ((q_101 _).trans rfl) ?_
                  exact g_zret ((q_101 _).trans rfl)
        · refine g_iload ((q_101 _).trans rfl) rfl ?_
          refine g_push ((q_101 _).trans rfl) ?_
          refine g_cmpne ((q_101 _).trans rfl) (fun _ => ?_) (fun _ => ?_)
          · refine g_push ((q_101 _).trans rfl) ?_
            refine g_goto ((q_101 _).trans rfl) ?_
            exact g_zret ((q_101 _).trans rfl)
          · refine g_iload ((q_101 _).trans rfl) rfl ?_
            refine g_push ((q_101 _).trans rfl) ?_
            refine g_cmpne ((q_101 _).trans rfl) (fun _ => ?_) (fun _ => ?_)
            · refine g_push ((q_101 _).trans rfl) ?_
              refine g_goto ((q_101 _).trans rfl) ?_
              exact g_zret ((q_101 _).trans rfl)
            · refine g_push ((q_101 _).trans rfl) ?_
              exact g_zret ((q_101 _).trans rfl)
      · refine g_aload ((q_101 _).trans rfl) rfl ?_
        refine g_getR ((q_101 _).trans rfl) (fun a25 => ?_)
        refine g_iload ((q_101 _).trans rfl) rfl ?_
        refine g_iald ((q_101 _).trans rfl) (fun v26 => ?_)
        refine g_ifeq ((q_101 _).trans rfl) (fun _ => ?_) (fun _ => ?_)
        · refine g_push ((q_101 _).trans rfl) ?_
          exact g_zret ((q_101 _).trans rfl)
        · refine g_aload ((q_101 _).trans rfl) rfl ?_
          refine g_getI ((q_101 _).trans rfl) (fun v27 => ?_)
          refine g_ifeq ((q_101 _).trans rfl) (fun _ => ?_) (fun _ => ?_)
          · refine g_aload ((q_101 _).trans rfl) rfl ?_
            refine g_iload ((q_101 _).trans rfl) rfl ?_
            refine g_iload ((q_101 _).trans rfl) rfl ?_
            refine g_iload ((q_101 _).trans rfl) rfl ?_
            refine g_callV (kk := 3) ((q_101 _).trans rfl) (gHn m_101) rfl (by exact ⟨Nat.le_of_ble_eq_true rfl, rfl⟩) rfl (fun w G28 => gm_V (fun hw => ?_))
            subst hw
            refine g_aload ((q_101 _).trans rfl) rfl ?_
            refine g_iload ((q_101 _).trans rfl) rfl ?_
            refine g_iload ((q_101 _).trans rfl) rfl ?_
            refine g_callV (kk := 2) ((q_101 _).trans rfl) (gHn m_101) rfl (by exact ⟨Nat.le_of_ble_eq_true rfl, rfl⟩) rfl (fun w G30 => gm_I (fun v31 hw => ?_))
            subst hw
            refine g_istore ((q_101 _).trans rfl) ?_
            refine g_iload ((q_101 _).trans rfl) rfl ?_
            refine g_ifle ((q_101 _).trans rfl) (fun _ => ?_) (fun _ => ?_)
            · refine g_aload ((q_101 _).trans rfl) rfl ?_
              refine g_iload ((q_101 _).trans rfl) rfl ?_
              refine g_callV (kk := 1) ((q_101 _).trans rfl) (gHn m_101) rfl (by exact ⟨Nat.le_of_ble_eq_true rfl, rfl⟩) rfl (fun w G32 => gm_I (fun v33 hw => ?_))
              subst hw
              refine g_ifeq ((q_101 _).trans rfl) (fun _ => ?_) (fun _ => ?_)
              · refine g_push ((q_101 _).trans rfl) ?_
                refine g_goto ((q_101 _).trans rfl) ?_
                refine g_istore ((q_101 _).trans rfl) ?_
                refine g_iload ((q_101 _).trans rfl) rfl ?_
                refine g_ifeq ((q_101 _).trans rfl) (fun _ => ?_) (fun _ => ?_)
                · refine g_push ((q_101 _).trans rfl) ?_
                  exact g_zret ((q_101 _).trans rfl)
                · refine g_push ((q_101 _).trans rfl) ?_
                  refine g_goto ((q_101 _).trans rfl) ?_
                  exact g_zret ((q_101 _).trans rfl)
              · refine g_aload ((q_101 _).trans rfl) rfl ?_
                refine g_getR ((q_101 _).trans rfl) (fun a34 => ?_)
                refine g_aload ((q_101 _).trans rfl) rfl ?_
                refine g_getR ((q_101 _).trans rfl) (fun a35 => ?_)
                refine g_iload ((q_101 _).trans rfl) rfl ?_
                refine g_iald ((q_101 _).trans rfl) (fun v36 => ?_)
                refine g_iald ((q_101 _).trans rfl) (fun v37 => ?_)
                refine g_ifeq ((q_101 _).trans rfl) (fun _ => ?_) (fun _ => ?_)
                · refine g_push ((q_101 _).trans rfl) ?_
                  refine g_goto ((q_101 _).trans rfl) ?_
                  refine g_istore ((q_101 _).trans rfl) ?_
                  refine g_iload ((q_101 _).trans rfl) rfl ?_
                  refine g_ifeq ((q_101 _).trans rfl) (fun _ => ?_) (fun _ => ?_)
                  · refine g_push ((q_101 _).trans rfl) ?_
                    exact g_zret ((q_101 _).trans rfl)
                  · refine g_push ((q_101 _).trans rfl) ?_
                    refine g_goto ((q_101 _).trans rfl) ?_
                    exact g_zret ((q_101 _).trans rfl)
                · refine g_aload ((q_101 _).trans rfl) rfl ?_
                  refine g_getR ((q_101 _).trans rfl) (fun a38 => ?_)
                  refine g_aload ((q_101 _).trans rfl) rfl ?_
                  refine g_getR ((q_101 _).trans rfl) (fun a39 => ?_)
                  refine g_iload ((q_101 _).trans rfl) rfl ?_
                  refine g_iald ((q_101 _).trans rfl) (fun v40 => ?_)
                  refine g_iald ((q_101 _).trans rfl) (fun v41 => ?_)
                  refine g_aload ((q_101 _).trans rfl) rfl ?_
                  refine g_iload ((q_101 _).trans rfl) rfl ?_
                  refine g_callV (kk := 1) ((q_101 _).trans rfl) (gHn m_101) rfl (by exact ⟨Nat.le_of_ble_eq_true rfl, rfl⟩) rfl (fun w G42 => gm_I (fun v43 hw => ?_))
                  subst hw
                  refine g_cmpne ((q_101 _).trans rfl) (fun _ => ?_) (fun _ => ?_)
                  · refine g_push ((q_101 _).trans rfl) ?_
                    refine g_goto ((q_101 _).trans rfl) ?_
                    refine g_istore ((q_101 _).trans rfl) ?_
                    refine g_iload ((q_101 _).trans rfl) rfl ?_
                    refine g_ifeq ((q_101 _).trans rfl) (fun _ => ?_) (fun _ => ?_)
                    · refine g_push ((q_101 _).trans rfl) ?_
                      exact g_zret ((q_101 _).trans rfl)
                    · refine g_push ((q_101 _).trans rfl) ?_
                      refine g_goto ((q_101 _).trans rfl) ?_
                      exact g_zret ((q_101 _).trans rfl)
                  · refine g_push ((q_101 _).trans rfl) ?_
                    refine g_istore ((q_101 _).trans rfl) ?_
                    refine g_iload ((q_101 _).trans rfl) rfl ?_
                    refine g_ifeq ((q_101 _).trans rfl) (fun _ => ?_) (fun _ => ?_)
                    · refine g_push ((q_101 _).trans rfl) ?_
                      exact g_zret ((q_101 _).trans rfl)
                    · refine g_push ((q_101 _).trans rfl) ?_
                      refine g_goto ((q_101 _).trans rfl) ?_
                      exact g_zret ((q_101 _).trans rfl)
            · refine g_iload ((q_101 _).trans rfl) rfl ?_
              refine g_push ((q_101 _).trans rfl) ?_
              refine g_cmpne ((q_101 _).trans rfl) (fun _ => ?_) (fun _ => ?_)
              · refine g_push ((q_101 _).trans rfl) ?_
                refine g_goto ((q_101 _).trans rfl) ?_
                exact g_zret ((q_101 _).trans rfl)
              · refine g_iload ((q_101 _).trans rfl) rfl ?_
                refine g_push ((q_101 _).trans rfl) ?_
                refine g_cmpne ((q_101 _).trans rfl) (fun _ => ?_) (fun _ => ?_)
                · refine g_push ((q_101 _).trans rfl) ?_
                  refine g_goto ((q_101 _).trans rfl) ?_
                  exact g_zret ((q_101 _).trans rfl)
                · refine g_push ((q_101 _).trans rfl) ?_
                  exact g_zret ((q_101 _).trans rfl)
          · refine g_push ((q_101 _).trans rfl) ?_
            exact g_zret ((q_101 _).trans rfl)
theorem c_101 {K : gK} {d : Nat} {l0 : Nat} {l1 : Int32} {l2 : Int32} {l3 : Int32} {l4 : Int32} {l5 : Int32} {G : gH} : gle (t_101_0 K d l0 l1 l2 l3 l4 l5 G) (gCa K (d + 1) 101 [.ref l0, .int l1, .int l2, .int l3, .int l4, .int l5] G) := by
  have h : gent (gMx 101) [.ref l0, .int l1, .int l2, .int l3, .int l4, .int l5] = [some (.ref l0), some (.int l1), some (.int l2), some (.int l3), some (.int l4), some (.int l5), none, none] := by
    show gent (gT 101).2.2.2.1 _ = _
    rw [m_101]; rfl
  exact fun r e => (congrArg (fun q => gRn K d 101 0 q [] G) h).trans (e_101_0 r e)
