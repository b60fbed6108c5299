/-! PURE 6: methods as trees, 1 (printed by mkpure.py) -/
set_option maxRecDepth 100000
theorem q_19 {K : gK} (pc : Nat) : gP K 19 pc = ((gL_19 K).lookup pc).getD o_none := rfl
noncomputable def t_19_0_1 (K : gK) (d : Nat) (G3 : gH) (v6 : Int32) : Option gO := some (.inl (some (.int v6)), G3)
noncomputable def t_19_0_2 (K : gK) (d : Nat) (G3 : gH) (l1 : Int32) (a5 : Nat) : Option gO := xI G3 a5 0 l1 (t_19_0_1 K d G3)
noncomputable def t_19_0_3 (K : gK) (d : Nat) (l0 : Nat) (l1 : Int32) (v4 : Int32) (G3 : gH) : Option gO := if v4 = 0 then (rR G3 l0 3 11 (t_19_0_2 K d G3 l1)) else (some (.inl (some (.int (0 : Int32))), G3))
noncomputable def t_19_0_4 (K : gK) (d : Nat) (G7 : gH) (v10 : Int32) : Option gO := some (.inl (some (.int v10)), G7)
noncomputable def t_19_0_5 (K : gK) (d : Nat) (G7 : gH) (l1 : Int32) (a9 : Nat) : Option gO := xI G7 a9 0 l1 (t_19_0_4 K d G7)
noncomputable def t_19_0_6 (K : gK) (d : Nat) (l0 : Nat) (l1 : Int32) (v8 : Int32) (G7 : gH) : Option gO := if v8 = 0 then (rR G7 l0 3 11 (t_19_0_5 K d G7 l1)) else (some (.inl (some (.int (0 : Int32))), G7))
noncomputable def t_19_0_7 (K : gK) (d : Nat) (l0 : Nat) (l1 : Int32) (v2 : Int32) (G1 : gH) : Option gO := if v2 = 0 then (if g_cls G1 l0 = some 3 then (cI (gCa K d 90 [.ref l0, .int (1 : Int32)] G1) (t_19_0_3 K d l0 l1)) else none) else (if g_cls G1 l0 = some 3 then (cI (gCa K d 90 [.ref l0, .int (0 : Int32)] G1) (t_19_0_6 K d l0 l1)) else none)
noncomputable def t_19_0 (K : gK) (d : Nat) (l0 : Nat) (l1 : Int32) (G : gH) : Option gO := if g_cls G l0 = some 3 then (cI (gCa K d 96 [.ref l0, .int l1] G) (t_19_0_7 K d l0 l1)) else none
theorem e_19_0 {K : gK} {d : Nat} {l0 : Nat} {l1 : Int32} {G : gH} : gle (t_19_0 K d l0 l1 G) (gRn K d 19 0 [some (.ref l0), some (.int l1)] [] G) := by
  unfold t_19_0
  refine g_aload ((q_19 _).trans rfl) rfl ?_
  refine g_aload ((q_19 _).trans rfl) rfl ?_
  refine g_iload ((q_19 _).trans rfl) rfl ?_
  refine g_callV (kk := 1) ((q_19 _).trans rfl) (gHn m_19) rfl (by exact ⟨Nat.le_of_ble_eq_true rfl, rfl⟩) rfl (fun w G1 => gm_I (fun v2 hw => ?_))
  subst hw
  refine g_ifeq ((q_19 _).trans rfl) (fun _ => ?_) (fun _ => ?_)
  · refine g_push ((q_19 _).trans rfl) ?_
    refine g_callV (kk := 1) ((q_19 _).trans rfl) (gHn m_19) rfl (by exact ⟨Nat.le_of_ble_eq_true rfl, rfl⟩) rfl (fun w G3 => gm_I (fun v4 hw => ?_))
    subst hw
    refine g_ifeq ((q_19 _).trans rfl) (fun _ => ?_) (fun _ => ?_)
    · refine g_aload ((q_19 _).trans rfl) rfl ?_
      refine g_getR ((q_19 _).trans rfl) (fun a5 => ?_)
      refine g_iload ((q_19 _).trans rfl) rfl ?_
      refine g_iald ((q_19 _).trans rfl) (fun v6 => ?_)
      exact g_iret ((q_19 _).trans rfl)
    · refine g_push ((q_19 _).trans rfl) ?_
      refine g_goto ((q_19 _).trans rfl) ?_
      exact g_iret ((q_19 _).trans rfl)
  · refine g_push ((q_19 _).trans rfl) ?_
    refine g_goto ((q_19 _).trans rfl) ?_
    refine g_callV (kk := 1) ((q_19 _).trans rfl) (gHn m_19) rfl (by exact ⟨Nat.le_of_ble_eq_true rfl, rfl⟩) rfl (fun w G7 => gm_I (fun v8 hw => ?_))
    subst hw
    refine g_ifeq ((q_19 _).trans rfl) (fun _ => ?_) (fun _ => ?_)
    · refine g_aload ((q_19 _).trans rfl) rfl ?_
      refine g_getR ((q_19 _).trans rfl) (fun a9 => ?_)
      refine g_iload ((q_19 _).trans rfl) rfl ?_
      refine g_iald ((q_19 _).trans rfl) (fun v10 => ?_)
      exact g_iret ((q_19 _).trans rfl)
    · refine g_push ((q_19 _).trans rfl) ?_
      refine g_goto ((q_19 _).trans rfl) ?_
      exact g_iret ((q_19 _).trans rfl)
theorem c_19 {K : gK} {d : Nat} {l0 : Nat} {l1 : Int32} {G : gH} : gle (t_19_0 K d l0 l1 G) (gCa K (d + 1) 19 [.ref l0, .int l1] G) := by
  have h : gent (gMx 19) [.ref l0, .int l1] = [some (.ref l0), some (.int l1)] := by
    show gent (gT 19).2.2.2.1 _ = _
    rw [m_19]; rfl
  exact fun r e => (congrArg (fun q => gRn K d 19 0 q [] G) h).trans (e_19_0 r e)
theorem q_21 {K : gK} (pc : Nat) : gP K 21 pc = ((gL_21 K).lookup pc).getD o_none := rfl
noncomputable def t_21_0_1 (K : gK) (d : Nat) (v6 : Int32) (G5 : gH) : Option gO := some (.inl (some (.int v6)), G5)
noncomputable def t_21_0_2 (K : gK) (d : Nat) (l0 : Nat) (l1 : Int32) (l2 : Int32) (l3 : Int32) (l4 : Int32) (l5 : Int32) (v4 : Int32) (G3 : gH) : Option gO := if v4 = 0 then (if g_cls G3 l0 = some 3 then (cI (gCa K d 102 [.ref l0, .int l1, .int l2, .int l3, .int l4, .int l5] G3) (t_21_0_1 K d)) else none) else (some (.inl (some (.int (0 : Int32))), G3))
noncomputable def t_21_0_3 (K : gK) (d : Nat) (v12 : Int32) (G11 : gH) : Option gO := some (.inl (some (.int v12)), G11)
noncomputable def t_21_0_4 (K : gK) (d : Nat) (l0 : Nat) (l1 : Int32) (l2 : Int32) (l3 : Int32) (l4 : Int32) (l5 : Int32) (v10 : Int32) (G9 : gH) : Option gO := if v10 = 0 then (if g_cls G9 l0 = some 3 then (cI (gCa K d 102 [.ref l0, .int l1, .int l2, .int l3, .int l4, .int l5] G9) (t_21_0_3 K d)) else none) else (some (.inl (some (.int (0 : Int32))), G9))
noncomputable def t_21_0_5 (K : gK) (d : Nat) (v19 : Int32) (G18 : gH) : Option gO := some (.inl (some (.int v19)), G18)
noncomputable def t_21_0_6 (K : gK) (d : Nat) (l0 : Nat) (l1 : Int32) (l2 : Int32) (l3 : Int32) (l4 : Int32) (l5 : Int32) (v17 : Int32) (G16 : gH) : Option gO := if v17 = 0 then (if g_cls G16 l0 = some 3 then (cI (gCa K d 102 [.ref l0, .int l1, .int l2, .int l3, .int l4, .int l5] G16) (t_21_0_5 K d)) else none) else (some (.inl (some (.int (0 : Int32))), G16))
noncomputable def t_21_0_7 (K : gK) (d : Nat) (v23 : Int32) (G22 : gH) : Option gO := some (.inl (some (.int v23)), G22)
noncomputable def t_21_0_8 (K : gK) (d : Nat) (l0 : Nat) (l1 : Int32) (l2 : Int32) (l3 : Int32) (l4 : Int32) (l5 : Int32) (v21 : Int32) (G20 : gH) : Option gO := if v21 = 0 then (if g_cls G20 l0 = some 3 then (cI (gCa K d 102 [.ref l0, .int l1, .int l2, .int l3, .int l4, .int l5] G20) (t_21_0_7 K d)) else none) else (some (.inl (some (.int (0 : Int32))), G20))
noncomputable def t_21_0_9 (K : gK) (d : Nat) (G13 : gH) (l0 : Nat) (l1 : Int32) (l2 : Int32) (l3 : Int32) (l4 : Int32) (l5 : Int32) (v15 : Int32) : Option gO := if v15 = (40 : Int32) then (if g_cls G13 l0 = some 3 then (cI (gCa K d 90 [.ref l0, .int (4 : Int32)] G13) (t_21_0_6 K d l0 l1 l2 l3 l4 l5)) else none) else (if g_cls G13 l0 = some 3 then (cI (gCa K d 90 [.ref l0, .int (0 : Int32)] G13) (t_21_0_8 K d l0 l1 l2 l3 l4 l5)) else none)
noncomputable def t_21_0_10 (K : gK) (d : Nat) (v27 : Int32) (G26 : gH) : Option gO := some (.inl (some (.int v27)), G26)
noncomputable def t_21_0_11 (K : gK) (d : Nat) (l0 : Nat) (l1 : Int32) (l2 : Int32) (l3 : Int32) (l4 : Int32) (l5 : Int32) (v25 : Int32) (G24 : gH) : Option gO := if v25 = 0 then (if g_cls G24 l0 = some 3 then (cI (gCa K d 102 [.ref l0, .int l1, .int l2, .int l3, .int l4, .int l5] G24) (t_21_0_10 K d)) else none) else (some (.inl (some (.int (0 : Int32))), G24))
noncomputable def t_21_0_12 (K : gK) (d : Nat) (l0 : Nat) (l1 : Int32) (l2 : Int32) (l3 : Int32) (l4 : Int32) (l5 : Int32) (v14 : Int32) (G13 : gH) : Option gO := if v14 = (45 : Int32) then (rI G13 l0 3 17 (t_21_0_9 K d G13 l0 l1 l2 l3 l4 l5)) else (if g_cls G13 l0 = some 3 then (cI (gCa K d 90 [.ref l0, .int (3 : Int32)] G13) (t_21_0_11 K d l0 l1 l2 l3 l4 l5)) else none)
noncomputable def t_21_0_13 (K : gK) (d : Nat) (l0 : Nat) (l1 : Int32) (l2 : Int32) (l3 : Int32) (l4 : Int32) (l5 : Int32) (v8 : Int32) (G7 : gH) : Option gO := if v8 = 0 then (if g_cls G7 l0 = some 3 then (cI (gCa K d 90 [.ref l0, .int (2 : Int32)] G7) (t_21_0_4 K d l0 l1 l2 l3 l4 l5)) else none) else (if g_cls G7 l0 = some 3 then (cI (gCa K d 101 [.ref l0, .int l1, .int l2, .int l3, .int l4, .int l5] G7) (t_21_0_12 K d l0 l1 l2 l3 l4 l5)) else none)
noncomputable def t_21_0_14 (K : gK) (d : Nat) (l0 : Nat) (l1 : Int32) (l2 : Int32) (l3 : Int32) (l4 : Int32) (l5 : Int32) (v2 : Int32) (G1 : gH) : Option gO := if v2 = 0 then (if g_cls G1 l0 = some 3 then (cI (gCa K d 90 [.ref l0, .int (1 : Int32)] G1) (t_21_0_2 K d l0 l1 l2 l3 l4 l5)) else none) else (cI (gCa K d 89 [.int l2, .int (0 : Int32), .int (3 : Int32)] G1) (t_21_0_13 K d l0 l1 l2 l3 l4 l5))
noncomputable def t_21_0 (K : gK) (d : Nat) (l0 : Nat) (l1 : Int32) (l2 : Int32) (l3 : Int32) (l4 : Int32) (l5 : Int32) (G : gH) : Option gO := if g_cls G l0 = some 3 then (cI (gCa K d 96 [.ref l0, .int l1] G) (t_21_0_14 K d l0 l1 l2 l3 l4 l5)) else none
theorem e_21_0 {K : gK} {d : Nat} {l0 : Nat} {l1 : Int32} {l2 : Int32} {l3 : Int32} {l4 : Int32} {l5 : Int32} {G : gH} : gle (t_21_0 K d l0 l1 l2 l3 l4 l5 G) (gRn K d 21 0 [some (.ref l0), some (.int l1), some (.int l2), some (.int l3), some (.int l4), some (.int l5)] [] G) := by
  unfold t_21_0
  refine g_aload ((q_21 _).trans rfl) rfl ?_
  refine g_aload ((q_21 _).trans rfl) rfl ?_
  refine g_iload ((q_21 _).trans rfl) rfl ?_
  refine g_callV (kk := 1) ((q_21 _).trans rfl) (gHn m_21) rfl (by exact ⟨Nat.le_of_ble_eq_true rfl, rfl⟩) rfl (fun w G1 => gm_I (fun v2 hw => ?_))
  subst hw
  refine g_ifne ((q_21 _).trans rfl) (fun _ => ?_) (fun _ => ?_)
  · refine g_push ((q_21 _).trans rfl) ?_
    refine g_goto ((q_21 _).trans rfl) ?_
    refine g_callV (kk := 1) ((q_21 _).trans rfl) (gHn m_21) rfl (by exact ⟨Nat.le_of_ble_eq_true rfl, rfl⟩) rfl (fun w G3 => gm_I (fun v4 hw => ?_))
    subst hw
    refine g_ifeq ((q_21 _).trans rfl) (fun _ => ?_) (fun _ => ?_)
    · refine g_aload ((q_21 _).trans rfl) rfl ?_
      refine g_iload ((q_21 _).trans rfl) rfl ?_
      refine g_iload ((q_21 _).trans rfl) rfl ?_
      refine g_iload ((q_21 _).trans rfl) rfl ?_
      refine g_iload ((q_21 _).trans rfl) rfl ?_
      refine g_iload ((q_21 _).trans rfl) rfl ?_
      refine g_callV (kk := 5) ((q_21 _).trans rfl) (gHn m_21) rfl (by exact ⟨Nat.le_of_ble_eq_true rfl, rfl⟩) rfl (fun w G5 => gm_I (fun v6 hw => ?_))
      subst hw
      exact g_iret ((q_21 _).trans rfl)
    · refine g_push ((q_21 _).trans rfl) ?_
      exact g_iret ((q_21 _).trans rfl)
  · refine g_iload ((q_21 _).trans rfl) rfl ?_
    refine g_push ((q_21 _).trans rfl) ?_
    refine g_push ((q_21 _).trans rfl) ?_
    refine g_callS (kk := 3) ((q_21 _).trans rfl) (gHn m_21) (by exact ⟨Nat.le_of_ble_eq_true rfl, Nat.le_of_ble_eq_true rfl, rfl⟩) rfl (fun w G7 => gm_I (fun v8 hw => ?_))
    subst hw
    refine g_ifne ((q_21 _).trans rfl) (fun _ => ?_) (fun _ => ?_)
    · refine g_push ((q_21 _).trans rfl) ?_
      refine g_goto ((q_21 _).trans rfl) ?_
      refine g_callV (kk := 1) ((q_21 _).trans rfl) (gHn m_21) rfl (by exact ⟨Nat.le_of_ble_eq_true rfl, rfl⟩) rfl (fun w G9 => gm_I (fun v10 hw => ?_))
      subst hw
      refine g_ifeq ((q_21 _).trans rfl) (fun _ => ?_) (fun _ => ?_)
      · refine g_aload ((q_21 _).trans rfl) rfl ?_
        refine g_iload ((q_21 _).trans rfl) rfl ?_
        refine g_iload ((q_21 _).trans rfl) rfl ?_
        refine g_iload ((q_21 _).trans rfl) rfl ?_
        refine g_iload ((q_21 _).trans rfl) rfl ?_
        refine g_iload ((q_21 _).trans rfl) rfl ?_
        refine g_callV (kk := 5) ((q_21 _).trans rfl) (gHn m_21) rfl (by exact ⟨Nat.le_of_ble_eq_true rfl, rfl⟩) rfl (fun w G11 => gm_I (fun v12 hw => ?_))
        subst hw
        exact g_iret ((q_21 _).trans rfl)
      · refine g_push ((q_21 _).trans rfl) ?_
        exact g_iret ((q_21 _).trans rfl)
    · refine g_aload ((q_21 _).trans rfl) rfl ?_
      refine g_iload ((q_21 _).trans rfl) rfl ?_
      refine g_iload ((q_21 _).trans rfl) rfl ?_
      refine g_iload ((q_21 _).trans rfl) rfl ?_
      refine g_iload ((q_21 _).trans rfl) rfl ?_
      refine g_iload ((q_21 _).trans rfl) rfl ?_
      refine g_callV (kk := 5) ((q_21 _).trans rfl) (gHn m_21) rfl (by exact ⟨Nat.le_of_ble_eq_true rfl, rfl⟩) rfl (fun w G13 => gm_I (fun v14 hw => ?_))
      subst hw
      refine g_push ((q_21 _).trans rfl) ?_
      refine g_cmpeq ((q_21 _).trans rfl) (fun _ => ?_) (fun _ => ?_)
      · refine g_aload ((q_21 _).trans rfl) rfl ?_
        refine g_getI ((q_21 _).trans rfl) (fun v15 => ?_)
        refine g_push ((q_21 _).trans rfl) ?_
        refine g_cmpne ((q_21 _).trans rfl) (fun _ => ?_) (fun _ => ?_)
        · refine g_push ((q_21 _).trans rfl) ?_
          refine g_goto ((q_21 _).trans rfl) ?_
          refine g_callV (kk := 1) ((q_21 _).trans rfl) (gHn m_21) rfl (by exact ⟨Nat.le_of_ble_eq_true rfl, rfl⟩) rfl (fun w G16 => gm_I (fun v17 hw => ?_))
          subst hw
          refine g_ifeq ((q_21 _).trans rfl) (fun _ => ?_) (fun _ => ?_)
          · refine g_aload ((q_21 _).trans rfl) rfl ?_
            refine g_iload ((q_21 _).trans rfl) rfl ?_
            refine g_iload ((q_21 _).trans rfl) rfl ?_
            refine g_iload ((q_21 _).trans rfl) rfl ?_
            refine g_iload ((q_21 _).trans rfl) rfl ?_
            refine g_iload ((q_21 _).trans rfl) rfl ?_
            refine g_callV (kk := 5) ((q_21 _).trans rfl) (gHn m_21) rfl (by exact ⟨Nat.le_of_ble_eq_true rfl, rfl⟩) rfl (fun w G18 => gm_I (fun v19 hw => ?_))
            subst hw
            exact g_iret ((q_21 _).trans rfl)
          · refine g_push ((q_21 _).trans rfl) ?_
            exact g_iret ((q_21 _).trans rfl)
        · refine g_push ((q_21 _).trans rfl) ?_
          refine g_callV (kk := 1) ((q_21 _).trans rfl) (gHn m_21) rfl (by exact ⟨Nat.le_of_ble_eq_true rfl, rfl⟩) rfl (fun w G20 => gm_I (fun v21 hw => ?_))
          subst hw
          refine g_ifeq ((q_21 _).trans rfl) (fun _ => ?_) (fun _ => ?_)
          · refine g_aload ((q_21 _).trans rfl) rfl ?_
            refine g_iload ((q_21 _).trans rfl) rfl ?_
            refine g_iload ((q_21 _).trans rfl) rfl ?_
            refine g_iload ((q_21 _).trans rfl) rfl ?_
            refine g_iload ((q_21 _).trans rfl) rfl ?_
            refine g_iload ((q_21 _).trans rfl) rfl ?_
            refine g_callV (kk := 5) ((q_21 _).trans rfl) (gHn m_21) rfl (by exact ⟨Nat.le_of_ble_eq_true rfl, rfl⟩) rfl (fun w G22 => gm_I (fun v23 hw => ?_))
            subst hw
            exact g_iret ((q_21 _).trans rfl)
          · refine g_push ((q_21 _).trans rfl) ?_
            exact g_iret ((q_21 _).trans rfl)
      · refine g_push ((q_21 _).trans rfl) ?_
        refine g_goto ((q_21 _).trans rfl) ?_
        refine g_callV (kk := 1) ((q_21 _).trans rfl) (gHn m_21) rfl (by exact ⟨Nat.le_of_ble_eq_true rfl, rfl⟩) rfl (fun w G24 => gm_I (fun v25 hw => ?_))
        subst hw
        refine g_ifeq ((q_21 _).trans rfl) (fun _ => ?_) (fun _ => ?_)
        · refine g_aload ((q_21 _).trans rfl) rfl ?_
          refine g_iload ((q_21 _).trans rfl) rfl ?_
          refine g_iload ((q_21 _).trans rfl) rfl ?_
          refine g_iload ((q_21 _).trans rfl) rfl ?_
          refine g_iload ((q_21 _).trans rfl) rfl ?_
          refine g_iload ((q_21 _).trans rfl) rfl ?_
          refine g_callV (kk := 5) ((q_21 _).trans rfl) (gHn m_21) rfl (by exact ⟨Nat.le_of_ble_eq_true rfl, rfl⟩) rfl (fun w G26 => gm_I (fun v27 hw => ?_))
          subst hw
          exact g_iret ((q_21 _).trans rfl)
        · refine g_push ((q_21 _).trans rfl) ?_
          exact g_iret ((q_21 _).trans rfl)
theorem c_21 {K : gK} {d : Nat} {l0 : Nat} {l1 : Int32} {l2 : Int32} {l3 : Int32} {l4 : Int32} {l5 : Int32} {G : gH} : gle (t_21_0 K d l0 l1 l2 l3 l4 l5 G) (gCa K (d + 1) 21 [.ref l0, .int l1, .int l2, .int l3, .int l4, .int l5] G) := by
  have h : gent (gMx 21) [.ref l0, .int l1, .int l2, .int l3, .int l4, .int l5] = [some (.ref l0), some (.int l1), some (.int l2), some (.int l3), some (.int l4), some (.int l5)] := by
    show gent (gT 21).2.2.2.1 _ = _
    rw [m_21]; rfl
  exact fun r e => (congrArg (fun q => gRn K d 21 0 q [] G) h).trans (e_21_0 r e)
theorem q_23 {K : gK} (pc : Nat) : gP K 23 pc = ((gL_23 K).lookup pc).getD o_none := rfl
noncomputable def t_23_0_1 (K : gK) (d : Nat) (v6 : Int32) (G5 : gH) : Option gO := if narrow .char (.int v6) = .int v6 then some (.inl (some (.int v6)), G5) else none
noncomputable def t_23_0_2 (K : gK) (d : Nat) (l0 : Nat) (l1 : Int32) (l2 : Int32) (l3 : Int32) (l4 : Int32) (l5 : Int32) (v4 : Int32) (G3 : gH) : Option gO := if v4 = 0 then (if g_cls G3 l0 = some 3 then (cI (gCa K d 101 [.ref l0, .int l1, .int l2, .int l3, .int l4, .int l5] G3) (t_23_0_1 K d)) else none) else (if narrow .char (.int (0 : Int32)) = .int (0 : Int32) then some (.inl (some (.int (0 : Int32))), G3) else none)
noncomputable def t_23_0_3 (K : gK) (d : Nat) (v12 : Int32) (G11 : gH) : Option gO := if narrow .char (.int v12) = .int v12 then some (.inl (some (.int v12)), G11) else none
noncomputable def t_23_0_4 (K : gK) (d : Nat) (l0 : Nat) (l1 : Int32) (l2 : Int32) (l3 : Int32) (l4 : Int32) (l5 : Int32) (v10 : Int32) (G9 : gH) : Option gO := if v10 = 0 then (if g_cls G9 l0 = some 3 then (cI (gCa K d 101 [.ref l0, .int l1, .int l2, .int l3, .int l4, .int l5] G9) (t_23_0_3 K d)) else none) else (if narrow .char (.int (0 : Int32)) = .int (0 : Int32) then some (.inl (some (.int (0 : Int32))), G9) else none)
noncomputable def t_23_0_5 (K : gK) (d : Nat) (v16 : Int32) (G15 : gH) : Option gO := if narrow .char (.int v16) = .int v16 then some (.inl (some (.int v16)), G15) else none
noncomputable def t_23_0_6 (K : gK) (d : Nat) (l0 : Nat) (l1 : Int32) (l2 : Int32) (l3 : Int32) (l4 : Int32) (l5 : Int32) (v14 : Int32) (G13 : gH) : Option gO := if v14 = 0 then (if g_cls G13 l0 = some 3 then (cI (gCa K d 101 [.ref l0, .int l1, .int l2, .int l3, .int l4, .int l5] G13) (t_23_0_5 K d)) else none) else (if narrow .char (.int (0 : Int32)) = .int (0 : Int32) then some (.inl (some (.int (0 : Int32))), G13) else none)
noncomputable def t_23_0_7 (K : gK) (d : Nat) (l0 : Nat) (l1 : Int32) (l2 : Int32) (l3 : Int32) (l4 : Int32) (l5 : Int32) (v8 : Int32) (G7 : gH) : Option gO := if v8 = 0 then (if g_cls G7 l0 = some 3 then (cI (gCa K d 90 [.ref l0, .int (2 : Int32)] G7) (t_23_0_4 K d l0 l1 l2 l3 l4 l5)) else none) else (if g_cls G7 l0 = some 3 then (cI (gCa K d 90 [.ref l0, .int (0 : Int32)] G7) (t_23_0_6 K d l0 l1 l2 l3 l4 l5)) else none)
noncomputable def t_23_0_8 (K : gK) (d : Nat) (l0 : Nat) (l1 : Int32) (l2 : Int32) (l3 : Int32) (l4 : Int32) (l5 : Int32) (v2 : Int32) (G1 : gH) : Option gO := if v2 = 0 then (if g_cls G1 l0 = some 3 then (cI (gCa K d 90 [.ref l0, .int (1 : Int32)] G1) (t_23_0_2 K d l0 l1 l2 l3 l4 l5)) else none) else (cI (gCa K d 89 [.int l2, .int (0 : Int32), .int (3 : Int32)] G1) (t_23_0_7 K d l0 l1 l2 l3 l4 l5))
noncomputable def t_23_0 (K : gK) (d : Nat) (l0 : Nat) (l1 : Int32) (l2 : Int32) (l3 : Int32) (l4 : Int32) (l5 : Int32) (G : gH) : Option gO := if g_cls G l0 = some 3 then (cI (gCa K d 96 [.ref l0, .int l1] G) (t_23_0_8 K d l0 l1 l2 l3 l4 l5)) else none
theorem e_23_0 {K : gK} {d : Nat} {l0 : Nat} {l1 : Int32} {l2 : Int32} {l3 : Int32} {l4 : Int32} {l5 : Int32} {G : gH} : gle (t_23_0 K d l0 l1 l2 l3 l4 l5 G) (gRn K d 23 0 [some (.ref l0), some (.int l1), some (.int l2), some (.int l3), some (.int l4), some (.int l5)] [] G) := by
  unfold t_23_0
  refine g_aload ((q_23 _).trans rfl) rfl ?_
  refine g_aload ((q_23 _).trans rfl) rfl ?_
  refine g_iload ((q_23 _).trans rfl) rfl ?_
  refine g_callV (kk := 1) ((q_23 _).trans rfl) (gHn m_23) rfl (by exact ⟨Nat.le_of_ble_eq_true rfl, rfl⟩) rfl (fun w G1 => gm_I (fun v2 hw => ?_))
  subst hw
  refine g_ifne ((q_23 _).trans rfl) (fun _ => ?_) (fun _ => ?_)
  · refine g_push ((q_23 _).trans rfl) ?_
    refine g_goto ((q_23 _).trans rfl) ?_
    refine g_callV (kk := 1) ((q_23 _).trans rfl) (gHn m_23) rfl (by exact ⟨Nat.le_of_ble_eq_true rfl, rfl⟩) rfl (fun w G3 => gm_I (fun v4 hw => ?_))
    subst hw
    refine g_ifeq ((q_23 _).trans rfl) (fun _ => ?_) (fun _ => ?_)
    · refine g_aload ((q_23 _).trans rfl) rfl ?_
      refine g_iload ((q_23 _).trans rfl) rfl ?_
      refine g_iload ((q_23 _).trans rfl) rfl ?_
      refine g_iload ((q_23 _).trans rfl) rfl ?_
      refine g_iload ((q_23 _).trans rfl) rfl ?_
      refine g_iload ((q_23 _).trans rfl) rfl ?_
      refine g_callV (kk := 5) ((q_23 _).trans rfl) (gHn m_23) rfl (by exact ⟨Nat.le_of_ble_eq_true rfl, rfl⟩) rfl (fun w G5 => gm_I (fun v6 hw => ?_))
      subst hw
      exact g_zret ((q_23 _).trans rfl)
    · refine g_push ((q_23 _).trans rfl) ?_
      refine g_goto ((q_23 _).trans rfl) ?_
      exact g_zret ((q_23 _).trans rfl)
  · refine g_iload ((q_23 _).trans rfl) rfl ?_
    refine g_push ((q_23 _).trans rfl) ?_
    refine g_push ((q_23 _).trans rfl) ?_
    refine g_callS (kk := 3) ((q_23 _).trans rfl) (gHn m_23) (by exact ⟨Nat.le_of_ble_eq_true rfl, Nat.le_of_ble_eq_true rfl, rfl⟩) rfl (fun w G7 => gm_I (fun v8 hw => ?_))
    subst hw
    refine g_ifeq ((q_23 _).trans rfl) (fun _ => ?_) (fun _ => ?_)
    · refine g_push ((q_23 _).trans rfl) ?_
      refine g_callV (kk := 1) ((q_23 _).trans rfl) (gHn m_23) rfl (by exact ⟨Nat.le_of_ble_eq_true rfl, rfl⟩) rfl (fun w G9 => gm_I (fun v10 hw => ?_))
      subst hw
      refine g_ifeq ((q_23 _).trans rfl) (fun _ => ?_) (fun _ => ?_)
      · refine g_aload ((q_23 _).trans rfl) rfl ?_
        refine g_iload ((q_23 _).trans rfl) rfl ?_
        refine g_iload ((q_23 _).trans rfl) rfl ?_
        refine g_iload ((q_23 _).trans rfl) rfl ?_
        refine g_iload ((q_23 _).trans rfl) rfl ?_
        refine g_iload ((q_23 _).trans rfl) rfl ?_
        refine g_callV (kk := 5) ((q_23 _).trans rfl) (gHn m_23) rfl (by exact ⟨Nat.le_of_ble_eq_true rfl, rfl⟩) rfl (fun w G11 => gm_I (fun v12 hw => ?_))
        subst hw
        exact g_zret ((q_23 _).trans rfl)
      · refine g_push ((q_23 _).trans rfl) ?_
        refine g_goto ((q_23 _).trans rfl) ?_
        exact g_zret ((q_23 _).trans rfl)
    · refine g_push ((q_23 _).trans rfl) ?_
      refine g_goto ((q_23 _).trans rfl) ?_
      refine g_callV (kk := 1) ((q_23 _).trans rfl) (gHn m_23) rfl (by exact ⟨Nat.le_of_ble_eq_true rfl, rfl⟩) rfl (fun w G13 => gm_I (fun v14 hw => ?_))
      subst hw
      refine g_ifeq ((q_23 _).trans rfl) (fun _ => ?_) (fun _ => ?_)
      · refine g_aload ((q_23 _).trans rfl) rfl ?_
        refine g_iload ((q_23 _).trans rfl) rfl ?_
        refine g_iload ((q_23 _).trans rfl) rfl ?_
        refine g_iload ((q_23 _).trans rfl) rfl ?_
        refine g_iload ((q_23 _).trans rfl) rfl ?_
        refine g_iload ((q_23 _).trans rfl) rfl ?_
        refine g_callV (kk := 5) ((q_23 _).trans rfl) (gHn m_23) rfl (by exact ⟨Nat.le_of_ble_eq_true rfl, rfl⟩) rfl (fun w G15 => gm_I (fun v16 hw => ?_))
        subst hw
        exact g_zret ((q_23 _).trans rfl)
      · refine g_push ((q_23 _).trans rfl) ?_
        refine g_goto ((q_23 _).trans rfl) ?_
        exact g_zret ((q_23 _).trans rfl)
theorem c_23 {K : gK} {d : Nat} {l0 : Nat} {l1 : Int32} {l2 : Int32} {l3 : Int32} {l4 : Int32} {l5 : Int32} {G : gH} : gle (t_23_0 K d l0 l1 l2 l3 l4 l5 G) (gCa K (d + 1) 23 [.ref l0, .int l1, .int l2, .int l3, .int l4, .int l5] G) := by
  have h : gent (gMx 23) [.ref l0, .int l1, .int l2, .int l3, .int l4, .int l5] = [some (.ref l0), some (.int l1), some (.int l2), some (.int l3), some (.int l4), some (.int l5)] := by
    show gent (gT 23).2.2.2.1 _ = _
    rw [m_23]; rfl
  exact fun r e => (congrArg (fun q => gRn K d 23 0 q [] G) h).trans (e_23_0 r e)
theorem q_25 {K : gK} (pc : Nat) : gP K 25 pc = ((gL_25 K).lookup pc).getD o_none := rfl
noncomputable def t_25_0_1 (K : gK) (d : Nat) (v9 : Int32) (G8 : gH) : Option gO := some (.inl (some (.int v9)), G8)
noncomputable def t_25_0_2 (K : gK) (d : Nat) (G3 : gH) (l0 : Nat) (l1 : Int32) (v5 : Int32) (v6 : Int32) (l2 : Int32) (v7 : Int32) : Option gO := if g_cls G3 l0 = some 3 then (cI (gCa K d 102 [.ref l0, .int l1, .int v5, .int v6, .int v7, .int l2] G3) (t_25_0_1 K d)) else none
noncomputable def t_25_0_3 (K : gK) (d : Nat) (G3 : gH) (l0 : Nat) (l1 : Int32) (v5 : Int32) (l2 : Int32) (v6 : Int32) : Option gO := rI G3 l0 3 38 (t_25_0_2 K d G3 l0 l1 v5 v6 l2)
noncomputable def t_25_0_4 (K : gK) (d : Nat) (G3 : gH) (l0 : Nat) (l1 : Int32) (l2 : Int32) (v5 : Int32) : Option gO := rI G3 l0 3 37 (t_25_0_3 K d G3 l0 l1 v5 l2)
noncomputable def t_25_0_5 (K : gK) (d : Nat) (l0 : Nat) (l1 : Int32) (l2 : Int32) (v4 : Int32) (G3 : gH) : Option gO := if v4 = 0 then (rI G3 l0 3 39 (t_25_0_4 K d G3 l0 l1 l2)) else (some (.inl (some (.int (0 : Int32))), G3))
noncomputable def t_25_0_6 (K : gK) (d : Nat) (v18 : Int32) (G17 : gH) : Option gO := some (.inl (some (.int v18)), G17)
noncomputable def t_25_0_7 (K : gK) (d : Nat) (G12 : gH) (l0 : Nat) (l1 : Int32) (v14 : Int32) (v15 : Int32) (l2 : Int32) (v16 : Int32) : Option gO := if g_cls G12 l0 = some 3 then (cI (gCa K d 102 [.ref l0, .int l1, .int v14, .int v15, .int v16, .int l2] G12) (t_25_0_6 K d)) else none
noncomputable def t_25_0_8 (K : gK) (d : Nat) (G12 : gH) (l0 : Nat) (l1 : Int32) (v14 : Int32) (l2 : Int32) (v15 : Int32) : Option gO := rI G12 l0 3 38 (t_25_0_7 K d G12 l0 l1 v14 v15 l2)
noncomputable def t_25_0_9 (K : gK) (d : Nat) (G12 : gH) (l0 : Nat) (l1 : Int32) (l2 : Int32) (v14 : Int32) : Option gO := rI G12 l0 3 37 (t_25_0_8 K d G12 l0 l1 v14 l2)
noncomputable def t_25_0_10 (K : gK) (d : Nat) (l0 : Nat) (l1 : Int32) (l2 : Int32) (v13 : Int32) (G12 : gH) : Option gO := if v13 = 0 then (rI G12 l0 3 39 (t_25_0_9 K d G12 l0 l1 l2)) else (some (.inl (some (.int (0 : Int32))), G12))
noncomputable def t_25_0_11 (K : gK) (d : Nat) (v26 : Int32) (G25 : gH) : Option gO := some (.inl (some (.int v26)), G25)
noncomputable def t_25_0_12 (K : gK) (d : Nat) (G20 : gH) (l0 : Nat) (l1 : Int32) (v22 : Int32) (v23 : Int32) (l2 : Int32) (v24 : Int32) : Option gO := if g_cls G20 l0 = some 3 then (cI (gCa K d 102 [.ref l0, .int l1, .int v22, .int v23, .int v24, .int l2] G20) (t_25_0_11 K d)) else none
noncomputable def t_25_0_13 (K : gK) (d : Nat) (G20 : gH) (l0 : Nat) (l1 : Int32) (v22 : Int32) (l2 : Int32) (v23 : Int32) : Option gO := rI G20 l0 3 38 (t_25_0_12 K d G20 l0 l1 v22 v23 l2)
noncomputable def t_25_0_14 (K : gK) (d : Nat) (G20 : gH) (l0 : Nat) (l1 : Int32) (l2 : Int32) (v22 : Int32) : Option gO := rI G20 l0 3 37 (t_25_0_13 K d G20 l0 l1 v22 l2)
noncomputable def t_25_0_15 (K : gK) (d : Nat) (l0 : Nat) (l1 : Int32) (l2 : Int32) (v21 : Int32) (G20 : gH) : Option gO := if v21 = 0 then (rI G20 l0 3 39 (t_25_0_14 K d G20 l0 l1 l2)) else (some (.inl (some (.int (0 : Int32))), G20))
noncomputable def t_25_0_16 (K : gK) (d : Nat) (v33 : Int32) (G32 : gH) : Option gO := some (.inl (some (.int v33)), G32)
noncomputable def t_25_0_17 (K : gK) (d : Nat) (G27 : gH) (l0 : Nat) (l1 : Int32) (v29 : Int32) (v30 : Int32) (l2 : Int32) (v31 : Int32) : Option gO := if g_cls G27 l0 = some 3 then (cI (gCa K d 102 [.ref l0, .int l1, .int v29, .int v30, .int v31, .int l2] G27) (t_25_0_16 K d)) else none
noncomputable def t_25_0_18 (K : gK) (d : Nat) (G27 : gH) (l0 : Nat) (l1 : Int32) (v29 : Int32) (l2 : Int32) (v30 : Int32) : Option gO := rI G27 l0 3 38 (t_25_0_17 K d G27 l0 l1 v29 v30 l2)
noncomputable def t_25_0_19 (K : gK) (d : Nat) (G27 : gH) (l0 : Nat) (l1 : Int32) (l2 : Int32) (v29 : Int32) : Option gO := rI G27 l0 3 37 (t_25_0_18 K d G27 l0 l1 v29 l2)
noncomputable def t_25_0_20 (K : gK) (d : Nat) (l0 : Nat) (l1 : Int32) (l2 : Int32) (v28 : Int32) (G27 : gH) : Option gO := if v28 = 0 then (rI G27 l0 3 39 (t_25_0_19 K d G27 l0 l1 l2)) else (some (.inl (some (.int (0 : Int32))), G27))
noncomputable def t_25_0_21 (K : gK) (d : Nat) (G10 : gH) (l0 : Nat) (l1 : Int32) (l2 : Int32) (v19 : Int32) : Option gO := if v19 = (40 : Int32) then (if g_cls G10 l0 = some 3 then (cI (gCa K d 90 [.ref l0, .int (3 : Int32)] G10) (t_25_0_15 K d l0 l1 l2)) else none) else (if g_cls G10 l0 = some 3 then (cI (gCa K d 90 [.ref l0, .int (0 : Int32)] G10) (t_25_0_20 K d l0 l1 l2)) else none)
noncomputable def t_25_0_22 (K : gK) (d : Nat) (l0 : Nat) (l1 : Int32) (l2 : Int32) (v11 : Int32) (G10 : gH) : Option gO := if v11 = 0 then (if g_cls G10 l0 = some 3 then (cI (gCa K d 90 [.ref l0, .int (2 : Int32)] G10) (t_25_0_10 K d l0 l1 l2)) else none) else (rI G10 l0 3 17 (t_25_0_21 K d G10 l0 l1 l2))
noncomputable def t_25_0_23 (K : gK) (d : Nat) (l0 : Nat) (l1 : Int32) (l2 : Int32) (v2 : Int32) (G1 : gH) : Option gO := if v2 = 0 then (if g_cls G1 l0 = some 3 then (cI (gCa K d 90 [.ref l0, .int (1 : Int32)] G1) (t_25_0_5 K d l0 l1 l2)) else none) else (if g_cls G1 l0 = some 3 then (cI (gCa K d 105 [.ref l0, .int l1, .int l2] G1) (t_25_0_22 K d l0 l1 l2)) else none)
noncomputable def t_25_0 (K : gK) (d : Nat) (l0 : Nat) (l1 : Int32) (l2 : Int32) (G : gH) : Option gO := if g_cls G l0 = some 3 then (cI (gCa K d 96 [.ref l0, .int l1] G) (t_25_0_23 K d l0 l1 l2)) else none
theorem e_25_0 {K : gK} {d : Nat} {l0 : Nat} {l1 : Int32} {l2 : Int32} {G : gH} : gle (t_25_0 K d l0 l1 l2 G) (gRn K d 25 0 [some (.ref l0), some (.int l1), some (.int l2)] [] G) := by
  unfold t_25_0
  refine g_aload ((q_25 _).trans rfl) rfl ?_
  refine g_aload ((q_25 _).trans rfl) rfl ?_
  refine g_iload ((q_25 _).trans rfl) rfl ?_
  refine g_callV (kk := 1) ((q_25 _).trans rfl) (gHn m_25) rfl (by exact ⟨Nat.le_of_ble_eq_true rfl, rfl⟩) rfl (fun w G1 => gm_I (fun v2 hw => ?_))
  subst hw
  refine g_ifne ((q_25 _).trans rfl) (fun _ => ?_) (fun _ => ?_)
  · refine g_push ((q_25 _).trans rfl) ?_
    refine g_goto ((q_25 _).trans rfl) ?_
    refine g_callV (kk := 1) ((q_25 _).trans rfl) (gHn m_25) rfl (by exact ⟨Nat.le_of_ble_eq_true rfl, rfl⟩) rfl (fun w G3 => gm_I (fun v4 hw => ?_))
    subst hw
    refine g_ifeq ((q_25 _).trans rfl) (fun _ => ?_) (fun _ => ?_)
    · refine g_aload ((q_25 _).trans rfl) rfl ?_
      refine g_iload ((q_25 _).trans rfl) rfl ?_
      refine g_aload ((q_25 _).trans rfl) rfl ?_
      refine g_getI ((q_25 _).trans rfl) (fun v5 => ?_)
      refine g_aload ((q_25 _).trans rfl) rfl ?_
      refine g_getI ((q_25 _).trans rfl) (fun v6 => ?_)
      refine g_aload ((q_25 _).trans rfl) rfl ?_
      refine g_getI ((q_25 _).trans rfl) (fun v7 => ?_)
      refine g_iload ((q_25 _).trans rfl) rfl ?_
      refine g_callV (kk := 5) ((q_25 _).trans rfl) (gHn m_25) rfl (by exact ⟨Nat.le_of_ble_eq_true rfl, rfl⟩) rfl (fun w G8 => gm_I (fun v9 hw => ?_))
      subst hw
      exact g_iret ((q_25 _).trans rfl)
    · refine g_push ((q_25 _).trans rfl) ?_
      exact g_iret ((q_25 _).trans rfl)
  · refine g_aload ((q_25 _).trans rfl) rfl ?_
    refine g_iload ((q_25 _).trans rfl) rfl ?_
    refine g_iload ((q_25 _).trans rfl) rfl ?_
    refine g_callV (kk := 2) ((q_25 _).trans rfl) (gHn m_25) rfl (by exact ⟨Nat.le_of_ble_eq_true rfl, rfl⟩) rfl (fun w G10 => gm_I (fun v11 hw => ?_))
    subst hw
    refine g_ifne ((q_25 _).trans rfl) (fun _ => ?_) (fun _ => ?_)
    · refine g_push ((q_25 _).trans rfl) ?_
      refine g_goto ((q_25 _).trans rfl) ?_
      refine g_callV (kk := 1) ((q_25 _).trans rfl) (gHn m_25) rfl (by exact ⟨Nat.le_of_ble_eq_true rfl, rfl⟩) rfl (fun w G12 => gm_I (fun v13 hw => ?_))
      subst hw
      refine g_ifeq ((q_25 _).trans rfl) (fun _ => ?_) (fun _ => ?_)
      · refine g_aload ((q_25 _).trans rfl) rfl ?_
        refine g_iload ((q_25 _).trans rfl) rfl ?_
        refine g_aload ((q_25 _).trans rfl) rfl ?_
        refine g_getI ((q_25 _).trans rfl) (fun v14 => ?_)
        refine g_aload ((q_25 _).trans rfl) rfl ?_
        refine g_getI ((q_25 _).trans rfl) (fun v15 => ?_)
        refine g_aload ((q_25 _).trans rfl) rfl ?_
        refine g_getI ((q_25 _).trans rfl) (fun v16 => ?_)
        refine g_iload ((q_25 _).trans rfl) rfl ?_
        refine g_callV (kk := 5) ((q_25 _).trans rfl) (gHn m_25) rfl (by exact ⟨Nat.le_of_ble_eq_true rfl, rfl⟩) rfl (fun w G17 => gm_I (fun v18 hw => ?_))
        subst hw
        exact g_iret ((q_25 _).trans rfl)
      · refine g_push ((q_25 _).trans rfl) ?_
        exact g_iret ((q_25 _).trans rfl)
    · refine g_aload ((q_25 _).trans rfl) rfl ?_
      refine g_getI ((q_25 _).trans rfl) (fun v19 => ?_)
      refine g_push ((q_25 _).trans rfl) ?_
      refine g_cmpne ((q_25 _).trans rfl) (fun _ => ?_) (fun _ => ?_)
      · refine g_push ((q_25 _).trans rfl) ?_
        refine g_goto ((q_25 _).trans rfl) ?_
        refine g_callV (kk := 1) ((q_25 _).trans rfl) (gHn m_25) rfl (by exact ⟨Nat.le_of_ble_eq_true rfl, rfl⟩) rfl (fun w G20 => gm_I (fun v21 hw => ?_))
        subst hw
        refine g_ifeq ((q_25 _).trans rfl) (fun _ => ?_) (fun _ => ?_)
        · refine g_aload ((q_25 _).trans rfl) rfl ?_
          refine g_iload ((q_25 _).trans rfl) rfl ?_
          refine g_aload ((q_25 _).trans rfl) rfl ?_
          refine g_getI ((q_25 _).trans rfl) (fun v22 => ?_)
          refine g_aload ((q_25 _).trans rfl) rfl ?_
          refine g_getI ((q_25 _).trans rfl) (fun v23 => ?_)
          refine g_aload ((q_25 _).trans rfl) rfl ?_
          refine g_getI ((q_25 _).trans rfl) (fun v24 => ?_)
          refine g_iload ((q_25 _).trans rfl) rfl ?_
          refine g_callV (kk := 5) ((q_25 _).trans rfl) (gHn m_25) rfl (by exact ⟨Nat.le_of_ble_eq_true rfl, rfl⟩) rfl (fun w G25 => gm_I (fun v26 hw => ?_))
          subst hw
          exact g_iret ((q_25 _).trans rfl)
        · refine g_push ((q_25 _).trans rfl) ?_
          exact g_iret ((q_25 _).trans rfl)
      · refine g_push ((q_25 _).trans rfl) ?_
        refine g_callV (kk := 1) ((q_25 _).trans rfl) (gHn m_25) rfl (by exact ⟨Nat.le_of_ble_eq_true rfl, rfl⟩) rfl (fun w G27 => gm_I (fun v28 hw => ?_))
        subst hw
        refine g_ifeq ((q_25 _).trans rfl) (fun _ => ?_) (fun _ => ?_)
        · refine g_aload ((q_25 _).trans rfl) rfl ?_
          refine g_iload ((q_25 _).trans rfl) rfl ?_
          refine g_aload ((q_25 _).trans rfl) rfl ?_
          refine g_getI ((q_25 _).trans rfl) (fun v29 => ?_)
          refine g_aload ((q_25 _).trans rfl) rfl ?_
          refine g_getI ((q_25 _).trans rfl) (fun v30 => ?_)
          refine g_aload ((q_25 _).trans rfl) rfl ?_
          refine g_getI ((q_25 _).trans rfl) (fun v31 => ?_)
          refine g_iload ((q_25 _).trans rfl) rfl ?_
          refine g_callV (kk := 5) ((q_25 _).trans rfl) (gHn m_25) rfl (by exact ⟨Nat.le_of_ble_eq_true rfl, rfl⟩) rfl (fun w G32 => gm_I (fun v33 hw => ?_))
          subst hw
          exact g_iret ((q_25 _).trans rfl)
        · refine g_push ((q_25 _).trans rfl) ?_
          exact g_iret ((q_25 _).trans rfl)
theorem c_25 {K : gK} {d : Nat} {l0 : Nat} {l1 : Int32} {l2 : Int32} {G : gH} : gle (t_25_0 K d l0 l1 l2 G) (gCa K (d + 1) 25 [.ref l0, .int l1, .int l2] G) := by
  have h : gent (gMx 25) [.ref l0, .int l1, .int l2] = [some (.ref l0), some (.int l1), some (.int l2)] := by
    show gent (gT 25).2.2.2.1 _ = _
    rw [m_25]; rfl
  exact fun r e => (congrArg (fun q => gRn K d 25 0 q [] G) h).trans (e_25_0 r e)
theorem q_27 {K : gK} (pc : Nat) : gP K 27 pc = ((gL_27 K).lookup pc).getD o_none := rfl
noncomputable def t_27_0_1 (K : gK) (d : Nat) (v10 : Int32) (G9 : gH) : Option gO := some (.inl (some (.int v10)), G9)
noncomputable def t_27_0_2 (K : gK) (d : Nat) (l0 : Nat) (G7 : gH) : Option gO := if g_cls G7 l0 = some 3 then (cI (gCa K d 109 [.ref l0] G7) (t_27_0_1 K d)) else none
noncomputable def t_27_0_3 (K : gK) (d : Nat) (l0 : Nat) (v6 : Int32) (G5 : gH) : Option gO := if g_cls G5 l0 = some 3 then (cV (gCa K d 108 [.ref l0, .int v6] G5) (t_27_0_2 K d l0)) else none
noncomputable def t_27_0_4 (K : gK) (d : Nat) (l0 : Nat) (l1 : Int32) (v4 : Int32) (G3 : gH) : Option gO := if v4 = 0 then (if g_cls G3 l0 = some 3 then (cI (gCa K d 107 [.ref l0, .int l1] G3) (t_27_0_3 K d l0)) else none) else (some (.inl (some (.int (0 : Int32))), G3))
noncomputable def t_27_0_5 (K : gK) (d : Nat) (v18 : Int32) (G17 : gH) : Option gO := some (.inl (some (.int v18)), G17)
noncomputable def t_27_0_6 (K : gK) (d : Nat) (l0 : Nat) (G15 : gH) : Option gO := if g_cls G15 l0 = some 3 then (cI (gCa K d 109 [.ref l0] G15) (t_27_0_5 K d)) else none
noncomputable def t_27_0_7 (K : gK) (d : Nat) (l0 : Nat) (v14 : Int32) (G13 : gH) : Option gO := if g_cls G13 l0 = some 3 then (cV (gCa K d 108 [.ref l0, .int v14] G13) (t_27_0_6 K d l0)) else none
noncomputable def t_27_0_8 (K : gK) (d : Nat) (l0 : Nat) (l1 : Int32) (v12 : Int32) (G11 : gH) : Option gO := if v12 = 0 then (if g_cls G11 l0 = some 3 then (cI (gCa K d 107 [.ref l0, .int l1] G11) (t_27_0_7 K d l0)) else none) else (some (.inl (some (.int (0 : Int32))), G11))
noncomputable def t_27_0_9 (K : gK) (d : Nat) (l0 : Nat) (l1 : Int32) (v2 : Int32) (G1 : gH) : Option gO := if v2 = ((-1) : Int32) then (if g_cls G1 l0 = some 3 then (cI (gCa K d 90 [.ref l0, .int (1 : Int32)] G1) (t_27_0_4 K d l0 l1)) else none) else (if g_cls G1 l0 = some 3 then (cI (gCa K d 90 [.ref l0, .int (0 : Int32)] G1) (t_27_0_8 K d l0 l1)) else none)
noncomputable def t_27_0 (K : gK) (d : Nat) (l0 : Nat) (l1 : Int32) (G : gH) : Option gO := if g_cls G l0 = some 3 then (cI (gCa K d 107 [.ref l0, .int l1] G) (t_27_0_9 K d l0 l1)) else none
theorem e_27_0 {K : gK} {d : Nat} {l0 : Nat} {l1 : Int32} {G : gH} : gle (t_27_0 K d l0 l1 G) (gRn K d 27 0 [some (.ref l0), some (.int l1)] [] G) := by
  unfold t_27_0
  refine g_aload ((q_27 _).trans rfl) rfl ?_
  refine g_aload ((q_27 _).trans rfl) rfl ?_
  refine g_iload ((q_27 _).trans rfl) rfl ?_
  refine g_callV (kk := 1) ((q_27 _).trans rfl) (gHn m_27) rfl (by exact ⟨Nat.le_of_ble_eq_true rfl, rfl⟩) rfl (fun w G1 => gm_I (fun v2 hw => ?_))
  subst hw
  refine g_push ((q_27 _).trans rfl) ?_
  refine g_cmpne ((q_27 _).trans rfl) (fun _ => ?_) (fun _ => ?_)
  · refine g_push ((q_27 _).trans rfl) ?_
    refine g_goto ((q_27 _).trans rfl) ?_
    refine g_callV (kk := 1) ((q_27 _).trans rfl) (gHn m_27) rfl (by exact ⟨Nat.le_of_ble_eq_true rfl, rfl⟩) rfl (fun w G3 => gm_I (fun v4 hw => ?_))
    subst hw
    refine g_ifeq ((q_27 _).trans rfl) (fun _ => ?_) (fun _ => ?_)
    · refine g_aload ((q_27 _).trans rfl) rfl ?_
      refine g_aload ((q_27 _).trans rfl) rfl ?_
      refine g_iload ((q_27 _).trans rfl) rfl ?_
      refine g_callV (kk := 1) ((q_27 _).trans rfl) (gHn m_27) rfl (by exact ⟨Nat.le_of_ble_eq_true rfl, rfl⟩) rfl (fun w G5 => gm_I (fun v6 hw => ?_))
      subst hw
      refine g_callV (kk := 1) ((q_27 _).trans rfl) (gHn m_27) rfl (by exact ⟨Nat.le_of_ble_eq_true rfl, rfl⟩) rfl (fun w G7 => gm_V (fun hw => ?_))
      subst hw
      refine g_aload ((q_27 _).trans rfl) rfl ?_
      refine g_callV (kk := 0) ((q_27 _).trans rfl) (gHn m_27) rfl (by exact ⟨Nat.le_of_ble_eq_true rfl, rfl⟩) rfl (fun w G9 => gm_I (fun v10 hw => ?_))
      subst hw
      exact g_iret ((q_27 _).trans rfl)
    · refine g_push ((q_27 _).trans rfl) ?_
      exact g_iret ((q_27 _).trans rfl)
  · refine g_push ((q_27 _).trans rfl) ?_
    refine g_callV (kk := 1) ((q_27 _).trans rfl) (gHn m_27) rfl (by exact ⟨Nat.le_of_ble_eq_true rfl, rfl⟩) rfl (fun w G11 => gm_I (fun v12 hw => ?_))
    subst hw
    refine g_ifeq ((q_27 _).trans rfl) (fun _ => ?_) (fun _ => ?_)
    · refine g_aload ((q_27 _).trans rfl) rfl ?_
      refine g_aload ((q_27 _).trans rfl) rfl ?_
      refine g_iload ((q_27 _).trans rfl) rfl ?_
      refine g_callV (kk := 1) ((q_27 _).trans rfl) (gHn m_27) rfl (by exact ⟨Nat.le_of_ble_eq_true rfl, rfl⟩) rfl (fun w G13 => gm_I (fun v14 hw => ?_))
      subst hw
      refine g_callV (kk := 1) ((q_27 _).trans rfl) (gHn m_27) rfl (by exact ⟨Nat.le_of_ble_eq_true rfl, rfl⟩) rfl (fun w G15 => gm_V (fun hw => ?_))
      subst hw
      refine g_aload ((q_27 _).trans rfl) rfl ?_
      refine g_callV (kk := 0) ((q_27 _).trans rfl) (gHn m_27) rfl (by exact ⟨Nat.le_of_ble_eq_true rfl, rfl⟩) rfl (fun w G17 => gm_I (fun v18 hw => ?_))
      subst hw
      exact g_iret ((q_27 _).trans rfl)
    · refine g_push ((q_27 _).trans rfl) ?_
      exact g_iret ((q_27 _).trans rfl)
theorem c_27 {K : gK} {d : Nat} {l0 : Nat} {l1 : Int32} {G : gH} : gle (t_27_0 K d l0 l1 G) (gCa K (d + 1) 27 [.ref l0, .int l1] G) := by
  have h : gent (gMx 27) [.ref l0, .int l1] = [some (.ref l0), some (.int l1)] := by
    show gent (gT 27).2.2.2.1 _ = _
    rw [m_27]; rfl
  exact fun r e => (congrArg (fun q => gRn K d 27 0 q [] G) h).trans (e_27_0 r e)
theorem q_28 {K : gK} (pc : Nat) : gP K 28 pc = ((gL_28 K).lookup pc).getD o_none := rfl
noncomputable def t_28_0_1 (K : gK) (d : Nat) (v3 : Int32) (G9 : gH) : Option gO := some (.inl (some (.int v3)), G9)
noncomputable def t_28_0_2 (K : gK) (d : Nat) (G7 : gH) (v3 : Int32) (a8 : Nat) : Option gO := if g_cls G7 a8 = some 2 then (cV (gCa K d 112 [.ref a8] G7) (t_28_0_1 K d v3)) else none
noncomputable def t_28_0_3 (K : gK) (d : Nat) (l0 : Nat) (v3 : Int32) (G7 : gH) : Option gO := rR G7 l0 0 6 (t_28_0_2 K d G7 v3)
noncomputable def t_28_0_4 (K : gK) (d : Nat) (l0 : Nat) (v3 : Int32) (G5 : gH) : Option gO := if narrow .int (.int (0 : Int32)) = .int (0 : Int32) ∧ fits .int (.int (0 : Int32)) = true then wF G5 l0 0 13 (.int (0 : Int32)) (t_28_0_3 K d l0 v3) else none
noncomputable def t_28_0_5 (K : gK) (d : Nat) (G2 : gH) (l0 : Nat) (v3 : Int32) (a4 : Nat) : Option gO := if g_cls G2 a4 = some 12 then (cV (gCa K d 111 [.ref a4] G2) (t_28_0_4 K d l0 v3)) else none
noncomputable def t_28_0_6 (K : gK) (d : Nat) (l0 : Nat) (v3 : Int32) (G2 : gH) : Option gO := rR G2 l0 0 2 (t_28_0_5 K d G2 l0 v3)
noncomputable def t_28_0_7 (K : gK) (d : Nat) (G : gH) (l0 : Nat) (a1 : Nat) : Option gO := if g_cls G a1 = some 12 then (cI (gCa K d 110 [.ref a1] G) (t_28_0_6 K d l0)) else none
noncomputable def t_28_0 (K : gK) (d : Nat) (l0 : Nat) (G : gH) : Option gO := rR G l0 0 2 (t_28_0_7 K d G l0)
theorem e_28_0 {K : gK} {d : Nat} {l0 : Nat} {G : gH} : gle (t_28_0 K d l0 G) (gRn K d 28 0 [some (.ref l0), none] [] G) := by
  unfold t_28_0
  refine g_aload ((q_28 _).trans rfl) rfl ?_
  refine g_getR ((q_28 _).trans rfl) (fun a1 => ?_)
  refine g_callV (kk := 0) ((q_28 _).trans rfl) (gHn m_28) rfl (by exact ⟨Nat.le_of_ble_eq_true rfl, rfl⟩) rfl (fun w G2 => gm_I (fun v3 hw => ?_))
  subst hw
  refine g_istore ((q_28 _).trans rfl) ?_
  refine g_aload ((q_28 _).trans rfl) rfl ?_
  refine g_getR ((q_28 _).trans rfl) (fun a4 => ?_)
  refine g_callV (kk := 0) ((q_28 _).trans rfl) (gHn m_28) rfl (by exact ⟨Nat.le_of_ble_eq_true rfl, rfl⟩) rfl (fun w G5 => gm_V (fun hw => ?_))
  subst hw
  refine g_aload ((q_28 _).trans rfl) rfl ?_
  refine g_push ((q_28 _).trans rfl) ?_
  refine g_putf ((q_28 _).trans rfl) (fun G7 => ?_)
  refine g_aload ((q_28 _).trans rfl) rfl ?_
  refine g_getR ((q_28 _).trans rfl) (fun a8 => ?_)
  refine g_callV (kk := 0) ((q_28 _).trans rfl) (gHn m_28) rfl (by exact ⟨Nat.le_of_ble_eq_true rfl, rfl⟩) rfl (fun w G9 => gm_V (fun hw => ?_))
  subst hw
  refine g_iload ((q_28 _).trans rfl) rfl ?_
  exact g_iret ((q_28 _).trans rfl)
theorem c_28 {K : gK} {d : Nat} {l0 : Nat} {G : gH} : gle (t_28_0 K d l0 G) (gCa K (d + 1) 28 [.ref l0] G) := by
  have h : gent (gMx 28) [.ref l0] = [some (.ref l0), none] := by
    show gent (gT 28).2.2.2.1 _ = _
    rw [m_28]; rfl
  exact fun r e => (congrArg (fun q => gRn K d 28 0 q [] G) h).trans (e_28_0 r e)
theorem q_29 {K : gK} (pc : Nat) : gP K 29 pc = ((gL_29 K).lookup pc).getD o_none := rfl
noncomputable def t_29_0_1 (K : gK) (d : Nat) (v2 : Int32) (G3 : gH) : Option gO := some (.inl (some (.int v2)), G3)
noncomputable def t_29_0_2 (K : gK) (d : Nat) (G1 : gH) (l0 : Nat) (v2 : Int32) : Option gO := if g_cls G1 l0 = some 3 then (cV (gCa K d 87 [.ref l0] G1) (t_29_0_1 K d v2)) else none
noncomputable def t_29_0_3 (K : gK) (d : Nat) (l0 : Nat) (G1 : gH) : Option gO := rI G1 l0 3 17 (t_29_0_2 K d G1 l0)
noncomputable def t_29_0 (K : gK) (d : Nat) (l0 : Nat) (G : gH) : Option gO := if narrow .int (.int (0 : Int32)) = .int (0 : Int32) ∧ fits .int (.int (0 : Int32)) = true then wF G l0 3 0 (.int (0 : Int32)) (t_29_0_3 K d l0) else none
theorem e_29_0 {K : gK} {d : Nat} {l0 : Nat} {G : gH} : gle (t_29_0 K d l0 G) (gRn K d 29 0 [some (.ref l0), none] [] G) := by
  unfold t_29_0
  refine g_aload ((q_29 _).trans rfl) rfl ?_
  refine g_push ((q_29 _).trans rfl) ?_
  refine g_putf ((q_29 _).trans rfl) (fun G1 => ?_)
  refine g_aload ((q_29 _).trans rfl) rfl ?_
  refine g_getI ((q_29 _).trans rfl) (fun v2 => ?_)
  refine g_istore ((q_29 _).trans rfl) ?_
  refine g_aload ((q_29 _).trans rfl) rfl ?_
  refine g_callV (kk := 0) ((q_29 _).trans rfl) (gHn m_29) rfl (by exact ⟨Nat.le_of_ble_eq_true rfl, rfl⟩) rfl (fun w G3 => gm_V (fun hw => ?_))
  subst hw
  refine g_iload ((q_29 _).trans rfl) rfl ?_
  exact g_iret ((q_29 _).trans rfl)
theorem c_29 {K : gK} {d : Nat} {l0 : Nat} {G : gH} : gle (t_29_0 K d l0 G) (gCa K (d + 1) 29 [.ref l0] G) := by
  have h : gent (gMx 29) [.ref l0] = [some (.ref l0), none] := by
    show gent (gT 29).2.2.2.1 _ = _
    rw [m_29]; rfl
  exact fun r e => (congrArg (fun q => gRn K d 29 0 q [] G) h).trans (e_29_0 r e)
theorem q_30 {K : gK} (pc : Nat) : gP K 30 pc = ((gL_30 K).lookup pc).getD o_none := rfl
noncomputable def t_30_0_1 (K : gK) (d : Nat) (v3 : Int32) (G2 : gH) : Option gO := some (.inl (some (.int v3)), G2)
noncomputable def t_30_0_2 (K : gK) (d : Nat) (G : gH) (a1 : Nat) : Option gO := if g_cls G a1 = some 12 then (cI (gCa K d 110 [.ref a1] G) (t_30_0_1 K d)) else none
noncomputable def t_30_0 (K : gK) (d : Nat) (l0 : Nat) (G : gH) : Option gO := rR G l0 0 2 (t_30_0_2 K d G)
theorem e_30_0 {K : gK} {d : Nat} {l0 : Nat} {G : gH} : gle (t_30_0 K d l0 G) (gRn K d 30 0 [some (.ref l0)] [] G) := by
  unfold t_30_0
  refine g_aload ((q_30 _).trans rfl) rfl ?_
  refine g_getR ((q_30 _).trans rfl) (fun a1 => ?_)
  refine g_callV (kk := 0) ((q_30 _).trans rfl) (gHn m_30) rfl (by exact ⟨Nat.le_of_ble_eq_true rfl, rfl⟩) rfl (fun w G2 => gm_I (fun v3 hw => ?_))
  subst hw
  exact g_iret ((q_30 _).trans rfl)
theorem c_30 {K : gK} {d : Nat} {l0 : Nat} {G : gH} : gle (t_30_0 K d l0 G) (gCa K (d + 1) 30 [.ref l0] G) := by
  have h : gent (gMx 30) [.ref l0] = [some (.ref l0)] := by
    show gent (gT 30).2.2.2.1 _ = _
    rw [m_30]; rfl
  exact fun r e => (congrArg (fun q => gRn K d 30 0 q [] G) h).trans (e_30_0 r e)
theorem q_31 {K : gK} (pc : Nat) : gP K 31 pc = ((gL_31 K).lookup pc).getD o_none := rfl
noncomputable def t_31_0_1 (K : gK) (d : Nat) (G1 : gH) (v2 : Int32) : Option gO := some (.inl (some (.int v2)), G1)
noncomputable def t_31_0_2 (K : gK) (d : Nat) (l0 : Nat) (G1 : gH) : Option gO := rI G1 l0 3 17 (t_31_0_1 K d G1)
noncomputable def t_31_0 (K : gK) (d : Nat) (l0 : Nat) (G : gH) : Option gO := if narrow .int (.int (0 : Int32)) = .int (0 : Int32) ∧ fits .int (.int (0 : Int32)) = true then wF G l0 3 0 (.int (0 : Int32)) (t_31_0_2 K d l0) else none
theorem e_31_0 {K : gK} {d : Nat} {l0 : Nat} {G : gH} : gle (t_31_0 K d l0 G) (gRn K d 31 0 [some (.ref l0)] [] G) := by
  unfold t_31_0
  refine g_aload ((q_31 _).trans rfl) rfl ?_
  refine g_push ((q_31 _).trans rfl) ?_
  refine g_putf ((q_31 _).trans rfl) (fun G1 => ?_)
  refine g_aload ((q_31 _).trans rfl) rfl ?_
  refine g_getI ((q_31 _).trans rfl) (fun v2 => ?_)
  exact g_iret ((q_31 _).trans rfl)
theorem c_31 {K : gK} {d : Nat} {l0 : Nat} {G : gH} : gle (t_31_0 K d l0 G) (gCa K (d + 1) 31 [.ref l0] G) := by
  have h : gent (gMx 31) [.ref l0] = [some (.ref l0)] := by
    show gent (gT 31).2.2.2.1 _ = _
    rw [m_31]; rfl
  exact fun r e => (congrArg (fun q => gRn K d 31 0 q [] G) h).trans (e_31_0 r e)
theorem q_33 {K : gK} (pc : Nat) : gP K 33 pc = ((gL_33 K).lookup pc).getD o_none := rfl
noncomputable def t_33_0_1 (K : gK) (d : Nat) (G6 : gH) (v8 : Int32) : Option gO := some (.inl (some (.int v8)), G6)
noncomputable def t_33_0_2 (K : gK) (d : Nat) (a5 : Nat) (v7 : Int32) (G6 : gH) : Option gO := xI G6 a5 0 v7 (t_33_0_1 K d G6)
noncomputable def t_33_0_3 (K : gK) (d : Nat) (G3 : gH) (l0 : Nat) (l1 : Int32) (a5 : Nat) : Option gO := if g_cls G3 l0 = some 3 then (cI (gCa K d 107 [.ref l0, .int l1] G3) (t_33_0_2 K d a5)) else none
noncomputable def t_33_0_4 (K : gK) (d : Nat) (l0 : Nat) (l1 : Int32) (v4 : Int32) (G3 : gH) : Option gO := if v4 = 0 then (rR G3 l0 3 21 (t_33_0_3 K d G3 l0 l1)) else (some (.inl (some (.int (0 : Int32))), G3))
noncomputable def t_33_0_5 (K : gK) (d : Nat) (G12 : gH) (v14 : Int32) : Option gO := some (.inl (some (.int v14)), G12)
noncomputable def t_33_0_6 (K : gK) (d : Nat) (a11 : Nat) (v13 : Int32) (G12 : gH) : Option gO := xI G12 a11 0 v13 (t_33_0_5 K d G12)
noncomputable def t_33_0_7 (K : gK) (d : Nat) (G9 : gH) (l0 : Nat) (l1 : Int32) (a11 : Nat) : Option gO := if g_cls G9 l0 = some 3 then (cI (gCa K d 107 [.ref l0, .int l1] G9) (t_33_0_6 K d a11)) else none
noncomputable def t_33_0_8 (K : gK) (d : Nat) (l0 : Nat) (l1 : Int32) (v10 : Int32) (G9 : gH) : Option gO := if v10 = 0 then (rR G9 l0 3 21 (t_33_0_7 K d G9 l0 l1)) else (some (.inl (some (.int (0 : Int32))), G9))
noncomputable def t_33_0_9 (K : gK) (d : Nat) (l0 : Nat) (l1 : Int32) (v2 : Int32) (G1 : gH) : Option gO := if v2 = ((-1) : Int32) then (if g_cls G1 l0 = some 3 then (cI (gCa K d 90 [.ref l0, .int (1 : Int32)] G1) (t_33_0_4 K d l0 l1)) else none) else (if g_cls G1 l0 = some 3 then (cI (gCa K d 90 [.ref l0, .int (0 : Int32)] G1) (t_33_0_8 K d l0 l1)) else none)
noncomputable def t_33_0 (K : gK) (d : Nat) (l0 : Nat) (l1 : Int32) (G : gH) : Option gO := if g_cls G l0 = some 3 then (cI (gCa K d 107 [.ref l0, .int l1] G) (t_33_0_9 K d l0 l1)) else none
theorem e_33_0 {K : gK} {d : Nat} {l0 : Nat} {l1 : Int32} {G : gH} : gle (t_33_0 K d l0 l1 G) (gRn K d 33 0 [some (.ref l0), some (.int l1)] [] G) := by
  unfold t_33_0
  refine g_aload ((q_33 _).trans rfl) rfl ?_
  refine g_aload ((q_33 _).trans rfl) rfl ?_
  refine g_iload ((q_33 _).trans rfl) rfl ?_
  refine g_callV (kk := 1) ((q_33 _).trans rfl) (gHn m_33) rfl (by exact ⟨Nat.le_of_ble_eq_true rfl, rfl⟩) rfl (fun w G1 => gm_I (fun v2 hw => ?_))
  subst hw
  refine g_push ((q_33 _).trans rfl) ?_
  refine g_cmpne ((q_33 _).trans rfl) (fun _ => ?_) (fun _ => ?_)
  · refine g_push ((q_33 _).trans rfl) ?_
    refine g_goto ((q_33 _).trans rfl) ?_
    refine g_callV (kk := 1) ((q_33 _).trans rfl) (gHn m_33) rfl (by exact ⟨Nat.le_of_ble_eq_true rfl, rfl⟩) rfl (fun w G3 => gm_I (fun v4 hw => ?_))
    subst hw
    refine g_ifeq ((q_33 _).trans rfl) (fun _ => ?_) (fun _ => ?_)
    · refine g_aload ((q_33 _).trans rfl) rfl ?_
      refine g_getR ((q_33 _).trans rfl) (fun a5 => ?_)
      refine g_aload ((q_33 _).trans rfl) rfl ?_
      refine g_iload ((q_33 _).trans rfl) rfl ?_
      refine g_callV (kk := 1) ((q_33 _).trans rfl) (gHn m_33) rfl (by exact ⟨Nat.le_of_ble_eq_true rfl, rfl⟩) rfl (fun w G6 => gm_I (fun v7 hw => ?_))
      subst hw
      refine g_iald ((q_33 _).trans rfl) (fun v8 => ?_)
      exact g_iret ((q_33 _).trans rfl)
    · refine g_push ((q_33 _).trans rfl) ?_
      refine g_goto ((q_33 _).trans rfl) ?_
      exact g_iret ((q_33 _).trans rfl)
  · refine g_push ((q_33 _).trans rfl) ?_
    refine g_callV (kk := 1) ((q_33 _).trans rfl) (gHn m_33) rfl (by exact ⟨Nat.le_of_ble_eq_true rfl, rfl⟩) rfl (fun w G9 => gm_I (fun v10 hw => ?_))
    subst hw
    refine g_ifeq ((q_33 _).trans rfl) (fun _ => ?_) (fun _ => ?_)
    · refine g_aload ((q_33 _).trans rfl) rfl ?_
      refine g_getR ((q_33 _).trans rfl) (fun a11 => ?_)
      refine g_aload ((q_33 _).trans rfl) rfl ?_
      refine g_iload ((q_33 _).trans rfl) rfl ?_
      refine g_callV (kk := 1) ((q_33 _).trans rfl) (gHn m_33) rfl (by exact ⟨Nat.le_of_ble_eq_true rfl, rfl⟩) rfl (fun w G12 => gm_I (fun v13 hw => ?_))
      subst hw
      refine g_iald ((q_33 _).trans rfl) (fun v14 => ?_)
      exact g_iret ((q_33 _).trans rfl)
    · refine g_push ((q_33 _).trans rfl) ?_
      refine g_goto ((q_33 _).trans rfl) ?_
      exact g_iret ((q_33 _).trans rfl)
theorem c_33 {K : gK} {d : Nat} {l0 : Nat} {l1 : Int32} {G : gH} : gle (t_33_0 K d l0 l1 G) (gCa K (d + 1) 33 [.ref l0, .int l1] G) := by
  have h : gent (gMx 33) [.ref l0, .int l1] = [some (.ref l0), some (.int l1)] := by
    show gent (gT 33).2.2.2.1 _ = _
    rw [m_33]; rfl
  exact fun r e => (congrArg (fun q => gRn K d 33 0 q [] G) h).trans (e_33_0 r e)
theorem q_35 {K : gK} (pc : Nat) : gP K 35 pc = ((gL_35 K).lookup pc).getD o_none := rfl
noncomputable def t_35_0_1 (K : gK) (d : Nat) (G6 : gH) (v8 : Int32) : Option gO := some (.inl (some (.int v8)), G6)
noncomputable def t_35_0_2 (K : gK) (d : Nat) (a5 : Nat) (v7 : Int32) (G6 : gH) : Option gO := xI G6 a5 0 v7 (t_35_0_1 K d G6)
noncomputable def t_35_0_3 (K : gK) (d : Nat) (G3 : gH) (l0 : Nat) (l1 : Int32) (a5 : Nat) : Option gO := if g_cls G3 l0 = some 3 then (cI (gCa K d 107 [.ref l0, .int l1] G3) (t_35_0_2 K d a5)) else none
noncomputable def t_35_0_4 (K : gK) (d : Nat) (l0 : Nat) (l1 : Int32) (v4 : Int32) (G3 : gH) : Option gO := if v4 = 0 then (rR G3 l0 3 22 (t_35_0_3 K d G3 l0 l1)) else (some (.inl (some (.int (0 : Int32))), G3))
noncomputable def t_35_0_5 (K : gK) (d : Nat) (G12 : gH) (v14 : Int32) : Option gO := some (.inl (some (.int v14)), G12)
noncomputable def t_35_0_6 (K : gK) (d : Nat) (a11 : Nat) (v13 : Int32) (G12 : gH) : Option gO := xI G12 a11 0 v13 (t_35_0_5 K d G12)
noncomputable def t_35_0_7 (K : gK) (d : Nat) (G9 : gH) (l0 : Nat) (l1 : Int32) (a11 : Nat) : Option gO := if g_cls G9 l0 = some 3 then (cI (gCa K d 107 [.ref l0, .int l1] G9) (t_35_0_6 K d a11)) else none
noncomputable def t_35_0_8 (K : gK) (d : Nat) (l0 : Nat) (l1 : Int32) (v10 : Int32) (G9 : gH) : Option gO := if v10 = 0 then (rR G9 l0 3 22 (t_35_0_7 K d G9 l0 l1)) else (some (.inl (some (.int (0 : Int32))), G9))
noncomputable def t_35_0_9 (K : gK) (d : Nat) (l0 : Nat) (l1 : Int32) (v2 : Int32) (G1 : gH) : Option gO := if v2 = ((-1) : Int32) then (if g_cls G1 l0 = some 3 then (cI (gCa K d 90 [.ref l0, .int (1 : Int32)] G1) (t_35_0_4 K d l0 l1)) else none) else (if g_cls G1 l0 = some 3 then (cI (gCa K d 90 [.ref l0, .int (0 : Int32)] G1) (t_35_0_8 K d l0 l1)) else none)
noncomputable def t_35_0 (K : gK) (d : Nat) (l0 : Nat) (l1 : Int32) (G : gH) : Option gO := if g_cls G l0 = some 3 then (cI (gCa K d 107 [.ref l0, .int l1] G) (t_35_0_9 K d l0 l1)) else none
theorem e_35_0 {K : gK} {d : Nat} {l0 : Nat} {l1 : Int32} {G : gH} : gle (t_35_0 K d l0 l1 G) (gRn K d 35 0 [some (.ref l0), some (.int l1)] [] G) := by
  unfold t_35_0
  refine g_aload ((q_35 _).trans rfl) rfl ?_
  refine g_aload ((q_35 _).trans rfl) rfl ?_
  refine g_iload ((q_35 _).trans rfl) rfl ?_
  refine g_callV (kk := 1) ((q_35 _).trans rfl) (gHn m_35) rfl (by exact ⟨Nat.le_of_ble_eq_true rfl, rfl⟩) rfl (fun w G1 => gm_I (fun v2 hw => ?_))
  subst hw
  refine g_push ((q_35 _).trans rfl) ?_
  refine g_cmpne ((q_35 _).trans rfl) (fun _ => ?_) (fun _ => ?_)
  · refine g_push ((q_35 _).trans rfl) ?_
    refine g_goto ((q_35 _).trans rfl) ?_
    refine g_callV (kk := 1) ((q_35 _).trans rfl) (gHn m_35) rfl (by exact ⟨Nat.le_of_ble_eq_true rfl, rfl⟩) rfl (fun w G3 => gm_I (fun v4 hw => ?_))
    subst hw
    refine g_ifeq ((q_35 _).trans rfl) (fun _ => ?_) (fun _ => ?_)
    · refine g_aload ((q_35 _).trans rfl) rfl ?_
      refine g_getR ((q_35 _).trans rfl) (fun a5 => ?_)
      refine g_aload ((q_35 _).trans rfl) rfl ?_
      refine g_iload ((q_35 _).trans rfl) rfl ?_
      refine g_callV (kk := 1) ((q_35 _).trans rfl) (gHn m_35) rfl (by exact ⟨Nat.le_of_ble_eq_true rfl, rfl⟩) rfl (fun w G6 => gm_I (fun v7 hw => ?_))
      subst hw
      refine g_iald ((q_35 _).trans rfl) (fun v8 => ?_)
      exact g_iret ((q_35 _).trans rfl)
    · refine g_push ((q_35 _).trans rfl) ?_
      refine g_goto ((q_35 _).trans rfl) ?_
      exact g_iret ((q_35 _).trans rfl)
  · refine g_push ((q_35 _).trans rfl) ?_
    refine g_callV (kk := 1) ((q_35 _).trans rfl) (gHn m_35) rfl (by exact ⟨Nat.le_of_ble_eq_true rfl, rfl⟩) rfl (fun w G9 => gm_I (fun v10 hw => ?_))
    subst hw
    refine g_ifeq ((q_35 _).trans rfl) (fun _ => ?_) (fun _ => ?_)
    · refine g_aload ((q_35 _).trans rfl) rfl ?_
      refine g_getR ((q_35 _).trans rfl) (fun a11 => ?_)
      refine g_aload ((q_35 _).trans rfl) rfl ?_
      refine g_iload ((q_35 _).trans rfl) rfl ?_
      refine g_callV (kk := 1) ((q_35 _).trans rfl) (gHn m_35) rfl (by exact ⟨Nat.le_of_ble_eq_true rfl, rfl⟩) rfl (fun w G12 => gm_I (fun v13 hw => ?_))
      subst hw
      refine g_iald ((q_35 _).trans rfl) (fun v14 => ?_)
      exact g_iret ((q_35 _).trans rfl)
    · refine g_push ((q_35 _).trans rfl) ?_
      refine g_goto ((q_35 _).trans rfl) ?_
      exact g_iret ((q_35 _).trans rfl)
theorem c_35 {K : gK} {d : Nat} {l0 : Nat} {l1 : Int32} {G : gH} : gle (t_35_0 K d l0 l1 G) (gCa K (d + 1) 35 [.ref l0, .int l1] G) := by
  have h : gent (gMx 35) [.ref l0, .int l1] = [some (.ref l0), some (.int l1)] := by
    show gent (gT 35).2.2.2.1 _ = _
    rw [m_35]; rfl
  exact fun r e => (congrArg (fun q => gRn K d 35 0 q [] G) h).trans (e_35_0 r e)
theorem q_37 {K : gK} (pc : Nat) : gP K 37 pc = ((gL_37 K).lookup pc).getD o_none := rfl
noncomputable def t_37_0_1 (K : gK) (d : Nat) (G6 : gH) (v8 : Int32) : Option gO := some (.inl (some (.int v8)), G6)
noncomputable def t_37_0_2 (K : gK) (d : Nat) (a5 : Nat) (v7 : Int32) (G6 : gH) : Option gO := xI G6 a5 0 v7 (t_37_0_1 K d G6)
noncomputable def t_37_0_3 (K : gK) (d : Nat) (G3 : gH) (l0 : Nat) (l1 : Int32) (a5 : Nat) : Option gO := if g_cls G3 l0 = some 3 then (cI (gCa K d 107 [.ref l0, .int l1] G3) (t_37_0_2 K d a5)) else none
noncomputable def t_37_0_4 (K : gK) (d : Nat) (l0 : Nat) (l1 : Int32) (v4 : Int32) (G3 : gH) : Option gO := if v4 = 0 then (rR G3 l0 3 23 (t_37_0_3 K d G3 l0 l1)) else (some (.inl (some (.int (0 : Int32))), G3))
noncomputable def t_37_0_5 (K : gK) (d : Nat) (G12 : gH) (v14 : Int32) : Option gO := some (.inl (some (.int v14)), G12)
noncomputable def t_37_0_6 (K : gK) (d : Nat) (a11 : Nat) (v13 : Int32) (G12 : gH) : Option gO := xI G12 a11 0 v13 (t_37_0_5 K d G12)
noncomputable def t_37_0_7 (K : gK) (d : Nat) (G9 : gH) (l0 : Nat) (l1 : Int32) (a11 : Nat) : Option gO := if g_cls G9 l0 = some 3 then (cI (gCa K d 107 [.ref l0, .int l1] G9) (t_37_0_6 K d a11)) else none
noncomputable def t_37_0_8 (K : gK) (d : Nat) (l0 : Nat) (l1 : Int32) (v10 : Int32) (G9 : gH) : Option gO := if v10 = 0 then (rR G9 l0 3 23 (t_37_0_7 K d G9 l0 l1)) else (some (.inl (some (.int (0 : Int32))), G9))
noncomputable def t_37_0_9 (K : gK) (d : Nat) (l0 : Nat) (l1 : Int32) (v2 : Int32) (G1 : gH) : Option gO := if v2 = ((-1) : Int32) then (if g_cls G1 l0 = some 3 then (cI (gCa K d 90 [.ref l0, .int (1 : Int32)] G1) (t_37_0_4 K d l0 l1)) else none) else (if g_cls G1 l0 = some 3 then (cI (gCa K d 90 [.ref l0, .int (0 : Int32)] G1) (t_37_0_8 K d l0 l1)) else none)
noncomputable def t_37_0 (K : gK) (d : Nat) (l0 : Nat) (l1 : Int32) (G : gH) : Option gO := if g_cls G l0 = some 3 then (cI (gCa K d 107 [.ref l0, .int l1] G) (t_37_0_9 K d l0 l1)) else none
theorem e_37_0 {K : gK} {d : Nat} {l0 : Nat} {l1 : Int32} {G : gH} : gle (t_37_0 K d l0 l1 G) (gRn K d 37 0 [some (.ref l0), some (.int l1)] [] G) := by
  unfold t_37_0
  refine g_aload ((q_37 _).trans rfl) rfl ?_
  refine g_aload ((q_37 _).trans rfl) rfl ?_
  refine g_iload ((q_37 _).trans rfl) rfl ?_
  refine g_callV (kk := 1) ((q_37 _).trans rfl) (gHn m_37) rfl (by exact ⟨Nat.le_of_ble_eq_true rfl, rfl⟩) rfl (fun w G1 => gm_I (fun v2 hw => ?_))
  subst hw
  refine g_push ((q_37 _).trans rfl) ?_
  refine g_cmpne ((q_37 _).trans rfl) (fun _ => ?_) (fun _ => ?_)
  · refine g_push ((q_37 _).trans rfl) ?_
    refine g_goto ((q_37 _).trans rfl) ?_
    refine g_callV (kk := 1) ((q_37 _).trans rfl) (gHn m_37) rfl (by exact ⟨Nat.le_of_ble_eq_true rfl, rfl⟩) rfl (fun w G3 => gm_I (fun v4 hw => ?_))
    subst hw
    refine g_ifeq ((q_37 _).trans rfl) (fun _ => ?_) (fun _ => ?_)
    · refine g_aload ((q_37 _).trans rfl) rfl ?_
      refine g_getR ((q_37 _).trans rfl) (fun a5 => ?_)
      refine g_aload ((q_37 _).trans rfl) rfl ?_
      refine g_iload ((q_37 _).trans rfl) rfl ?_
      refine g_callV (kk := 1) ((q_37 _).trans rfl) (gHn m_37) rfl (by exact ⟨Nat.le_of_ble_eq_true rfl, rfl⟩) rfl (fun w G6 => gm_I (fun v7 hw => ?_))
      subst hw
      refine g_iald ((q_37 _).trans rfl) (fun v8 => ?_)
      exact g_iret ((q_37 _).trans rfl)
    · refine g_push ((q_37 _).trans rfl) ?_
      refine g_goto ((q_37 _).trans rfl) ?_
      exact g_iret ((q_37 _).trans rfl)
  · refine g_push ((q_37 _).trans rfl) ?_
    refine g_callV (kk := 1) ((q_37 _).trans rfl) (gHn m_37) rfl (by exact ⟨Nat.le_of_ble_eq_true rfl, rfl⟩) rfl (fun w G9 => gm_I (fun v10 hw => ?_))
    subst hw
    refine g_ifeq ((q_37 _).trans rfl) (fun _ => ?_) (fun _ => ?_)
    · refine g_aload ((q_37 _).trans rfl) rfl ?_
      refine g_getR ((q_37 _).trans rfl) (fun a11 => ?_)
      refine g_aload ((q_37 _).trans rfl) rfl ?_
      refine g_iload ((q_37 _).trans rfl) rfl ?_
      refine g_callV (kk := 1) ((q_37 _).trans rfl) (gHn m_37) rfl (by exact ⟨Nat.le_of_ble_eq_true rfl, rfl⟩) rfl (fun w G12 => gm_I (fun v13 hw => ?_))
      subst hw
      refine g_iald ((q_37 _).trans rfl) (fun v14 => ?_)
      exact g_iret ((q_37 _).trans rfl)
    · refine g_push ((q_37 _).trans rfl) ?_
      refine g_goto ((q_37 _).trans rfl) ?_
      exact g_iret ((q_37 _).trans rfl)
theorem c_37 {K : gK} {d : Nat} {l0 : Nat} {l1 : Int32} {G : gH} : gle (t_37_0 K d l0 l1 G) (gCa K (d + 1) 37 [.ref l0, .int l1] G) := by
  have h : gent (gMx 37) [.ref l0, .int l1] = [some (.ref l0), some (.int l1)] := by
    show gent (gT 37).2.2.2.1 _ = _
    rw [m_37]; rfl
  exact fun r e => (congrArg (fun q => gRn K d 37 0 q [] G) h).trans (e_37_0 r e)
theorem q_39 {K : gK} (pc : Nat) : gP K 39 pc = ((gL_39 K).lookup pc).getD o_none := rfl
noncomputable def t_39_0_1 (K : gK) (d : Nat) (G3 : gH) (v6 : Int32) : Option gO := some (.inl (some (.int v6)), G3)
noncomputable def t_39_0_2 (K : gK) (d : Nat) (G3 : gH) (l1 : Int32) (l2 : Int32) (a5 : Nat) : Option gO := xI G3 a5 0 (((12 : Int32) * l1) + l2) (t_39_0_1 K d G3)
noncomputable def t_39_0_3 (K : gK) (d : Nat) (l0 : Nat) (l1 : Int32) (l2 : Int32) (v4 : Int32) (G3 : gH) : Option gO := if v4 = 0 then (rR G3 l0 3 25 (t_39_0_2 K d G3 l1 l2)) else (some (.inl (some (.int (0 : Int32))), G3))
noncomputable def t_39_0_4 (K : gK) (d : Nat) (G9 : gH) (v12 : Int32) : Option gO := some (.inl (some (.int v12)), G9)
noncomputable def t_39_0_5 (K : gK) (d : Nat) (G9 : gH) (l1 : Int32) (l2 : Int32) (a11 : Nat) : Option gO := xI G9 a11 0 (((12 : Int32) * l1) + l2) (t_39_0_4 K d G9)
noncomputable def t_39_0_6 (K : gK) (d : Nat) (l0 : Nat) (l1 : Int32) (l2 : Int32) (v10 : Int32) (G9 : gH) : Option gO := if v10 = 0 then (rR G9 l0 3 25 (t_39_0_5 K d G9 l1 l2)) else (some (.inl (some (.int (0 : Int32))), G9))
noncomputable def t_39_0_7 (K : gK) (d : Nat) (G13 : gH) (v16 : Int32) : Option gO := some (.inl (some (.int v16)), G13)
noncomputable def t_39_0_8 (K : gK) (d : Nat) (G13 : gH) (l1 : Int32) (l2 : Int32) (a15 : Nat) : Option gO := xI G13 a15 0 (((12 : Int32) * l1) + l2) (t_39_0_7 K d G13)
noncomputable def t_39_0_9 (K : gK) (d : Nat) (l0 : Nat) (l1 : Int32) (l2 : Int32) (v14 : Int32) (G13 : gH) : Option gO := if v14 = 0 then (rR G13 l0 3 25 (t_39_0_8 K d G13 l1 l2)) else (some (.inl (some (.int (0 : Int32))), G13))
noncomputable def t_39_0_10 (K : gK) (d : Nat) (G1 : gH) (l0 : Nat) (l1 : Int32) (l2 : Int32) (v8 : Int32) : Option gO := if v8 = ((-1) : Int32) then (if g_cls G1 l0 = some 3 then (cI (gCa K d 90 [.ref l0, .int (2 : Int32)] G1) (t_39_0_6 K d l0 l1 l2)) else none) else (if g_cls G1 l0 = some 3 then (cI (gCa K d 90 [.ref l0, .int (0 : Int32)] G1) (t_39_0_9 K d l0 l1 l2)) else none)
noncomputable def t_39_0_11 (K : gK) (d : Nat) (G1 : gH) (l1 : Int32) (l2 : Int32) (l0 : Nat) (a7 : Nat) : Option gO := xI G1 a7 0 (((12 : Int32) * l1) + l2) (t_39_0_10 K d G1 l0 l1 l2)
noncomputable def t_39_0_12 (K : gK) (d : Nat) (G19 : gH) (v22 : Int32) : Option gO := some (.inl (some (.int v22)), G19)
noncomputable def t_39_0_13 (K : gK) (d : Nat) (G19 : gH) (l1 : Int32) (l2 : Int32) (a21 : Nat) : Option gO := xI G19 a21 0 (((12 : Int32) * l1) + l2) (t_39_0_12 K d G19)
noncomputable def t_39_0_14 (K : gK) (d : Nat) (l0 : Nat) (l1 : Int32) (l2 : Int32) (v20 : Int32) (G19 : gH) : Option gO := if v20 = 0 then (rR G19 l0 3 25 (t_39_0_13 K d G19 l1 l2)) else (some (.inl (some (.int (0 : Int32))), G19))
noncomputable def t_39_0_15 (K : gK) (d : Nat) (G25 : gH) (v28 : Int32) : Option gO := some (.inl (some (.int v28)), G25)
noncomputable def t_39_0_16 (K : gK) (d : Nat) (G25 : gH) (l1 : Int32) (l2 : Int32) (a27 : Nat) : Option gO := xI G25 a27 0 (((12 : Int32) * l1) + l2) (t_39_0_15 K d G25)
noncomputable def t_39_0_17 (K : gK) (d : Nat) (l0 : Nat) (l1 : Int32) (l2 : Int32) (v26 : Int32) (G25 : gH) : Option gO := if v26 = 0 then (rR G25 l0 3 25 (t_39_0_16 K d G25 l1 l2)) else (some (.inl (some (.int (0 : Int32))), G25))
noncomputable def t_39_0_18 (K : gK) (d : Nat) (G29 : gH) (v32 : Int32) : Option gO := some (.inl (some (.int v32)), G29)
noncomputable def t_39_0_19 (K : gK) (d : Nat) (G29 : gH) (l1 : Int32) (l2 : Int32) (a31 : Nat) : Option gO := xI G29 a31 0 (((12 : Int32) * l1) + l2) (t_39_0_18 K d G29)
noncomputable def t_39_0_20 (K : gK) (d : Nat) (l0 : Nat) (l1 : Int32) (l2 : Int32) (v30 : Int32) (G29 : gH) : Option gO := if v30 = 0 then (rR G29 l0 3 25 (t_39_0_19 K d G29 l1 l2)) else (some (.inl (some (.int (0 : Int32))), G29))
noncomputable def t_39_0_21 (K : gK) (d : Nat) (G17 : gH) (l0 : Nat) (l1 : Int32) (l2 : Int32) (v24 : Int32) : Option gO := if v24 = ((-1) : Int32) then (if g_cls G17 l0 = some 3 then (cI (gCa K d 90 [.ref l0, .int (2 : Int32)] G17) (t_39_0_17 K d l0 l1 l2)) else none) else (if g_cls G17 l0 = some 3 then (cI (gCa K d 90 [.ref l0, .int (0 : Int32)] G17) (t_39_0_20 K d l0 l1 l2)) else none)
noncomputable def t_39_0_22 (K : gK) (d : Nat) (G17 : gH) (l1 : Int32) (l2 : Int32) (l0 : Nat) (a23 : Nat) : Option gO := xI G17 a23 0 (((12 : Int32) * l1) + l2) (t_39_0_21 K d G17 l0 l1 l2)
noncomputable def t_39_0_23 (K : gK) (d : Nat) (G33 : gH) (v36 : Int32) : Option gO := some (.inl (some (.int v36)), G33)
noncomputable def t_39_0_24 (K : gK) (d : Nat) (G33 : gH) (l1 : Int32) (l2 : Int32) (a35 : Nat) : Option gO := xI G33 a35 0 (((12 : Int32) * l1) + l2) (t_39_0_23 K d G33)
noncomputable def t_39_0_25 (K : gK) (d : Nat) (l0 : Nat) (l1 : Int32) (l2 : Int32) (v34 : Int32) (G33 : gH) : Option gO := if v34 = 0 then (rR G33 l0 3 25 (t_39_0_24 K d G33 l1 l2)) else (some (.inl (some (.int (0 : Int32))), G33))
noncomputable def t_39_0_26 (K : gK) (d : Nat) (G39 : gH) (v42 : Int32) : Option gO := some (.inl (some (.int v42)), G39)
noncomputable def t_39_0_27 (K : gK) (d : Nat) (G39 : gH) (l1 : Int32) (l2 : Int32) (a41 : Nat) : Option gO := xI G39 a41 0 (((12 : Int32) * l1) + l2) (t_39_0_26 K d G39)
noncomputable def t_39_0_28 (K : gK) (d : Nat) (l0 : Nat) (l1 : Int32) (l2 : Int32) (v40 : Int32) (G39 : gH) : Option gO := if v40 = 0 then (rR G39 l0 3 25 (t_39_0_27 K d G39 l1 l2)) else (some (.inl (some (.int (0 : Int32))), G39))
noncomputable def t_39_0_29 (K : gK) (d : Nat) (G43 : gH) (v46 : Int32) : Option gO := some (.inl (some (.int v46)), G43)
noncomputable def t_39_0_30 (K : gK) (d : Nat) (G43 : gH) (l1 : Int32) (l2 : Int32) (a45 : Nat) : Option gO := xI G43 a45 0 (((12 : Int32) * l1) + l2) (t_39_0_29 K d G43)
noncomputable def t_39_0_31 (K : gK) (d : Nat) (l0 : Nat) (l1 : Int32) (l2 : Int32) (v44 : Int32) (G43 : gH) : Option gO := if v44 = 0 then (rR G43 l0 3 25 (t_39_0_30 K d G43 l1 l2)) else (some (.inl (some (.int (0 : Int32))), G43))
noncomputable def t_39_0_32 (K : gK) (d : Nat) (G17 : gH) (l0 : Nat) (l1 : Int32) (l2 : Int32) (v38 : Int32) : Option gO := if v38 = ((-1) : Int32) then (if g_cls G17 l0 = some 3 then (cI (gCa K d 90 [.ref l0, .int (2 : Int32)] G17) (t_39_0_28 K d l0 l1 l2)) else none) else (if g_cls G17 l0 = some 3 then (cI (gCa K d 90 [.ref l0, .int (0 : Int32)] G17) (t_39_0_31 K d l0 l1 l2)) else none)
noncomputable def t_39_0_33 (K : gK) (d : Nat) (G17 : gH) (l1 : Int32) (l2 : Int32) (l0 : Nat) (a37 : Nat) : Option gO := xI G17 a37 0 (((12 : Int32) * l1) + l2) (t_39_0_32 K d G17 l0 l1 l2)
noncomputable def t_39_0_34 (K : gK) (d : Nat) (l0 : Nat) (l1 : Int32) (l2 : Int32) (v18 : Int32) (G17 : gH) : Option gO := if v18 = 0 then (if (0 : Int32) = 0 then (if g_cls G17 l0 = some 3 then (cI (gCa K d 90 [.ref l0, .int (1 : Int32)] G17) (t_39_0_14 K d l0 l1 l2)) else none) else (rR G17 l0 3 25 (t_39_0_22 K d G17 l1 l2 l0))) else (if (1 : Int32) = 0 then (if g_cls G17 l0 = some 3 then (cI (gCa K d 90 [.ref l0, .int (1 : Int32)] G17) (t_39_0_25 K d l0 l1 l2)) else none) else (rR G17 l0 3 25 (t_39_0_33 K d G17 l1 l2 l0)))
noncomputable def t_39_0_35 (K : gK) (d : Nat) (l0 : Nat) (l1 : Int32) (l2 : Int32) (v2 : Int32) (G1 : gH) : Option gO := if v2 = 0 then (if (0 : Int32) = 0 then (if g_cls G1 l0 = some 3 then (cI (gCa K d 90 [.ref l0, .int (1 : Int32)] G1) (t_39_0_3 K d l0 l1 l2)) else none) else (rR G1 l0 3 25 (t_39_0_11 K d G1 l1 l2 l0))) else (cI (gCa K d 89 [.int l2, .int (0 : Int32), .int (11 : Int32)] G1) (t_39_0_34 K d l0 l1 l2))
noncomputable def t_39_0 (K : gK) (d : Nat) (l0 : Nat) (l1 : Int32) (l2 : Int32) (G : gH) : Option gO := cI (gCa K d 89 [.int l1, .int (0 : Int32), .int (59 : Int32)] G) (t_39_0_35 K d l0 l1 l2)
theorem e_39_0 {K : gK} {d : Nat} {l0 : Nat} {l1 : Int32} {l2 : Int32} {G : gH} : gle (t_39_0 K d l0 l1 l2 G) (gRn K d 39 0 [some (.ref l0), some (.int l1), some (.int l2), none] [] G) := by
  unfold t_39_0
  refine g_iload ((q_39 _).trans rfl) rfl ?_
  refine g_push ((q_39 _).trans rfl) ?_
  refine g_push ((q_39 _).trans rfl) ?_
  refine g_callS (kk := 3) ((q_39 _).trans rfl) (gHn m_39) (by exact ⟨Nat.le_of_ble_eq_true rfl, Nat.le_of_ble_eq_true rfl, rfl⟩) rfl (fun w G1 => gm_I (fun v2 hw => ?_))
  subst hw
  refine g_ifeq ((q_39 _).trans rfl) (fun _ => ?_) (fun _ => ?_)
  · refine g_push ((q_39 _).trans rfl) ?_
    refine g_istore ((q_39 _).trans rfl) ?_
    refine g_aload ((q_39 _).trans rfl) rfl ?_
    refine g_iload ((q_39 _).trans rfl) rfl ?_
    refine g_ifne ((q_39 _).trans rfl) (fun _ => ?_) (fun _ => ?_)
    · refine g_push ((q_39 _).trans rfl) ?_
      refine g_goto ((q_39 _).trans rfl) ?_
      refine g_callV (kk := 1) ((q_39 _).trans rfl) (gHn m_39) rfl (by exact ⟨Nat.le_of_ble_eq_true rfl, rfl⟩) rfl (fun w G3 => gm_I (fun v4 hw => ?_))
      subst hw
      refine g_ifeq ((q_39 _).trans rfl) (fun _ => ?_) (fun _ => ?_)
      · refine g_aload ((q_39 _).trans rfl) rfl ?_
        refine g_getR ((q_39 _).trans rfl) (fun a5 => ?_)
        refine g_push ((q_39 _).trans rfl) ?_
        refine g_iload ((q_39 _).trans rfl) rfl ?_
        refine g_imul ((q_39 _).trans rfl) ?_
        refine g_iload ((q_39 _).trans rfl) rfl ?_
        refine g_iadd ((q_39 _).trans rfl) ?_
        refine g_iald ((q_39 _).trans rfl) (fun v6 => ?_)
        exact g_iret ((q_39 _).trans rfl)
      · refine g_push ((q_39 _).trans rfl) ?_
        refine g_goto ((q_39 _).trans rfl) ?_
        exact g_iret ((q_39 _).trans rfl)
    · refine g_aload ((q_39 _).trans rfl) rfl ?_
      refine g_getR ((q_39 _).trans rfl) (fun a7 => ?_)
      refine g_push ((q_39 _).trans rfl) ?_
      refine g_iload ((q_39 _).trans rfl) rfl ?_
      refine g_imul ((q_39 _).trans rfl) ?_
      refine g_iload ((q_39 _).trans rfl) rfl ?_
      refine g_iadd ((q_39 _).trans rfl) ?_
      refine g_iald ((q_39 _).trans rfl) (fun v8 => ?_)
      refine g_push ((q_39 _).trans rfl) ?_
      refine g_cmpne ((q_39 _).trans rfl) (fun _ => ?_) (fun _ => ?_)
      · refine g_push ((q_39 _).trans rfl) ?_
        refine g_goto ((q_39 _).trans rfl) ?_
        refine g_callV (kk := 1) ((q_39 _).trans rfl) (gHn m_39) rfl (by exact ⟨Nat.le_of_ble_eq_true rfl, rfl⟩) rfl (fun w G9 => gm_I (fun v10 hw => ?_))
        subst hw
        refine g_ifeq ((q_39 _).trans rfl) (fun _ => ?_) (fun _ => ?_)
        · refine g_aload ((q_39 _).trans rfl) rfl ?_
          refine g_getR ((q_39 _).trans rfl) (fun a11 => ?_)
          refine g_push ((q_39 _).trans rfl) ?_
          refine g_iload ((q_39 _).trans rfl) rfl ?_
          refine g_imul ((q_39 _).trans rfl) ?_
          refine g_iload ((q_39 _).trans rfl) rfl ?_
          refine g_iadd ((q_39 _).trans rfl) ?_
          refine g_iald ((q_39 _).trans rfl) (fun v12 => ?_)
          exact g_iret ((q_39 _).trans rfl)
        · refine g_push ((q_39 _).trans rfl) ?_
          refine g_goto ((q_39 _).trans rfl) ?_
          exact g_iret ((q_39 _).trans rfl)
      · refine g_push ((q_39 _).trans rfl) ?_
        refine g_callV (kk := 1) ((q_39 _).trans rfl) (gHn m_39) rfl (by exact ⟨Nat.le_of_ble_eq_true rfl, rfl⟩) rfl (fun w G13 => gm_I (fun v14 hw => ?_))
        subst hw
        refine g_ifeq ((q_39 _).trans rfl) (fun _ => ?_) (fun _ => ?_)
        · refine g_aload ((q_39 _).trans rfl) rfl ?_
          refine g_getR ((q_39 _).trans rfl) (fun a15 => ?_)
          refine g_push ((q_39 _).trans rfl) ?_
          refine g_iload ((q_39 _).trans rfl) rfl ?_
          refine g_imul ((q_39 _).trans rfl) ?_
          refine g_iload ((q_39 _).trans rfl) rfl ?_
          refine g_iadd ((q_39 _).trans rfl) ?_
          refine g_iald ((q_39 _).trans rfl) (fun v16 => ?_)
          exact g_iret ((q_39 _).trans rfl)
        · refine g_push ((q_39 _).trans rfl) ?_
          refine g_goto ((q_39 _).trans rfl) ?_
          exact g_iret ((q_39 _).trans rfl)
  · refine g_iload ((q_39 _).trans rfl) rfl ?_
    refine g_push ((q_39 _).trans rfl) ?_
    refine g_push ((q_39 _).trans rfl) ?_
    refine g_callS (kk := 3) ((q_39 _).trans rfl) (gHn m_39) (by exact ⟨Nat.le_of_ble_eq_true rfl, Nat.le_of_ble_eq_true rfl, rfl⟩) rfl (fun w G17 => gm_I (fun v18 hw => ?_))
    subst hw
    refine g_ifeq ((q_39 _).trans rfl) (fun _ => ?_) (fun _ => ?_)
    · refine g_push ((q_39 _).trans rfl) ?_
      refine g_istore ((q_39 _).trans rfl) ?_
      refine g_aload ((q_39 _).trans rfl) rfl ?_
      refine g_iload ((q_39 _).trans rfl) rfl ?_
      refine g_ifne ((q_39 _).trans rfl) (fun _ => ?_) (fun _ => ?_)
      · refine g_push ((q_39 _).trans rfl) ?_
        refine g_goto ((q_39 _).trans rfl) ?_
        refine g_callV (kk := 1) ((q_39 _).trans rfl) (gHn m_39) rfl (by exact ⟨Nat.le_of_ble_eq_true rfl, rfl⟩) rfl (fun w G19 => gm_I (fun v20 hw => ?_))
        subst hw
        refine g_ifeq ((q_39 _).trans rfl) (fun _ => ?_) (fun _ => ?_)
        · refine g_aload ((q_39 _).trans rfl) rfl ?_
          refine g_getR ((q_39 _).trans rfl) (fun a21 => ?_)
          refine g_push ((q_39 _).trans rfl) ?_
          refine g_iload ((q_39 _).trans rfl) rfl ?_
          refine g_imul ((q_39 _).trans rfl) ?_
          refine g_iload ((q_39 _).trans rfl) rfl ?_
          refine g_iadd ((q_39 _).trans rfl) ?_
          refine g_iald ((q_39 _).trans rfl) (fun v22 => ?_)
          exact g_iret ((q_39 _).trans rfl)
        · refine g_push ((q_39 _).trans rfl) ?_
          refine g_goto ((q_39 _).trans rfl) ?_
          exact g_iret ((q_39 _).trans rfl)
      · refine g_aload ((q_39 _).trans rfl) rfl ?_
        refine g_getR ((q_39 _).trans rfl) (fun a23 => ?_)
        refine g_push ((q_39 _).trans rfl) ?_
        refine g_iload ((q_39 _).trans rfl) rfl ?_
        refine g_imul ((q_39 _).trans rfl) ?_
        refine g_iload ((q_39 _).trans rfl) rfl ?_
        refine g_iadd ((q_39 _).trans rfl) ?_
        refine g_iald ((q_39 _).trans rfl) (fun v24 => ?_)
        refine g_push ((q_39 _).trans rfl) ?_
        refine g_cmpne ((q_39 _).trans rfl) (fun _ => ?_) (fun _ => ?_)
        · refine g_push ((q_39 _).trans rfl) ?_
          refine g_goto ((q_39 _).trans rfl) ?_
          refine g_callV (kk := 1) ((q_39 _).trans rfl) (gHn m_39) rfl (by exact ⟨Nat.le_of_ble_eq_true rfl, rfl⟩) rfl (fun w G25 => gm_I (fun v26 hw => ?_))
          subst hw
          refine g_ifeq ((q_39 _).trans rfl) (fun _ => ?_) (fun _ => ?_)
          · refine g_aload ((q_39 _).trans rfl) rfl ?_
            refine g_getR ((q_39 _).trans rfl) (fun a27 => ?_)
            refine g_push ((q_39 _).trans rfl) ?_
            refine g_iload ((q_39 _).trans rfl) rfl ?_
            refine g_imul ((q_39 _).trans rfl) ?_
            refine g_iload ((q_39 _).trans rfl) rfl ?_
            refine g_iadd ((q_39 _).trans rfl) ?_
            refine g_iald ((q_39 _).trans rfl) (fun v28 => ?_)
            exact g_iret ((q_39 _).trans rfl)
          · refine g_push ((q_39 _).trans rfl) ?_
            refine g_goto ((q_39 _).trans rfl) ?_
            exact g_iret ((q_39 _).trans rfl)
        · refine g_push ((q_39 _).trans rfl) ?_
          refine g_callV (kk := 1) ((q_39 _).trans rfl) (gHn m_39) rfl (by exact ⟨Nat.le_of_ble_eq_true rfl, rfl⟩) rfl (fun w G29 => gm_I (fun v30 hw => ?_))
          subst hw
          refine g_ifeq ((q_39 _).trans rfl) (fun _ => ?_) (fun _ => ?_)
          · refine g_aload ((q_39 _).trans rfl) rfl ?_
            refine g_getR ((q_39 _).trans rfl) (fun a31 => ?_)
            refine g_push ((q_39 _).trans rfl) ?_
            refine g_iload ((q_39 _).trans rfl) rfl ?_
            refine g_imul ((q_39 _).trans rfl) ?_
            refine g_iload ((q_39 _).trans rfl) rfl ?_
            refine g_iadd ((q_39 _).trans rfl) ?_
            refine g_iald ((q_39 _).trans rfl) (fun v32 => ?_)
            exact g_iret ((q_39 _).trans rfl)
          · refine g_push ((q_39 _).trans rfl) ?_
            refine g_goto ((q_39 _).trans rfl) ?_
            exact g_iret ((q_39 _).trans rfl)
    · refine g_push ((q_39 _).trans rfl) ?_
      refine g_goto ((q_39 _).trans rfl) ?_
      refine g_istore ((q_39 _).trans rfl) ?_
      refine g_aload ((q_39 _).trans rfl) rfl ?_
      refine g_iload ((q_39 _).trans rfl) rfl ?_
      refine g_ifne ((q_39 _).trans rfl) (fun _ => ?_) (fun _ => ?_)
      · refine g_push ((q_39 _).trans rfl) ?_
        refine g_goto ((q_39 _).trans rfl) ?_
        refine g_callV (kk := 1) ((q_39 _).trans rfl) (gHn m_39) rfl (by exact ⟨Nat.le_of_ble_eq_true rfl, rfl⟩) rfl (fun w G33 => gm_I (fun v34 hw => ?_))
        subst hw
        refine g_ifeq ((q_39 _).trans rfl) (fun _ => ?_) (fun _ => ?_)
        · refine g_aload ((q_39 _).trans rfl) rfl ?_
          refine g_getR ((q_39 _).trans rfl) (fun a35 => ?_)
          refine g_push ((q_39 _).trans rfl) ?_
          refine g_iload ((q_39 _).trans rfl) rfl ?_
          refine g_imul ((q_39 _).trans rfl) ?_
          refine g_iload ((q_39 _).trans rfl) rfl ?_
          refine g_iadd ((q_39 _).trans rfl) ?_
          refine g_iald ((q_39 _).trans rfl) (fun v36 => ?_)
          exact g_iret ((q_39 _).trans rfl)
        · refine g_push ((q_39 _).trans rfl) ?_
          refine g_goto ((q_39 _).trans rfl) ?_
          exact g_iret ((q_39 _).trans rfl)
      · refine g_aload ((q_39 _).trans rfl) rfl ?_
        refine g_getR ((q_39 _).trans rfl) (fun a37 => ?_)
        refine g_push ((q_39 _).trans rfl) ?_
        refine g_iload ((q_39 _).trans rfl) rfl ?_
        refine g_imul ((q_39 _).trans rfl) ?_
        refine g_iload ((q_39 _).trans rfl) rfl ?_
        refine g_iadd ((q_39 _).trans rfl) ?_
        refine g_iald ((q_39 _).trans rfl) (fun v38 => ?_)
        refine g_push ((q_39 _).trans rfl) ?_
        refine g_cmpne ((q_39 _).trans rfl) (fun _ => ?_) (fun _ => ?_)
        · refine g_push ((q_39 _).trans rfl) ?_
          refine g_goto ((q_39 _).trans rfl) ?_
          refine g_callV (kk := 1) ((q_39 _).trans rfl) (gHn m_39) rfl (by exact ⟨Nat.le_of_ble_eq_true rfl, rfl⟩) rfl (fun w G39 => gm_I (fun v40 hw => ?_))
          subst hw
          refine g_ifeq ((q_39 _).trans rfl) (fun _ => ?_) (fun _ => ?_)
          · refine g_aload ((q_39 _).trans rfl) rfl ?_
            refine g_getR ((q_39 _).trans rfl) (fun a41 => ?_)
            refine g_push ((q_39 _).trans rfl) ?_
            refine g_iload ((q_39 _).trans rfl) rfl ?_
            refine g_imul ((q_39 _).trans rfl) ?_
            refine g_iload ((q_39 _).trans rfl) rfl ?_
            refine g_iadd ((q_39 _).trans rfl) ?_
            refine g_iald ((q_39 _).trans rfl) (fun v42 => ?_)
            exact g_iret ((q_39 _).trans rfl)
          · refine g_push ((q_39 _).trans rfl) ?_
            refine g_goto ((q_39 _).trans rfl) ?_
            exact g_iret ((q_39 _).trans rfl)
        · refine g_push ((q_39 _).trans rfl) ?_
          refine g_callV (kk := 1) ((q_39 _).trans rfl) (gHn m_39) rfl (by exact ⟨Nat.le_of_ble_eq_true rfl, rfl⟩) rfl (fun w G43 => gm_I (fun v44 hw => ?_))
          subst hw
          refine g_ifeq ((q_39 _).trans rfl) (fun _ => ?_) (fun _ => ?_)
          · refine g_aload ((q_39 _).trans rfl) rfl ?_
            refine g_getR ((q_39 _).trans rfl) (fun a45 => ?_)
            refine g_push ((q_39 _).trans rfl) ?_
            refine g_iload ((q_39 _).trans rfl) rfl ?_
            refine g_imul ((q_39 _).trans rfl) ?_
            refine g_iload ((q_39 _).trans rfl) rfl ?_
            refine g_iadd ((q_39 _).trans rfl) ?_
            refine g_iald ((q_39 _).trans rfl) (fun v46 => ?_)
            exact g_iret ((q_39 _).trans rfl)
          · refine g_push ((q_39 _).trans rfl) ?_
            refine g_goto ((q_39 _).trans rfl) ?_
            exact g_iret ((q_39 _).trans rfl)
theorem c_39 {K : gK} {d : Nat} {l0 : Nat} {l1 : Int32} {l2 : Int32} {G : gH} : gle (t_39_0 K d l0 l1 l2 G) (gCa K (d + 1) 39 [.ref l0, .int l1, .int l2] G) := by
  have h : gent (gMx 39) [.ref l0, .int l1, .int l2] = [some (.ref l0), some (.int l1), some (.int l2), none] := by
    show gent (gT 39).2.2.2.1 _ = _
    rw [m_39]; rfl
  exact fun r e => (congrArg (fun q => gRn K d 39 0 q [] G) h).trans (e_39_0 r e)
theorem q_41 {K : gK} (pc : Nat) : gP K 41 pc = ((gL_41 K).lookup pc).getD o_none := rfl
noncomputable def t_41_0_1 (K : gK) (d : Nat) (v2 : Int32) (G1 : gH) : Option gO := some (.inl (some (.int v2)), G1)
noncomputable def t_41_0 (K : gK) (d : Nat) (l0 : Nat) (l1 : Int32) (l2 : Int32) (G : gH) : Option gO := if g_cls G l0 = some 3 then (cI (gCa K d 39 [.ref l0, .int l1, .int l2] G) (t_41_0_1 K d)) else none
theorem e_41_0 {K : gK} {d : Nat} {l0 : Nat} {l1 : Int32} {l2 : Int32} {G : gH} : gle (t_41_0 K d l0 l1 l2 G) (gRn K d 41 0 [some (.ref l0), some (.int l1), some (.int l2)] [] G) := by
  unfold t_41_0
  refine g_aload ((q_41 _).trans rfl) rfl ?_
  refine g_iload ((q_41 _).trans rfl) rfl ?_
  refine g_iload ((q_41 _).trans rfl) rfl ?_
  refine g_callV (kk := 2) ((q_41 _).trans rfl) (gHn m_41) rfl (by exact ⟨Nat.le_of_ble_eq_true rfl, rfl⟩) rfl (fun w G1 => gm_I (fun v2 hw => ?_))
  subst hw
  exact g_iret ((q_41 _).trans rfl)
theorem c_41 {K : gK} {d : Nat} {l0 : Nat} {l1 : Int32} {l2 : Int32} {G : gH} : gle (t_41_0 K d l0 l1 l2 G) (gCa K (d + 1) 41 [.ref l0, .int l1, .int l2] G) := by
  have h : gent (gMx 41) [.ref l0, .int l1, .int l2] = [some (.ref l0), some (.int l1), some (.int l2)] := by
    show gent (gT 41).2.2.2.1 _ = _
    rw [m_41]; rfl
  exact fun r e => (congrArg (fun q => gRn K d 41 0 q [] G) h).trans (e_41_0 r e)
theorem q_42 {K : gK} (pc : Nat) : gP K 42 pc = ((gL_42 K).lookup pc).getD o_none := rfl
noncomputable def t_42_0_1 (K : gK) (d : Nat) (G : gH) (v2 : Int32) : Option gO := some (.inl (some (.int v2)), G)
noncomputable def t_42_0_2 (K : gK) (d : Nat) (G : gH) (a1 : Nat) : Option gO := rI G a1 2 2 (t_42_0_1 K d G)
noncomputable def t_42_0 (K : gK) (d : Nat) (l0 : Nat) (G : gH) : Option gO := rR G l0 0 6 (t_42_0_2 K d G)
theorem e_42_0 {K : gK} {d : Nat} {l0 : Nat} {G : gH} : gle (t_42_0 K d l0 G) (gRn K d 42 0 [some (.ref l0)] [] G) := by
  unfold t_42_0
  refine g_aload ((q_42 _).trans rfl) rfl ?_
  refine g_getR ((q_42 _).trans rfl) (fun a1 => ?_)
  refine g_getI ((q_42 _).trans rfl) (fun v2 => ?_)
  exact g_iret ((q_42 _).trans rfl)
theorem c_42 {K : gK} {d : Nat} {l0 : Nat} {G : gH} : gle (t_42_0 K d l0 G) (gCa K (d + 1) 42 [.ref l0] G) := by
  have h : gent (gMx 42) [.ref l0] = [some (.ref l0)] := by
    show gent (gT 42).2.2.2.1 _ = _
    rw [m_42]; rfl
  exact fun r e => (congrArg (fun q => gRn K d 42 0 q [] G) h).trans (e_42_0 r e)
theorem q_43 {K : gK} (pc : Nat) : gP K 43 pc = ((gL_43 K).lookup pc).getD o_none := rfl
noncomputable def t_43_0_1 (K : gK) (d : Nat) (v3 : Int32) (G2 : gH) : Option gO := some (.inl (some (.int v3)), G2)
noncomputable def t_43_0_2 (K : gK) (d : Nat) (l0 : Nat) (G1 : gH) : Option gO := if g_cls G1 l0 = some 3 then (cI (gCa K d 109 [.ref l0] G1) (t_43_0_1 K d)) else none
noncomputable def t_43_0 (K : gK) (d : Nat) (l0 : Nat) (G : gH) : Option gO := if narrow .int (.int (0 : Int32)) = .int (0 : Int32) ∧ fits .int (.int (0 : Int32)) = true then wF G l0 3 0 (.int (0 : Int32)) (t_43_0_2 K d l0) else none
theorem e_43_0 {K : gK} {d : Nat} {l0 : Nat} {G : gH} : gle (t_43_0 K d l0 G) (gRn K d 43 0 [some (.ref l0)] [] G) := by
  unfold t_43_0
  refine g_aload ((q_43 _).trans rfl) rfl ?_
  refine g_push ((q_43 _).trans rfl) ?_
  refine g_putf ((q_43 _).trans rfl) (fun G1 => ?_)
  refine g_aload ((q_43 _).trans rfl) rfl ?_
  refine g_callV (kk := 0) ((q_43 _).trans rfl) (gHn m_43) rfl (by exact ⟨Nat.le_of_ble_eq_true rfl, rfl⟩) rfl (fun w G2 => gm_I (fun v3 hw => ?_))
  subst hw
  exact g_iret ((q_43 _).trans rfl)
theorem c_43 {K : gK} {d : Nat} {l0 : Nat} {G : gH} : gle (t_43_0 K d l0 G) (gCa K (d + 1) 43 [.ref l0] G) := by
  have h : gent (gMx 43) [.ref l0] = [some (.ref l0)] := by
    show gent (gT 43).2.2.2.1 _ = _
    rw [m_43]; rfl
  exact fun r e => (congrArg (fun q => gRn K d 43 0 q [] G) h).trans (e_43_0 r e)
theorem q_44 {K : gK} (pc : Nat) : gP K 44 pc = ((gL_44 K).lookup pc).getD o_none := rfl
noncomputable def t_44_0_1 (K : gK) (d : Nat) (v2 : Int32) (G1 : gH) : Option gO := some (.inl (some (.int v2)), G1)
noncomputable def t_44_0 (K : gK) (d : Nat) (l0 : Nat) (G : gH) : Option gO := if g_cls G l0 = some 0 then (cI (gCa K d 118 [.ref l0] G) (t_44_0_1 K d)) else none
theorem e_44_0 {K : gK} {d : Nat} {l0 : Nat} {G : gH} : gle (t_44_0 K d l0 G) (gRn K d 44 0 [some (.ref l0)] [] G) := by
  unfold t_44_0
  refine g_aload ((q_44 _).trans rfl) rfl ?_
  refine g_callV (kk := 0) ((q_44 _).trans rfl) (gHn m_44) rfl (by exact ⟨Nat.le_of_ble_eq_true rfl, rfl⟩) rfl (fun w G1 => gm_I (fun v2 hw => ?_))
  subst hw
  exact g_iret ((q_44 _).trans rfl)
theorem c_44 {K : gK} {d : Nat} {l0 : Nat} {G : gH} : gle (t_44_0 K d l0 G) (gCa K (d + 1) 44 [.ref l0] G) := by
  have h : gent (gMx 44) [.ref l0] = [some (.ref l0)] := by
    show gent (gT 44).2.2.2.1 _ = _
    rw [m_44]; rfl
  exact fun r e => (congrArg (fun q => gRn K d 44 0 q [] G) h).trans (e_44_0 r e)
theorem q_45 {K : gK} (pc : Nat) : gP K 45 pc = ((gL_45 K).lookup pc).getD o_none := rfl
noncomputable def t_45_0_1 (K : gK) (d : Nat) (v3 : Int32) (G2 : gH) : Option gO := some (.inl (some (.int v3)), G2)
noncomputable def t_45_0_2 (K : gK) (d : Nat) (l0 : Nat) (G1 : gH) : Option gO := if g_cls G1 l0 = some 3 then (cI (gCa K d 119 [.ref l0] G1) (t_45_0_1 K d)) else none
noncomputable def t_45_0 (K : gK) (d : Nat) (l0 : Nat) (G : gH) : Option gO := if narrow .int (.int (0 : Int32)) = .int (0 : Int32) ∧ fits .int (.int (0 : Int32)) = true then wF G l0 3 0 (.int (0 : Int32)) (t_45_0_2 K d l0) else none
theorem e_45_0 {K : gK} {d : Nat} {l0 : Nat} {G : gH} : gle (t_45_0 K d l0 G) (gRn K d 45 0 [some (.ref l0)] [] G) := by
  unfold t_45_0
  refine g_aload ((q_45 _).trans rfl) rfl ?_
  refine g_push ((q_45 _).trans rfl) ?_
  refine g_putf ((q_45 _).trans rfl) (fun G1 => ?_)
  refine g_aload ((q_45 _).trans rfl) rfl ?_
  refine g_callV (kk := 0) ((q_45 _).trans rfl) (gHn m_45) rfl (by exact ⟨Nat.le_of_ble_eq_true rfl, rfl⟩) rfl (fun w G2 => gm_I (fun v3 hw => ?_))
  subst hw
  exact g_iret ((q_45 _).trans rfl)
theorem c_45 {K : gK} {d : Nat} {l0 : Nat} {G : gH} : gle (t_45_0 K d l0 G) (gCa K (d + 1) 45 [.ref l0] G) := by
  have h : gent (gMx 45) [.ref l0] = [some (.ref l0)] := by
    show gent (gT 45).2.2.2.1 _ = _
    rw [m_45]; rfl
  exact fun r e => (congrArg (fun q => gRn K d 45 0 q [] G) h).trans (e_45_0 r e)
theorem q_47 {K : gK} (pc : Nat) : gP K 47 pc = ((gL_47 K).lookup pc).getD o_none := rfl
noncomputable def t_47_0_1 (K : gK) (d : Nat) (G3 : gH) (v6 : Int32) : Option gO := some (.inl (some (.int v6)), G3)
noncomputable def t_47_0_2 (K : gK) (d : Nat) (G3 : gH) (l1 : Int32) (a5 : Nat) : Option gO := xI G3 a5 0 l1 (t_47_0_1 K d G3)
noncomputable def t_47_0_3 (K : gK) (d : Nat) (l0 : Nat) (l1 : Int32) (v4 : Int32) (G3 : gH) : Option gO := if v4 = 0 then (rR G3 l0 3 26 (t_47_0_2 K d G3 l1)) else (some (.inl (some (.int (0 : Int32))), G3))
noncomputable def t_47_0_4 (K : gK) (d : Nat) (G8 : gH) (v11 : Int32) : Option gO := some (.inl (some (.int v11)), G8)
noncomputable def t_47_0_5 (K : gK) (d : Nat) (G8 : gH) (l1 : Int32) (a10 : Nat) : Option gO := xI G8 a10 0 l1 (t_47_0_4 K d G8)
noncomputable def t_47_0_6 (K : gK) (d : Nat) (l0 : Nat) (l1 : Int32) (v9 : Int32) (G8 : gH) : Option gO := if v9 = 0 then (rR G8 l0 3 26 (t_47_0_5 K d G8 l1)) else (some (.inl (some (.int (0 : Int32))), G8))
noncomputable def t_47_0_7 (K : gK) (d : Nat) (G14 : gH) (v17 : Int32) : Option gO := some (.inl (some (.int v17)), G14)
noncomputable def t_47_0_8 (K : gK) (d : Nat) (G14 : gH) (l1 : Int32) (a16 : Nat) : Option gO := xI G14 a16 0 l1 (t_47_0_7 K d G14)
noncomputable def t_47_0_9 (K : gK) (d : Nat) (l0 : Nat) (l1 : Int32) (v15 : Int32) (G14 : gH) : Option gO := if v15 = 0 then (rR G14 l0 3 26 (t_47_0_8 K d G14 l1)) else (some (.inl (some (.int (0 : Int32))), G14))
noncomputable def t_47_0_10 (K : gK) (d : Nat) (G18 : gH) (v21 : Int32) : Option gO := some (.inl (some (.int v21)), G18)
noncomputable def t_47_0_11 (K : gK) (d : Nat) (G18 : gH) (l1 : Int32) (a20 : Nat) : Option gO := xI G18 a20 0 l1 (t_47_0_10 K d G18)
noncomputable def t_47_0_12 (K : gK) (d : Nat) (l0 : Nat) (l1 : Int32) (v19 : Int32) (G18 : gH) : Option gO := if v19 = 0 then (rR G18 l0 3 26 (t_47_0_11 K d G18 l1)) else (some (.inl (some (.int (0 : Int32))), G18))
noncomputable def t_47_0_13 (K : gK) (d : Nat) (G1 : gH) (l0 : Nat) (l1 : Int32) (v13 : Int32) : Option gO := if v13 = 0 then (if g_cls G1 l0 = some 3 then (cI (gCa K d 90 [.ref l0, .int (2 : Int32)] G1) (t_47_0_9 K d l0 l1)) else none) else (if g_cls G1 l0 = some 3 then (cI (gCa K d 90 [.ref l0, .int (0 : Int32)] G1) (t_47_0_12 K d l0 l1)) else none)
noncomputable def t_47_0_14 (K : gK) (d : Nat) (G1 : gH) (l1 : Int32) (l0 : Nat) (a12 : Nat) : Option gO := xI G1 a12 0 l1 (t_47_0_13 K d G1 l0 l1)
noncomputable def t_47_0_15 (K : gK) (d : Nat) (G1 : gH) (l0 : Nat) (l1 : Int32) (v7 : Int32) : Option gO := if v7 < (2 : Int32) then (if g_cls G1 l0 = some 3 then (cI (gCa K d 90 [.ref l0, .int (2 : Int32)] G1) (t_47_0_6 K d l0 l1)) else none) else (rR G1 l0 3 27 (t_47_0_14 K d G1 l1 l0))
noncomputable def t_47_0_16 (K : gK) (d : Nat) (l0 : Nat) (l1 : Int32) (v2 : Int32) (G1 : gH) : Option gO := if v2 = 0 then (if g_cls G1 l0 = some 3 then (cI (gCa K d 90 [.ref l0, .int (1 : Int32)] G1) (t_47_0_3 K d l0 l1)) else none) else (rI G1 l0 3 4 (t_47_0_15 K d G1 l0 l1))
noncomputable def t_47_0 (K : gK) (d : Nat) (l0 : Nat) (l1 : Int32) (G : gH) : Option gO := cI (gCa K d 89 [.int l1, .int (0 : Int32), .int (3 : Int32)] G) (t_47_0_16 K d l0 l1)
theorem e_47_0 {K : gK} {d : Nat} {l0 : Nat} {l1 : Int32} {G : gH} : gle (t_47_0 K d l0 l1 G) (gRn K d 47 0 [some (.ref l0), some (.int l1)] [] G) := by
  unfold t_47_0
  refine g_aload ((q_47 _).trans rfl) rfl ?_
  refine g_iload ((q_47 _).trans rfl) rfl ?_
  refine g_push ((q_47 _).trans rfl) ?_
  refine g_push ((q_47 _).trans rfl) ?_
  refine g_callS (kk := 3) ((q_47 _).trans rfl) (gHn m_47) (by exact ⟨Nat.le_of_ble_eq_true rfl, Nat.le_of_ble_eq_true rfl, rfl⟩) rfl (fun w G1 => gm_I (fun v2 hw => ?_))
  subst hw
  refine g_ifne ((q_47 _).trans rfl) (fun _ => ?_) (fun _ => ?_)
  · refine g_push ((q_47 _).trans rfl) ?_
    refine g_goto ((q_47 _).trans rfl) ?_
    refine g_callV (kk := 1) ((q_47 _).trans rfl) (gHn m_47) rfl (by exact ⟨Nat.le_of_ble_eq_true rfl, rfl⟩) rfl (fun w G3 => gm_I (fun v4 hw => ?_))
    subst hw
    refine g_ifeq ((q_47 _).trans rfl) (fun _ => ?_) (fun _ => ?_)
    · refine g_aload ((q_47 _).trans rfl) rfl ?_
      refine g_getR ((q_47 _).trans rfl) (fun a5 => ?_)
      refine g_iload ((q_47 _).trans rfl) rfl ?_
      refine g_iald ((q_47 _).trans rfl) (fun v6 => ?_)
      exact g_iret ((q_47 _).trans rfl)
    · refine g_push ((q_47 _).trans rfl) ?_
      refine g_goto ((q_47 _).trans rfl) ?_
      exact g_iret ((q_47 _).trans rfl)
  · refine g_aload ((q_47 _).trans rfl) rfl ?_
    refine g_getI ((q_47 _).trans rfl) (fun v7 => ?_)
    refine g_push ((q_47 _).trans rfl) ?_
    refine g_cmplt ((q_47 _).trans rfl) (fun _ => ?_) (fun _ => ?_)
    · refine g_push ((q_47 _).trans rfl) ?_
      refine g_goto ((q_47 _).trans rfl) ?_
      refine g_callV (kk := 1) ((q_47 _).trans rfl) (gHn m_47) rfl (by exact ⟨Nat.le_of_ble_eq_true rfl, rfl⟩) rfl (fun w G8 => gm_I (fun v9 hw => ?_))
      subst hw
      refine g_ifeq ((q_47 _).trans rfl) (fun _ => ?_) (fun _ => ?_)
      · refine g_aload ((q_47 _).trans rfl) rfl ?_
        refine g_getR ((q_47 _).trans rfl) (fun a10 => ?_)
        refine g_iload ((q_47 _).trans rfl) rfl ?_
        refine g_iald ((q_47 _).trans rfl) (fun v11 => ?_)
        exact g_iret ((q_47 _).trans rfl)
      · refine g_push ((q_47 _).trans rfl) ?_
        refine g_goto ((q_47 _).trans rfl) ?_
        exact g_iret ((q_47 _).trans rfl)
    · refine g_aload ((q_47 _).trans rfl) rfl ?_
      refine g_getR ((q_47 _).trans rfl) (fun a12 => ?_)
      refine g_iload ((q_47 _).trans rfl) rfl ?_
      refine g_iald ((q_47 _).trans rfl) (fun v13 => ?_)
      refine g_ifne ((q_47 _).trans rfl) (fun _ => ?_) (fun _ => ?_)
      · refine g_push ((q_47 _).trans rfl) ?_
        refine g_goto ((q_47 _).trans rfl) ?_
        refine g_callV (kk := 1) ((q_47 _).trans rfl) (gHn m_47) rfl (by exact ⟨Nat.le_of_ble_eq_true rfl, rfl⟩) rfl (fun w G14 => gm_I (fun v15 hw => ?_))
        subst hw
        refine g_ifeq ((q_47 _).trans rfl) (fun _ => ?_) (fun _ => ?_)
        · refine g_aload ((q_47 _).trans rfl) rfl ?_
          refine g_getR ((q_47 _).trans rfl) (fun a16 => ?_)
          refine g_iload ((q_47 _).trans rfl) rfl ?_
          refine g_iald ((q_47 _).trans rfl) (fun v17 => ?_)
          exact g_iret ((q_47 _).trans rfl)
        · refine g_push ((q_47 _).trans rfl) ?_
          refine g_goto ((q_47 _).trans rfl) ?_
          exact g_iret ((q_47 _).trans rfl)
      · refine g_push ((q_47 _).trans rfl) ?_
        refine g_callV (kk := 1) ((q_47 _).trans rfl) (gHn m_47) rfl (by exact ⟨Nat.le_of_ble_eq_true rfl, rfl⟩) rfl (fun w G18 => gm_I (fun v19 hw => ?_))
        subst hw
        refine g_ifeq ((q_47 _).trans rfl) (fun _ => ?_) (fun _ => ?_)
        · refine g_aload ((q_47 _).trans rfl) rfl ?_
          refine g_getR ((q_47 _).trans rfl) (fun a20 => ?_)
          refine g_iload ((q_47 _).trans rfl) rfl ?_
          refine g_iald ((q_47 _).trans rfl) (fun v21 => ?_)
          exact g_iret ((q_47 _).trans rfl)
        · refine g_push ((q_47 _).trans rfl) ?_
          refine g_goto ((q_47 _).trans rfl) ?_
          exact g_iret ((q_47 _).trans rfl)
theorem c_47 {K : gK} {d : Nat} {l0 : Nat} {l1 : Int32} {G : gH} : gle (t_47_0 K d l0 l1 G) (gCa K (d + 1) 47 [.ref l0, .int l1] G) := by
  have h : gent (gMx 47) [.ref l0, .int l1] = [some (.ref l0), some (.int l1)] := by
    show gent (gT 47).2.2.2.1 _ = _
    rw [m_47]; rfl
  exact fun r e => (congrArg (fun q => gRn K d 47 0 q [] G) h).trans (e_47_0 r e)
theorem q_49 {K : gK} (pc : Nat) : gP K 49 pc = ((gL_49 K).lookup pc).getD o_none := rfl
noncomputable def t_49_0_1 (K : gK) (d : Nat) (G5 : gH) (v6 : Int32) : Option gO := some (.inl (some (.int (v6 - (1 : Int32)))), G5)
noncomputable def t_49_0_2 (K : gK) (d : Nat) (l0 : Nat) (G5 : gH) : Option gO := rI G5 l0 3 28 (t_49_0_1 K d G5)
noncomputable def t_49_0_3 (K : gK) (d : Nat) (G2 : gH) (l0 : Nat) (v4 : Int32) : Option gO := if narrow .int (.int (v4 + (1 : Int32))) = .int (v4 + (1 : Int32)) ∧ fits .int (.int (v4 + (1 : Int32))) = true then wF G2 l0 3 28 (.int (v4 + (1 : Int32))) (t_49_0_2 K d l0) else none
noncomputable def t_49_0_4 (K : gK) (d : Nat) (l0 : Nat) (v3 : Int32) (G2 : gH) : Option gO := if v3 = 0 then (rI G2 l0 3 28 (t_49_0_3 K d G2 l0)) else (some (.inl (some (.int (0 : Int32))), G2))
noncomputable def t_49_0_5 (K : gK) (d : Nat) (G10 : gH) (v11 : Int32) : Option gO := some (.inl (some (.int (v11 - (1 : Int32)))), G10)
noncomputable def t_49_0_6 (K : gK) (d : Nat) (l0 : Nat) (G10 : gH) : Option gO := rI G10 l0 3 28 (t_49_0_5 K d G10)
noncomputable def t_49_0_7 (K : gK) (d : Nat) (G7 : gH) (l0 : Nat) (v9 : Int32) : Option gO := if narrow .int (.int (v9 + (1 : Int32))) = .int (v9 + (1 : Int32)) ∧ fits .int (.int (v9 + (1 : Int32))) = true then wF G7 l0 3 28 (.int (v9 + (1 : Int32))) (t_49_0_6 K d l0) else none
noncomputable def t_49_0_8 (K : gK) (d : Nat) (l0 : Nat) (v8 : Int32) (G7 : gH) : Option gO := if v8 = 0 then (rI G7 l0 3 28 (t_49_0_7 K d G7 l0)) else (some (.inl (some (.int (0 : Int32))), G7))
noncomputable def t_49_0_9 (K : gK) (d : Nat) (G : gH) (l0 : Nat) (v1 : Int32) : Option gO := if v1 = (4 : Int32) then (if g_cls G l0 = some 3 then (cI (gCa K d 90 [.ref l0, .int (1 : Int32)] G) (t_49_0_4 K d l0)) else none) else (if g_cls G l0 = some 3 then (cI (gCa K d 90 [.ref l0, .int (0 : Int32)] G) (t_49_0_8 K d l0)) else none)
noncomputable def t_49_0 (K : gK) (d : Nat) (l0 : Nat) (G : gH) : Option gO := rI G l0 3 28 (t_49_0_9 K d G l0)
theorem e_49_0 {K : gK} {d : Nat} {l0 : Nat} {G : gH} : gle (t_49_0 K d l0 G) (gRn K d 49 0 [some (.ref l0)] [] G) := by
  unfold t_49_0
  refine g_aload ((q_49 _).trans rfl) rfl ?_
  refine g_aload ((q_49 _).trans rfl) rfl ?_
  refine g_getI ((q_49 _).trans rfl) (fun v1 => ?_)
  refine g_push ((q_49 _).trans rfl) ?_
  refine g_cmpne ((q_49 _).trans rfl) (fun _ => ?_) (fun _ => ?_)
  · refine g_push ((q_49 _).trans rfl) ?_
    refine g_goto ((q_49 _).trans rfl) ?_
    refine g_callV (kk := 1) ((q_49 _).trans rfl) (gHn m_49) rfl (by exact ⟨Nat.le_of_ble_eq_true rfl, rfl⟩) rfl (fun w G2 => gm_I (fun v3 hw => ?_))
    subst hw
    refine g_ifeq ((q_49 _).trans rfl) (fun _ => ?_) (fun _ => ?_)
    · refine g_aload ((q_49 _).trans rfl) rfl ?_
      refine g_dup_ref ((q_49 _).trans rfl) ?_
      refine g_getI ((q_49 _).trans rfl) (fun v4 => ?_)
      refine g_push ((q_49 _).trans rfl) ?_
      refine g_iadd ((q_49 _).trans rfl) ?_
      refine g_putf ((q_49 _).trans rfl) (fun G5 => ?_)
      refine g_aload ((q_49 _).trans rfl) rfl ?_
      refine g_getI ((q_49 _).trans rfl) (fun v6 => ?_)
      refine g_push ((q_49 _).trans rfl) ?_
      refine g_isub ((q_49 _).trans rfl) ?_
      exact g_iret ((q_49 _).trans rfl)
    · refine g_push ((q_49 _).trans rfl) ?_
      exact g_iret ((q_49 _).trans rfl)
  · refine g_push ((q_49 _).trans rfl) ?_
    refine g_callV (kk := 1) ((q_49 _).trans rfl) (gHn m_49) rfl (by exact ⟨Nat.le_of_ble_eq_true rfl, rfl⟩) rfl (fun w G7 => gm_I (fun v8 hw => ?_))
    subst hw
    refine g_ifeq ((q_49 _).trans rfl) (fun _ => ?_) (fun _ => ?_)
    · refine g_aload ((q_49 _).trans rfl) rfl ?_
      refine g_dup_ref ((q_49 _).trans rfl) ?_
      refine g_getI ((q_49 _).trans rfl) (fun v9 => ?_)
      refine g_push ((q_49 _).trans rfl) ?_
      refine g_iadd ((q_49 _).trans rfl) ?_
      refine g_putf ((q_49 _).trans rfl) (fun G10 => ?_)
      refine g_aload ((q_49 _).trans rfl) rfl ?_
      refine g_getI ((q_49 _).trans rfl) (fun v11 => ?_)
      refine g_push ((q_49 _).trans rfl) ?_
      refine g_isub ((q_49 _).trans rfl) ?_
      exact g_iret ((q_49 _).trans rfl)
    · refine g_push ((q_49 _).trans rfl) ?_
      exact g_iret ((q_49 _).trans rfl)
theorem c_49 {K : gK} {d : Nat} {l0 : Nat} {G : gH} : gle (t_49_0 K d l0 G) (gCa K (d + 1) 49 [.ref l0] G) := by
  have h : gent (gMx 49) [.ref l0] = [some (.ref l0)] := by
    show gent (gT 49).2.2.2.1 _ = _
    rw [m_49]; rfl
  exact fun r e => (congrArg (fun q => gRn K d 49 0 q [] G) h).trans (e_49_0 r e)
theorem q_51 {K : gK} (pc : Nat) : gP K 51 pc = ((gL_51 K).lookup pc).getD o_none := rfl
noncomputable def t_51_0_1 (K : gK) (d : Nat) (v8 : Int32) (G7 : gH) : Option gO := some (.inl (some (.int v8)), G7)
noncomputable def t_51_0_2 (K : gK) (d : Nat) (l0 : Nat) (l1 : Int32) (G6 : gH) : Option gO := if g_cls G6 l0 = some 3 then (cI (gCa K d 124 [.ref l0, .int l1] G6) (t_51_0_1 K d)) else none
noncomputable def t_51_0_3 (K : gK) (d : Nat) (G3 : gH) (l1 : Int32) (l2 : Int32) (l3 : Int32) (l0 : Nat) (a5 : Nat) : Option gO := yI G3 a5 0 (((8 : Int32) * l1) + l2) l3 (t_51_0_2 K d l0 l1)
noncomputable def t_51_0_4 (K : gK) (d : Nat) (l0 : Nat) (l1 : Int32) (l2 : Int32) (l3 : Int32) (v4 : Int32) (G3 : gH) : Option gO := if v4 = 0 then (rR G3 l0 3 29 (t_51_0_3 K d G3 l1 l2 l3 l0)) else (some (.inl (some (.int (0 : Int32))), G3))
noncomputable def t_51_0_5 (K : gK) (d : Nat) (v16 : Int32) (G15 : gH) : Option gO := some (.inl (some (.int v16)), G15)
noncomputable def t_51_0_6 (K : gK) (d : Nat) (l0 : Nat) (l1 : Int32) (G14 : gH) : Option gO := if g_cls G14 l0 = some 3 then (cI (gCa K d 124 [.ref l0, .int l1] G14) (t_51_0_5 K d)) else none
noncomputable def t_51_0_7 (K : gK) (d : Nat) (G11 : gH) (l1 : Int32) (l2 : Int32) (l3 : Int32) (l0 : Nat) (a13 : Nat) : Option gO := yI G11 a13 0 (((8 : Int32) * l1) + l2) l3 (t_51_0_6 K d l0 l1)
noncomputable def t_51_0_8 (K : gK) (d : Nat) (l0 : Nat) (l1 : Int32) (l2 : Int32) (l3 : Int32) (v12 : Int32) (G11 : gH) : Option gO := if v12 = 0 then (rR G11 l0 3 29 (t_51_0_7 K d G11 l1 l2 l3 l0)) else (some (.inl (some (.int (0 : Int32))), G11))
noncomputable def t_51_0_9 (K : gK) (d : Nat) (v24 : Int32) (G23 : gH) : Option gO := some (.inl (some (.int v24)), G23)
noncomputable def t_51_0_10 (K : gK) (d : Nat) (l0 : Nat) (l1 : Int32) (G22 : gH) : Option gO := if g_cls G22 l0 = some 3 then (cI (gCa K d 124 [.ref l0, .int l1] G22) (t_51_0_9 K d)) else none
noncomputable def t_51_0_11 (K : gK) (d : Nat) (G19 : gH) (l1 : Int32) (l2 : Int32) (l3 : Int32) (l0 : Nat) (a21 : Nat) : Option gO := yI G19 a21 0 (((8 : Int32) * l1) + l2) l3 (t_51_0_10 K d l0 l1)
noncomputable def t_51_0_12 (K : gK) (d : Nat) (l0 : Nat) (l1 : Int32) (l2 : Int32) (l3 : Int32) (v20 : Int32) (G19 : gH) : Option gO := if v20 = 0 then (rR G19 l0 3 29 (t_51_0_11 K d G19 l1 l2 l3 l0)) else (some (.inl (some (.int (0 : Int32))), G19))
noncomputable def t_51_0_13 (K : gK) (d : Nat) (v32 : Int32) (G31 : gH) : Option gO := some (.inl (some (.int v32)), G31)
noncomputable def t_51_0_14 (K : gK) (d : Nat) (l0 : Nat) (l1 : Int32) (G30 : gH) : Option gO := if g_cls G30 l0 = some 3 then (cI (gCa K d 124 [.ref l0, .int l1] G30) (t_51_0_13 K d)) else none
noncomputable def t_51_0_15 (K : gK) (d : Nat) (G27 : gH) (l1 : Int32) (l2 : Int32) (l3 : Int32) (l0 : Nat) (a29 : Nat) : Option gO := yI G27 a29 0 (((8 : Int32) * l1) + l2) l3 (t_51_0_14 K d l0 l1)
noncomputable def t_51_0_16 (K : gK) (d : Nat) (l0 : Nat) (l1 : Int32) (l2 : Int32) (l3 : Int32) (v28 : Int32) (G27 : gH) : Option gO := if v28 = 0 then (rR G27 l0 3 29 (t_51_0_15 K d G27 l1 l2 l3 l0)) else (some (.inl (some (.int (0 : Int32))), G27))
noncomputable def t_51_0_17 (K : gK) (d : Nat) (v38 : Int32) (G37 : gH) : Option gO := some (.inl (some (.int v38)), G37)
noncomputable def t_51_0_18 (K : gK) (d : Nat) (l0 : Nat) (l1 : Int32) (G36 : gH) : Option gO := if g_cls G36 l0 = some 3 then (cI (gCa K d 124 [.ref l0, .int l1] G36) (t_51_0_17 K d)) else none
noncomputable def t_51_0_19 (K : gK) (d : Nat) (G33 : gH) (l1 : Int32) (l2 : Int32) (l3 : Int32) (l0 : Nat) (a35 : Nat) : Option gO := yI G33 a35 0 (((8 : Int32) * l1) + l2) l3 (t_51_0_18 K d l0 l1)
noncomputable def t_51_0_20 (K : gK) (d : Nat) (l0 : Nat) (l1 : Int32) (l2 : Int32) (l3 : Int32) (v34 : Int32) (G33 : gH) : Option gO := if v34 = 0 then (rR G33 l0 3 29 (t_51_0_19 K d G33 l1 l2 l3 l0)) else (some (.inl (some (.int (0 : Int32))), G33))
noncomputable def t_51_0_21 (K : gK) (d : Nat) (G9 : gH) (l0 : Nat) (l1 : Int32) (l2 : Int32) (l3 : Int32) (v26 : Int32) : Option gO := if v26 ≤ 0 then (if g_cls G9 l0 = some 3 then (cI (gCa K d 90 [.ref l0, .int (0 : Int32)] G9) (t_51_0_16 K d l0 l1 l2 l3)) else none) else (if g_cls G9 l0 = some 3 then (cI (gCa K d 90 [.ref l0, .int (3 : Int32)] G9) (t_51_0_20 K d l0 l1 l2 l3)) else none)
noncomputable def t_51_0_22 (K : gK) (d : Nat) (G9 : gH) (l1 : Int32) (l0 : Nat) (l2 : Int32) (l3 : Int32) (a25 : Nat) : Option gO := xI G9 a25 0 l1 (t_51_0_21 K d G9 l0 l1 l2 l3)
noncomputable def t_51_0_23 (K : gK) (d : Nat) (G9 : gH) (l0 : Nat) (l1 : Int32) (l2 : Int32) (l3 : Int32) (v18 : Int32) : Option gO := if 0 < v18 then (if g_cls G9 l0 = some 3 then (cI (gCa K d 90 [.ref l0, .int (3 : Int32)] G9) (t_51_0_12 K d l0 l1 l2 l3)) else none) else (rR G9 l0 3 30 (t_51_0_22 K d G9 l1 l0 l2 l3))
noncomputable def t_51_0_24 (K : gK) (d : Nat) (G9 : gH) (l1 : Int32) (l2 : Int32) (l0 : Nat) (l3 : Int32) (a17 : Nat) : Option gO := xI G9 a17 0 (((8 : Int32) * l1) + l2) (t_51_0_23 K d G9 l0 l1 l2 l3)
noncomputable def t_51_0_25 (K : gK) (d : Nat) (l0 : Nat) (l1 : Int32) (l2 : Int32) (l3 : Int32) (v10 : Int32) (G9 : gH) : Option gO := if v10 = 0 then (if g_cls G9 l0 = some 3 then (cI (gCa K d 90 [.ref l0, .int (2 : Int32)] G9) (t_51_0_8 K d l0 l1 l2 l3)) else none) else (rR G9 l0 3 29 (t_51_0_24 K d G9 l1 l2 l0 l3))
noncomputable def t_51_0_26 (K : gK) (d : Nat) (v46 : Int32) (G45 : gH) : Option gO := some (.inl (some (.int v46)), G45)
noncomputable def t_51_0_27 (K : gK) (d : Nat) (l0 : Nat) (l1 : Int32) (G44 : gH) : Option gO := if g_cls G44 l0 = some 3 then (cI (gCa K d 124 [.ref l0, .int l1] G44) (t_51_0_26 K d)) else none
noncomputable def t_51_0_28 (K : gK) (d : Nat) (G41 : gH) (l1 : Int32) (l2 : Int32) (l3 : Int32) (l0 : Nat) (a43 : Nat) : Option gO := yI G41 a43 0 (((8 : Int32) * l1) + l2) l3 (t_51_0_27 K d l0 l1)
noncomputable def t_51_0_29 (K : gK) (d : Nat) (l0 : Nat) (l1 : Int32) (l2 : Int32) (l3 : Int32) (v42 : Int32) (G41 : gH) : Option gO := if v42 = 0 then (rR G41 l0 3 29 (t_51_0_28 K d G41 l1 l2 l3 l0)) else (some (.inl (some (.int (0 : Int32))), G41))
noncomputable def t_51_0_30 (K : gK) (d : Nat) (v54 : Int32) (G53 : gH) : Option gO := some (.inl (some (.int v54)), G53)
noncomputable def t_51_0_31 (K : gK) (d : Nat) (l0 : Nat) (l1 : Int32) (G52 : gH) : Option gO := if g_cls G52 l0 = some 3 then (cI (gCa K d 124 [.ref l0, .int l1] G52) (t_51_0_30 K d)) else none
noncomputable def t_51_0_32 (K : gK) (d : Nat) (G49 : gH) (l1 : Int32) (l2 : Int32) (l3 : Int32) (l0 : Nat) (a51 : Nat) : Option gO := yI G49 a51 0 (((8 : Int32) * l1) + l2) l3 (t_51_0_31 K d l0 l1)
noncomputable def t_51_0_33 (K : gK) (d : Nat) (l0 : Nat) (l1 : Int32) (l2 : Int32) (l3 : Int32) (v50 : Int32) (G49 : gH) : Option gO := if v50 = 0 then (rR G49 l0 3 29 (t_51_0_32 K d G49 l1 l2 l3 l0)) else (some (.inl (some (.int (0 : Int32))), G49))
noncomputable def t_51_0_34 (K : gK) (d : Nat) (v62 : Int32) (G61 : gH) : Option gO := some (.inl (some (.int v62)), G61)
noncomputable def t_51_0_35 (K : gK) (d : Nat) (l0 : Nat) (l1 : Int32) (G60 : gH) : Option gO := if g_cls G60 l0 = some 3 then (cI (gCa K d 124 [.ref l0, .int l1] G60) (t_51_0_34 K d)) else none
noncomputable def t_51_0_36 (K : gK) (d : Nat) (G57 : gH) (l1 : Int32) (l2 : Int32) (l3 : Int32) (l0 : Nat) (a59 : Nat) : Option gO := yI G57 a59 0 (((8 : Int32) * l1) + l2) l3 (t_51_0_35 K d l0 l1)
noncomputable def t_51_0_37 (K : gK) (d : Nat) (l0 : Nat) (l1 : Int32) (l2 : Int32) (l3 : Int32) (v58 : Int32) (G57 : gH) : Option gO := if v58 = 0 then (rR G57 l0 3 29 (t_51_0_36 K d G57 l1 l2 l3 l0)) else (some (.inl (some (.int (0 : Int32))), G57))
noncomputable def t_51_0_38 (K : gK) (d : Nat) (v70 : Int32) (G69 : gH) : Option gO := some (.inl (some (.int v70)), G69)
noncomputable def t_51_0_39 (K : gK) (d : Nat) (l0 : Nat) (l1 : Int32) (G68 : gH) : Option gO := if g_cls G68 l0 = some 3 then (cI (gCa K d 124 [.ref l0, .int l1] G68) (t_51_0_38 K d)) else none
noncomputable def t_51_0_40 (K : gK) (d : Nat) (G65 : gH) (l1 : Int32) (l2 : Int32) (l3 : Int32) (l0 : Nat) (a67 : Nat) : Option gO := yI G65 a67 0 (((8 : Int32) * l1) + l2) l3 (t_51_0_39 K d l0 l1)
noncomputable def t_51_0_41 (K : gK) (d : Nat) (l0 : Nat) (l1 : Int32) (l2 : Int32) (l3 : Int32) (v66 : Int32) (G65 : gH) : Option gO := if v66 = 0 then (rR G65 l0 3 29 (t_51_0_40 K d G65 l1 l2 l3 l0)) else (some (.inl (some (.int (0 : Int32))), G65))
noncomputable def t_51_0_42 (K : gK) (d : Nat) (v76 : Int32) (G75 : gH) : Option gO := some (.inl (some (.int v76)), G75)
noncomputable def t_51_0_43 (K : gK) (d : Nat) (l0 : Nat) (l1 : Int32) (G74 : gH) : Option gO := if g_cls G74 l0 = some 3 then (cI (gCa K d 124 [.ref l0, .int l1] G74) (t_51_0_42 K d)) else none
noncomputable def t_51_0_44 (K : gK) (d : Nat) (G71 : gH) (l1 : Int32) (l2 : Int32) (l3 : Int32) (l0 : Nat) (a73 : Nat) : Option gO := yI G71 a73 0 (((8 : Int32) * l1) + l2) l3 (t_51_0_43 K d l0 l1)
noncomputable def t_51_0_45 (K : gK) (d : Nat) (l0 : Nat) (l1 : Int32) (l2 : Int32) (l3 : Int32) (v72 : Int32) (G71 : gH) : Option gO := if v72 = 0 then (rR G71 l0 3 29 (t_51_0_44 K d G71 l1 l2 l3 l0)) else (some (.inl (some (.int (0 : Int32))), G71))
noncomputable def t_51_0_46 (K : gK) (d : Nat) (G47 : gH) (l0 : Nat) (l1 : Int32) (l2 : Int32) (l3 : Int32) (v64 : Int32) : Option gO := if v64 ≤ 0 then (if g_cls G47 l0 = some 3 then (cI (gCa K d 90 [.ref l0, .int (0 : Int32)] G47) (t_51_0_41 K d l0 l1 l2 l3)) else none) else (if g_cls G47 l0 = some 3 then (cI (gCa K d 90 [.ref l0, .int (3 : Int32)] G47) (t_51_0_45 K d l0 l1 l2 l3)) else none)
noncomputable def t_51_0_47 (K : gK) (d : Nat) (G47 : gH) (l1 : Int32) (l0 : Nat) (l2 : Int32) (l3 : Int32) (a63 : Nat) : Option gO := xI G47 a63 0 l1 (t_51_0_46 K d G47 l0 l1 l2 l3)
noncomputable def t_51_0_48 (K : gK) (d : Nat) (G47 : gH) (l0 : Nat) (l1 : Int32) (l2 : Int32) (l3 : Int32) (v56 : Int32) : Option gO := if 0 < v56 then (if g_cls G47 l0 = some 3 then (cI (gCa K d 90 [.ref l0, .int (3 : Int32)] G47) (t_51_0_37 K d l0 l1 l2 l3)) else none) else (rR G47 l0 3 30 (t_51_0_47 K d G47 l1 l0 l2 l3))
noncomputable def t_51_0_49 (K : gK) (d : Nat) (G47 : gH) (l1 : Int32) (l2 : Int32) (l0 : Nat) (l3 : Int32) (a55 : Nat) : Option gO := xI G47 a55 0 (((8 : Int32) * l1) + l2) (t_51_0_48 K d G47 l0 l1 l2 l3)
noncomputable def t_51_0_50 (K : gK) (d : Nat) (l0 : Nat) (l1 : Int32) (l2 : Int32) (l3 : Int32) (v48 : Int32) (G47 : gH) : Option gO := if v48 = 0 then (if g_cls G47 l0 = some 3 then (cI (gCa K d 90 [.ref l0, .int (2 : Int32)] G47) (t_51_0_33 K d l0 l1 l2 l3)) else none) else (rR G47 l0 3 29 (t_51_0_49 K d G47 l1 l2 l0 l3))
noncomputable def t_51_0_51 (K : gK) (d : Nat) (v82 : Int32) (G81 : gH) : Option gO := some (.inl (some (.int v82)), G81)
noncomputable def t_51_0_52 (K : gK) (d : Nat) (l0 : Nat) (l1 : Int32) (G80 : gH) : Option gO := if g_cls G80 l0 = some 3 then (cI (gCa K d 124 [.ref l0, .int l1] G80) (t_51_0_51 K d)) else none
noncomputable def t_51_0_53 (K : gK) (d : Nat) (G77 : gH) (l1 : Int32) (l2 : Int32) (l3 : Int32) (l0 : Nat) (a79 : Nat) : Option gO := yI G77 a79 0 (((8 : Int32) * l1) + l2) l3 (t_51_0_52 K d l0 l1)
noncomputable def t_51_0_54 (K : gK) (d : Nat) (l0 : Nat) (l1 : Int32) (l2 : Int32) (l3 : Int32) (v78 : Int32) (G77 : gH) : Option gO := if v78 = 0 then (rR G77 l0 3 29 (t_51_0_53 K d G77 l1 l2 l3 l0)) else (some (.inl (some (.int (0 : Int32))), G77))
noncomputable def t_51_0_55 (K : gK) (d : Nat) (v90 : Int32) (G89 : gH) : Option gO := some (.inl (some (.int v90)), G89)
noncomputable def t_51_0_56 (K : gK) (d : Nat) (l0 : Nat) (l1 : Int32) (G88 : gH) : Option gO := if g_cls G88 l0 = some 3 then (cI (gCa K d 124 [.ref l0, .int l1] G88) (t_51_0_55 K d)) else none
noncomputable def t_51_0_57 (K : gK) (d : Nat) (G85 : gH) (l1 : Int32) (l2 : Int32) (l3 : Int32) (l0 : Nat) (a87 : Nat) : Option gO := yI G85 a87 0 (((8 : Int32) * l1) + l2) l3 (t_51_0_56 K d l0 l1)
noncomputable def t_51_0_58 (K : gK) (d : Nat) (l0 : Nat) (l1 : Int32) (l2 : Int32) (l3 : Int32) (v86 : Int32) (G85 : gH) : Option gO := if v86 = 0 then (rR G85 l0 3 29 (t_51_0_57 K d G85 l1 l2 l3 l0)) else (some (.inl (some (.int (0 : Int32))), G85))
noncomputable def t_51_0_59 (K : gK) (d : Nat) (v98 : Int32) (G97 : gH) : Option gO := some (.inl (some (.int v98)), G97)
noncomputable def t_51_0_60 (K : gK) (d : Nat) (l0 : Nat) (l1 : Int32) (G96 : gH) : Option gO := if g_cls G96 l0 = some 3 then (cI (gCa K d 124 [.ref l0, .int l1] G96) (t_51_0_59 K d)) else none
noncomputable def t_51_0_61 (K : gK) (d : Nat) (G93 : gH) (l1 : Int32) (l2 : Int32) (l3 : Int32) (l0 : Nat) (a95 : Nat) : Option gO := yI G93 a95 0 (((8 : Int32) * l1) + l2) l3 (t_51_0_60 K d l0 l1)
noncomputable def t_51_0_62 (K : gK) (d : Nat) (l0 : Nat) (l1 : Int32) (l2 : Int32) (l3 : Int32) (v94 : Int32) (G93 : gH) : Option gO := if v94 = 0 then (rR G93 l0 3 29 (t_51_0_61 K d G93 l1 l2 l3 l0)) else (some (.inl (some (.int (0 : Int32))), G93))
noncomputable def t_51_0_63 (K : gK) (d : Nat) (v106 : Int32) (G105 : gH) : Option gO := some (.inl (some (.int v106)), G105)
noncomputable def t_51_0_64 (K : gK) (d : Nat) (l0 : Nat) (l1 : Int32) (G104 : gH) : Option gO := if g_cls G104 l0 = some 3 then (cI (gCa K d 124 [.ref l0, .int l1] G104) (t_51_0_63 K d)) else none
noncomputable def t_51_0_65 (K : gK) (d : Nat) (G101 : gH) (l1 : Int32) (l2 : Int32) (l3 : Int32) (l0 : Nat) (a103 : Nat) : Option gO := yI G101 a103 0 (((8 : Int32) * l1) + l2) l3 (t_51_0_64 K d l0 l1)
noncomputable def t_51_0_66 (K : gK) (d : Nat) (l0 : Nat) (l1 : Int32) (l2 : Int32) (l3 : Int32) (v102 : Int32) (G101 : gH) : Option gO := if v102 = 0 then (rR G101 l0 3 29 (t_51_0_65 K d G101 l1 l2 l3 l0)) else (some (.inl (some (.int (0 : Int32))), G101))
noncomputable def t_51_0_67 (K : gK) (d : Nat) (v112 : Int32) (G111 : gH) : Option gO := some (.inl (some (.int v112)), G111)
noncomputable def t_51_0_68 (K : gK) (d : Nat) (l0 : Nat) (l1 : Int32) (G110 : gH) : Option gO := if g_cls G110 l0 = some 3 then (cI (gCa K d 124 [.ref l0, .int l1] G110) (t_51_0_67 K d)) else none
noncomputable def t_51_0_69 (K : gK) (d : Nat) (G107 : gH) (l1 : Int32) (l2 : Int32) (l3 : Int32) (l0 : Nat) (a109 : Nat) : Option gO := yI G107 a109 0 (((8 : Int32) * l1) + l2) l3 (t_51_0_68 K d l0 l1)
noncomputable def t_51_0_70 (K : gK) (d : Nat) (l0 : Nat) (l1 : Int32) (l2 : Int32) (l3 : Int32) (v108 : Int32) (G107 : gH) : Option gO := if v108 = 0 then (rR G107 l0 3 29 (t_51_0_69 K d G107 l1 l2 l3 l0)) else (some (.inl (some (.int (0 : Int32))), G107))
noncomputable def t_51_0_71 (K : gK) (d : Nat) (G83 : gH) (l0 : Nat) (l1 : Int32) (l2 : Int32) (l3 : Int32) (v100 : Int32) : Option gO := if v100 ≤ 0 then (if g_cls G83 l0 = some 3 then (cI (gCa K d 90 [.ref l0, .int (0 : Int32)] G83) (t_51_0_66 K d l0 l1 l2 l3)) else none) else (if g_cls G83 l0 = some 3 then (cI (gCa K d 90 [.ref l0, .int (3 : Int32)] G83) (t_51_0_70 K d l0 l1 l2 l3)) else none)
noncomputable def t_51_0_72 (K : gK) (d : Nat) (G83 : gH) (l1 : Int32) (l0 : Nat) (l2 : Int32) (l3 : Int32) (a99 : Nat) : Option gO := xI G83 a99 0 l1 (t_51_0_71 K d G83 l0 l1 l2 l3)
noncomputable def t_51_0_73 (K : gK) (d : Nat) (G83 : gH) (l0 : Nat) (l1 : Int32) (l2 : Int32) (l3 : Int32) (v92 : Int32) : Option gO := if 0 < v92 then (if g_cls G83 l0 = some 3 then (cI (gCa K d 90 [.ref l0, .int (3 : Int32)] G83) (t_51_0_62 K d l0 l1 l2 l3)) else none) else (rR G83 l0 3 30 (t_51_0_72 K d G83 l1 l0 l2 l3))
noncomputable def t_51_0_74 (K : gK) (d : Nat) (G83 : gH) (l1 : Int32) (l2 : Int32) (l0 : Nat) (l3 : Int32) (a91 : Nat) : Option gO := xI G83 a91 0 (((8 : Int32) * l1) + l2) (t_51_0_73 K d G83 l0 l1 l2 l3)
noncomputable def t_51_0_75 (K : gK) (d : Nat) (l0 : Nat) (l1 : Int32) (l2 : Int32) (l3 : Int32) (v84 : Int32) (G83 : gH) : Option gO := if v84 = 0 then (if g_cls G83 l0 = some 3 then (cI (gCa K d 90 [.ref l0, .int (2 : Int32)] G83) (t_51_0_58 K d l0 l1 l2 l3)) else none) else (rR G83 l0 3 29 (t_51_0_74 K d G83 l1 l2 l0 l3))
noncomputable def t_51_0_76 (K : gK) (d : Nat) (l0 : Nat) (l1 : Int32) (l2 : Int32) (l3 : Int32) (v40 : Int32) (G39 : gH) : Option gO := if v40 = 0 then (if (0 : Int32) = 0 then (if g_cls G39 l0 = some 3 then (cI (gCa K d 90 [.ref l0, .int (1 : Int32)] G39) (t_51_0_29 K d l0 l1 l2 l3)) else none) else (cI (gCa K d 89 [.int l3, .int (1 : Int32), .int (4 : Int32)] G39) (t_51_0_50 K d l0 l1 l2 l3))) else (if (1 : Int32) = 0 then (if g_cls G39 l0 = some 3 then (cI (gCa K d 90 [.ref l0, .int (1 : Int32)] G39) (t_51_0_54 K d l0 l1 l2 l3)) else none) else (cI (gCa K d 89 [.int l3, .int (1 : Int32), .int (4 : Int32)] G39) (t_51_0_75 K d l0 l1 l2 l3)))
noncomputable def t_51_0_77 (K : gK) (d : Nat) (l0 : Nat) (l1 : Int32) (l2 : Int32) (l3 : Int32) (v2 : Int32) (G1 : gH) : Option gO := if v2 = 0 then (if (0 : Int32) = 0 then (if g_cls G1 l0 = some 3 then (cI (gCa K d 90 [.ref l0, .int (1 : Int32)] G1) (t_51_0_4 K d l0 l1 l2 l3)) else none) else (cI (gCa K d 89 [.int l3, .int (1 : Int32), .int (4 : Int32)] G1) (t_51_0_25 K d l0 l1 l2 l3))) else (if g_cls G1 l0 = some 3 then (cI (gCa K d 96 [.ref l0, .int l2] G1) (t_51_0_76 K d l0 l1 l2 l3)) else none)
noncomputable def t_51_0 (K : gK) (d : Nat) (l0 : Nat) (l1 : Int32) (l2 : Int32) (l3 : Int32) (G : gH) : Option gO := if g_cls G l0 = some 3 then (cI (gCa K d 123 [.ref l0, .int l1] G) (t_51_0_77 K d l0 l1 l2 l3)) else none
theorem e_51_0 {K : gK} {d : Nat} {l0 : Nat} {l1 : Int32} {l2 : Int32} {l3 : Int32} {G : gH} : gle (t_51_0 K d l0 l1 l2 l3 G) (gRn K d 51 0 [some (.ref l0), some (.int l1), some (.int l2), some (.int l3), none] [] G) := by
  unfold t_51_0
  refine g_aload ((q_51 _).trans rfl) rfl ?_
  refine g_iload ((q_51 _).trans rfl) rfl ?_
  refine g_callV (kk := 1) ((q_51 _).trans rfl) (gHn m_51) rfl (by exact ⟨Nat.le_of_ble_eq_true rfl, rfl⟩) rfl (fun w G1 => gm_I (fun v2 hw => ?_))
  subst hw
  refine g_ifeq ((q_51 _).trans rfl) (fun _ => ?_) (fun _ => ?_)
  · refine g_push ((q_51 _).trans rfl) ?_
    refine g_istore ((q_51 _).trans rfl) ?_
    refine g_aload ((q_51 _).trans rfl) rfl ?_
    refine g_iload ((q_51 _).trans rfl) rfl ?_
    refine g_ifne ((q_51 _).trans rfl) (fun _ => ?_) (fun _ => ?_)
    · refine g_push ((q_51 _).trans rfl) ?_
      refine g_goto ((q_51 _).trans rfl) ?_
      refine g_callV (kk := 1) ((q_51 _).trans rfl) (gHn m_51) rfl (by exact ⟨Nat.le_of_ble_eq_true rfl, rfl⟩) rfl (fun w G3 => gm_I (fun v4 hw => ?_))
      subst hw
      refine g_ifeq ((q_51 _).trans rfl) (fun _ => ?_) (fun _ => ?_)
      · refine g_aload ((q_51 _).trans rfl) rfl ?_
        refine g_getR ((q_51 _).trans rfl) (fun a5 => ?_)
        refine g_push ((q_51 _).trans rfl) ?_
        refine g_iload ((q_51 _).trans rfl) rfl ?_
        refine g_imul ((q_51 _).trans rfl) ?_
        refine g_iload ((q_51 _).trans rfl) rfl ?_
        refine g_iadd ((q_51 _).trans rfl) ?_
        refine g_iload ((q_51 _).trans rfl) rfl ?_
        refine g_iast ((q_51 _).trans rfl) (fun G6 => ?_)
        refine g_aload ((q_51 _).trans rfl) rfl ?_
        refine g_iload ((q_51 _).trans rfl) rfl ?_
        refine g_callV (kk := 1) ((q_51 _).trans rfl) (gHn m_51) rfl (by exact ⟨Nat.le_of_ble_eq_true rfl, rfl⟩) rfl (fun w G7 => gm_I (fun v8 hw => ?_))
        subst hw
        exact g_iret ((q_51 _).trans rfl)
      · refine g_push ((q_51 _).trans rfl) ?_
        exact g_iret ((q_51 _).trans rfl)
    · refine g_iload ((q_51 _).trans rfl) rfl ?_
      refine g_push ((q_51 _).trans rfl) ?_
      refine g_push ((q_51 _).trans rfl) ?_
      refine g_callS (kk := 3) ((q_51 _).trans rfl) (gHn m_51) (by exact ⟨Nat.le_of_ble_eq_true rfl, Nat.le_of_ble_eq_true rfl, rfl⟩) rfl (fun w G9 => gm_I (fun v10 hw => ?_))
      subst hw
      refine g_ifne ((q_51 _).trans rfl) (fun _ => ?_) (fun _ => ?_)
      · refine g_push ((q_51 _).trans rfl) ?_
        refine g_goto ((q_51 _).trans rfl) ?_
        refine g_callV (kk := 1) ((q_51 _).trans rfl) (gHn m_51) rfl (by exact ⟨Nat.le_of_ble_eq_true rfl, rfl⟩) rfl (fun w G11 => gm_I (fun v12 hw => ?_))
        subst hw
        refine g_ifeq ((q_51 _).trans rfl) (fun _ => ?_) (fun _ => ?_)
        · refine g_aload ((q_51 _).trans rfl) rfl ?_
          refine g_getR ((q_51 _).trans rfl) (fun a13 => ?_)
          refine g_push ((q_51 _).trans rfl) ?_
          refine g_iload ((q_51 _).trans rfl) rfl ?_
          refine g_imul ((q_51 _).trans rfl) ?_
          refine g_iload ((q_51 _).trans rfl) rfl ?_
          refine g_iadd ((q_51 _).trans rfl) ?_
          refine g_iload ((q_51 _).trans rfl) rfl ?_
          refine g_iast ((q_51 _).trans rfl) (fun G14 => ?_)
          refine g_aload ((q_51 _).trans rfl) rfl ?_
          refine g_iload ((q_51 _).trans rfl) rfl ?_
          refine g_callV (kk := 1) ((q_51 _).trans rfl) (gHn m_51) rfl (by exact ⟨Nat.le_of_ble_eq_true rfl, rfl⟩) rfl (fun w G15 => gm_I (fun v16 hw => ?_))
          subst hw
          exact g_iret ((q_51 _).trans rfl)
        · refine g_push ((q_51 _).trans rfl) ?_
          exact g_iret ((q_51 _).trans rfl)
      · refine g_aload ((q_51 _).trans rfl) rfl ?_
        refine g_getR ((q_51 _).trans rfl) (fun a17 => ?_)
        refine g_push ((q_51 _).trans rfl) ?_
        refine g_iload ((q_51 _).trans rfl) rfl ?_
        refine g_imul ((q_51 _).trans rfl) ?_
        refine g_iload ((q_51 _).trans rfl) rfl ?_
        refine g_iadd ((q_51 _).trans rfl) ?_
        refine g_iald ((q_51 _).trans rfl) (fun v18 => ?_)
        refine g_ifgt ((q_51 _).trans rfl) (fun _ => ?_) (fun _ => ?_)
        · refine g_push ((q_51 _).trans rfl) ?_
          refine g_goto ((q_51 _).trans rfl) ?_
          refine g_callV (kk := 1) ((q_51 _).trans rfl) (gHn m_51) rfl (by exact ⟨Nat.le_of_ble_eq_true rfl, rfl⟩) rfl (fun w G19 => gm_I (fun v20 hw => ?_))
          subst hw
          refine g_ifeq ((q_51 _).trans rfl) (fun _ => ?_) (fun _ => ?_)
          · refine g_aload ((q_51 _).trans rfl) rfl ?_
            refine g_getR ((q_51 _).trans rfl) (fun a21 => ?_)
            refine g_push ((q_51 _).trans rfl) ?_
            refine g_iload ((q_51 _).trans rfl) rfl ?_
            refine g_imul ((q_51 _).trans rfl) ?_
            refine g_iload ((q_51 _).trans rfl) rfl ?_
            refine g_iadd ((q_51 _).trans rfl) ?_
            refine g_iload ((q_51 _).trans rfl) rfl ?_
            refine g_iast ((q_51 _).trans rfl) (fun G22 => ?_)
            refine g_aload ((q_51 _).trans rfl) rfl ?_
            refine g_iload ((q_51 _).trans rfl) rfl ?_
            refine g_callV (kk := 1) ((q_51 _).trans rfl) (gHn m_51) rfl (by exact ⟨Nat.le_of_ble_eq_true rfl, rfl⟩) rfl (fun w G23 => gm_I (fun v24 hw => ?_))
            subst hw
            exact g_iret ((q_51 _).trans rfl)
          · refine g_push ((q_51 _).trans rfl) ?_
            exact g_iret ((q_51 _).trans rfl)
        · refine g_aload ((q_51 _).trans rfl) rfl ?_
          refine g_getR ((q_51 _).trans rfl) (fun a25 => ?_)
          refine g_iload ((q_51 _).trans rfl) rfl ?_
          refine g_iald ((q_51 _).trans rfl) (fun v26 => ?_)
          refine g_ifle ((q_51 _).trans rfl) (fun _ => ?_) (fun _ => ?_)
          · refine g_push ((q_51 _).trans rfl) ?_
            refine g_callV (kk := 1) ((q_51 _).trans rfl) (gHn m_51) rfl (by exact ⟨Nat.le_of_ble_eq_true rfl, rfl⟩) rfl (fun w G27 => gm_I (fun v28 hw => ?_))
            subst hw
            refine g_ifeq ((q_51 _).trans rfl) (fun _ => ?_) (fun _ => ?_)
            · refine g_aload ((q_51 _).trans rfl) rfl ?_
              refine g_getR ((q_51 _).trans rfl) (fun a29 => ?_)
              refine g_push ((q_51 _).trans rfl) ?_
              refine g_iload ((q_51 _).trans rfl) rfl ?_
              refine g_imul ((q_51 _).trans rfl) ?_
              refine g_iload ((q_51 _).trans rfl) rfl ?_
              refine g_iadd ((q_51 _).trans rfl) ?_
              refine g_iload ((q_51 _).trans rfl) rfl ?_
              refine g_iast ((q_51 _).trans rfl) (fun G30 => ?_)
              refine g_aload ((q_51 _).trans rfl) rfl ?_
              refine g_iload ((q_51 _).trans rfl) rfl ?_
              refine g_callV (kk := 1) ((q_51 _).trans rfl) (gHn m_51) rfl (by exact ⟨Nat.le_of_ble_eq_true rfl, rfl⟩) rfl (fun w G31 => gm_I (fun v32 hw => ?_))
              subst hw
              exact g_iret ((q_51 _).trans rfl)
            · refine g_push ((q_51 _).trans rfl) ?_
              exact g_iret ((q_51 _).trans rfl)
          · refine g_push ((q_51 _).trans rfl) ?_
            refine g_goto ((q_51 _).trans rfl) ?_
            refine g_callV (kk := 1) ((q_51 _).trans rfl) (gHn m_51) rfl (by exact ⟨Nat.le_of_ble_eq_true rfl, rfl⟩) rfl (fun w G33 => gm_I (fun v34 hw => ?_))
            subst hw
            refine g_ifeq ((q_51 _).trans rfl) (fun _ => ?_) (fun _ => ?_)
            · refine g_aload ((q_51 _).trans rfl) rfl ?_
              refine g_getR ((q_51 _).trans rfl) (fun a35 => ?_)
              refine g_push ((q_51 _).trans rfl) ?_
              refine g_iload ((q_51 _).trans rfl) rfl ?_
              refine g_imul ((q_51 _).trans rfl) ?_
              refine g_iload ((q_51 _).trans rfl) rfl ?_
              refine g_iadd ((q_51 _).trans rfl) ?_
              refine g_iload ((q_51 _).trans rfl) rfl ?_
              refine g_iast ((q_51 _).trans rfl) (fun G36 => ?_)
              refine g_aload ((q_51 _).trans rfl) rfl ?_
              refine g_iload ((q_51 _).trans rfl) rfl ?_
              refine g_callV (kk := 1) ((q_51 _).trans rfl) (gHn m_51) rfl (by exact ⟨Nat.le_of_ble_eq_true rfl, rfl⟩) rfl (fun w G37 => gm_I (fun v38 hw => ?_))
              subst hw
              exact g_iret ((q_51 _).trans rfl)
            · refine g_push ((q_51 _).trans rfl) ?_
              exact g_iret ((q_51 _).trans rfl)
  · refine g_aload ((q_51 _).trans rfl) rfl ?_
    refine g_iload ((q_51 _).trans rfl) rfl ?_
    refine g_callV (kk := 1) ((q_51 _).trans rfl) (gHn m_51) rfl (by exact ⟨Nat.le_of_ble_eq_true rfl, rfl⟩) rfl (fun w G39 => gm_I (fun v40 hw => ?_))
    subst hw
    refine g_ifeq ((q_51 _).trans rfl) (fun _ => ?_) (fun _ => ?_)
    · refine g_push ((q_51 _).trans rfl) ?_
      refine g_istore ((q_51 _).trans rfl) ?_
      refine g_aload ((q_51 _).trans rfl) rfl ?_
      refine g_iload ((q_51 _).trans rfl) rfl ?_
      refine g_ifne ((q_51 _).trans rfl) (fun _ => ?_) (fun _ => ?_)
      · refine g_push ((q_51 _).trans rfl) ?_
        refine g_goto ((q_51 _).trans rfl) ?_
        refine g_callV (kk := 1) ((q_51 _).trans rfl) (gHn m_51) rfl (by exact ⟨Nat.le_of_ble_eq_true rfl, rfl⟩) rfl (fun w G41 => gm_I (fun v42 hw => ?_))
        subst hw
        refine g_ifeq ((q_51 _).trans rfl) (fun _ => ?_) (fun _ => ?_)
        · refine g_aload ((q_51 _).trans rfl) rfl ?_
          refine g_getR ((q_51 _).trans rfl) (fun a43 => ?_)
          refine g_push ((q_51 _).trans rfl) ?_
          refine g_iload ((q_51 _).trans rfl) rfl ?_
          refine g_imul ((q_51 _).trans rfl) ?_
          refine g_iload ((q_51 _).trans rfl) rfl ?_
          refine g_iadd ((q_51 _).trans rfl) ?_
          refine g_iload ((q_51 _).trans rfl) rfl ?_
          refine g_iast ((q_51 _).trans rfl) (fun G44 => ?_)
          refine g_aload ((q_51 _).trans rfl) rfl ?_
          refine g_iload ((q_51 _).trans rfl) rfl ?_
          refine g_callV (kk := 1) ((q_51 _).trans rfl) (gHn m_51) rfl (by exact ⟨Nat.le_of_ble_eq_true rfl, rfl⟩) rfl (fun w G45 => gm_I (fun v46 hw => ?_))
          subst hw
          exact g_iret ((q_51 _).trans rfl)
        · refine g_push ((q_51 _).trans rfl) ?_
          exact g_iret ((q_51 _).trans rfl)
      · refine g_iload ((q_51 _).trans rfl) rfl ?_
        refine g_push ((q_51 _).trans rfl) ?_
        refine g_push ((q_51 _).trans rfl) ?_
        refine g_callS (kk := 3) ((q_51 _).trans rfl) (gHn m_51) (by exact ⟨Nat.le_of_ble_eq_true rfl, Nat.le_of_ble_eq_true rfl, rfl⟩) rfl (fun w G47 => gm_I (fun v48 hw => ?_))
        subst hw
        refine g_ifne ((q_51 _).trans rfl) (fun _ => ?_) (fun _ => ?_)
        · refine g_push ((q_51 _).trans rfl) ?_
          refine g_goto ((q_51 _).trans rfl) ?_
          refine g_callV (kk := 1) ((q_51 _).trans rfl) (gHn m_51) rfl (by exact ⟨Nat.le_of_ble_eq_true rfl, rfl⟩) rfl (fun w G49 => gm_I (fun v50 hw => ?_))
          subst hw
          refine g_ifeq ((q_51 _).trans rfl) (fun _ => ?_) (fun _ => ?_)
          · refine g_aload ((q_51 _).trans rfl) rfl ?_
            refine g_getR ((q_51 _).trans rfl) (fun a51 => ?_)
            refine g_push ((q_51 _).trans rfl) ?_
            refine g_iload ((q_51 _).trans rfl) rfl ?_
            refine g_imul ((q_51 _).trans rfl) ?_
            refine g_iload ((q_51 _).trans rfl) rfl ?_
            refine g_iadd ((q_51 _).trans rfl) ?_
            refine g_iload ((q_51 _).trans rfl) rfl ?_
            refine g_iast ((q_51 _).trans rfl) (fun G52 => ?_)
            refine g_aload ((q_51 _).trans rfl) rfl ?_
            refine g_iload ((q_51 _).trans rfl) rfl ?_
            refine g_callV (kk := 1) ((q_51 _).trans rfl) (gHn m_51) rfl (by exact ⟨Nat.le_of_ble_eq_true rfl, rfl⟩) rfl (fun w G53 => gm_I (fun v54 hw => ?_))
            subst hw
            exact g_iret ((q_51 _).trans rfl)
          · refine g_push ((q_51 _).trans rfl) ?_
            exact g_iret ((q_51 _).trans rfl)
        · refine g_aload ((q_51 _).trans rfl) rfl ?_
          refine g_getR ((q_51 _).trans rfl) (fun a55 => ?_)
          refine g_push ((q_51 _).trans rfl) ?_
          refine g_iload ((q_51 _).trans rfl) rfl ?_
          refine g_imul ((q_51 _).trans rfl) ?_
          refine g_iload ((q_51 _).trans rfl) rfl ?_
          refine g_iadd ((q_51 _).trans rfl) ?_
          refine g_iald ((q_51 _).trans rfl) (fun v56 => ?_)
          refine g_ifgt ((q_51 _).trans rfl) (fun _ => ?_) (fun _ => ?_)
          · refine g_push ((q_51 _).trans rfl) ?_
            refine g_goto ((q_51 _).trans rfl) ?_
            refine g_callV (kk := 1) ((q_51 _).trans rfl) (gHn m_51) rfl (by exact ⟨Nat.le_of_ble_eq_true rfl, rfl⟩) rfl (fun w G57 => gm_I (fun v58 hw => ?_))
            subst hw
            refine g_ifeq ((q_51 _).trans rfl) (fun _ => ?_) (fun _ => ?_)
            · refine g_aload ((q_51 _).trans rfl) rfl ?_
              refine g_getR ((q_51 _).trans rfl) (fun a59 => ?_)
              refine g_push ((q_51 _).trans rfl) ?_
              refine g_iload ((q_51 _).trans rfl) rfl ?_
              refine g_imul ((q_51 _).trans rfl) ?_
              refine g_iload ((q_51 _).trans rfl) rfl ?_
              refine g_iadd ((q_51 _).trans rfl) ?_
              refine g_iload ((q_51 _).trans rfl) rfl ?_
              refine g_iast ((q_51 _).trans rfl) (fun G60 => ?_)
              refine g_aload ((q_51 _).trans rfl) rfl ?_
              refine g_iload ((q_51 _).trans rfl) rfl ?_
              refine g_callV (kk := 1) ((q_51 _).trans rfl) (gHn m_51) rfl (by exact ⟨Nat.le_of_ble_eq_true rfl, rfl⟩) rfl (fun w G61 => gm_I (fun v62 hw => ?_))
              subst hw
              exact g_iret ((q_51 _).trans rfl)
            · refine g_push ((q_51 _).trans rfl) ?_
              exact g_iret ((q_51 _).trans rfl)
          · refine g_aload ((q_51 _).trans rfl) rfl ?_
            refine g_getR ((q_51 _).trans rfl) (fun a63 => ?_)
            refine g_iload ((q_51 _).trans rfl) rfl ?_
            refine g_iald ((q_51 _).trans rfl) (fun v64 => ?_)
            refine g_ifle ((q_51 _).trans rfl) (fun _ => ?_) (fun _ => ?_)
            · refine g_push ((q_51 _).trans rfl) ?_
              refine g_callV (kk := 1) ((q_51 _).trans rfl) (gHn m_51) rfl (by exact ⟨Nat.le_of_ble_eq_true rfl, rfl⟩) rfl (fun w G65 => gm_I (fun v66 hw => ?_))
              subst hw
              refine g_ifeq ((q_51 _).trans rfl) (fun _ => ?_) (fun _ => ?_)
              · refine g_aload ((q_51 _).trans rfl) rfl ?_
                refine g_getR ((q_51 _).trans rfl) (fun a67 => ?_)
                refine g_push ((q_51 _).trans rfl) ?_
                refine g_iload ((q_51 _).trans rfl) rfl ?_
                refine g_imul ((q_51 _).trans rfl) ?_
                refine g_iload ((q_51 _).trans rfl) rfl ?_
                refine g_iadd ((q_51 _).trans rfl) ?_
                refine g_iload ((q_51 _).trans rfl) rfl ?_
                refine g_iast ((q_51 _).trans rfl) (fun G68 => ?_)
                refine g_aload ((q_51 _).trans rfl) rfl ?_
                refine g_iload ((q_51 _).trans rfl) rfl ?_
                refine g_callV (kk := 1) ((q_51 _).trans rfl) (gHn m_51) rfl (by exact ⟨Nat.le_of_ble_eq_true rfl, rfl⟩) rfl (fun w G69 => gm_I (fun v70 hw => ?_))
                subst hw
                exact g_iret ((q_51 _).trans rfl)
              · refine g_push ((q_51 _).trans rfl) ?_
                exact g_iret ((q_51 _).trans rfl)
            · refine g_push ((q_51 _).trans rfl) ?_
              refine g_goto ((q_51 _).trans rfl) ?_
              refine g_callV (kk := 1) ((q_51 _).trans rfl) (gHn m_51) rfl (by exact ⟨Nat.le_of_ble_eq_true rfl, rfl⟩) rfl (fun w G71 => gm_I (fun v72 hw => ?_))
              subst hw
              refine g_ifeq ((q_51 _).trans rfl) (fun _ => ?_) (fun _ => ?_)
              · refine g_aload ((q_51 _).trans rfl) rfl ?_
                refine g_getR ((q_51 _).trans rfl) (fun a73 => ?_)
                refine g_push ((q_51 _).trans rfl) ?_
                refine g_iload ((q_51 _).trans rfl) rfl ?_
                refine g_imul ((q_51 _).trans rfl) ?_
                refine g_iload ((q_51 _).trans rfl) rfl ?_
                refine g_iadd ((q_51 _).trans rfl) ?_
                refine g_iload ((q_51 _).trans rfl) rfl ?_
                refine g_iast ((q_51 _).trans rfl) (fun G74 => ?_)
                refine g_aload ((q_51 _).trans rfl) rfl ?_
                refine g_iload ((q_51 _).trans rfl) rfl ?_
                refine g_callV (kk := 1) ((q_51 _).trans rfl) (gHn m_51) rfl (by exact ⟨Nat.le_of_ble_eq_true rfl, rfl⟩) rfl (fun w G75 => gm_I (fun v76 hw => ?_))
                subst hw
                exact g_iret ((q_51 _).trans rfl)
              · refine g_push ((q_51 _).trans rfl) ?_
                exact g_iret ((q_51 _).trans rfl)
    · refine g_push ((q_51 _).trans rfl) ?_
      refine g_goto ((q_51 _).trans rfl) ?_
      refine g_istore ((q_51 _).trans rfl) ?_
      refine g_aload ((q_51 _).trans rfl) rfl ?_
      refine g_iload ((q_51 _).trans rfl) rfl ?_
      refine g_ifne ((q_51 _).trans rfl) (fun _ => ?_) (fun _ => ?_)
      · refine g_push ((q_51 _).trans rfl) ?_
        refine g_goto ((q_51 _).trans rfl) ?_
        refine g_callV (kk := 1) ((q_51 _).trans rfl) (gHn m_51) rfl (by exact ⟨Nat.le_of_ble_eq_true rfl, rfl⟩) rfl (fun w G77 => gm_I (fun v78 hw => ?_))
        subst hw
        refine g_ifeq ((q_51 _).trans rfl) (fun _ => ?_) (fun _ => ?_)
        · refine g_aload ((q_51 _).trans rfl) rfl ?_
          refine g_getR ((q_51 _).trans rfl) (fun a79 => ?_)
          refine g_push ((q_51 _).trans rfl) ?_
          refine g_iload ((q_51 _).trans rfl) rfl ?_
          refine g_imul ((q_51 _).trans rfl) ?_
          refine g_iload ((q_51 _).trans rfl) rfl ?_
          refine g_iadd ((q_51 _).trans rfl) ?_
          refine g_iload ((q_51 _).trans rfl) rfl ?_
          refine g_iast ((q_51 _).trans rfl) (fun G80 => ?_)
          refine g_aload ((q_51 _).trans rfl) rfl ?_
          refine g_iload ((q_51 _).trans rfl) rfl ?_
          refine g_callV (kk := 1) ((q_51 _).trans rfl) (gHn m_51) rfl (by exact ⟨Nat.le_of_ble_eq_true rfl, rfl⟩) rfl (fun w G81 => gm_I (fun v82 hw => ?_))
          subst hw
          exact g_iret ((q_51 _).trans rfl)
        · refine g_push ((q_51 _).trans rfl) ?_
          exact g_iret ((q_51 _).trans rfl)
      · refine g_iload ((q_51 _).trans rfl) rfl ?_
        refine g_push ((q_51 _).trans rfl) ?_
        refine g_push ((q_51 _).trans rfl) ?_
        refine g_callS (kk := 3) ((q_51 _).trans rfl) (gHn m_51) (by exact ⟨Nat.le_of_ble_eq_true rfl, Nat.le_of_ble_eq_true rfl, rfl⟩) rfl (fun w G83 => gm_I (fun v84 hw => ?_))
        subst hw
        refine g_ifne ((q_51 _).trans rfl) (fun _ => ?_) (fun _ => ?_)
        · refine g_push ((q_51 _).trans rfl) ?_
          refine g_goto ((q_51 _).trans rfl) ?_
          refine g_callV (kk := 1) ((q_51 _).trans rfl) (gHn m_51) rfl (by exact ⟨Nat.le_of_ble_eq_true rfl, rfl⟩) rfl (fun w G85 => gm_I (fun v86 hw => ?_))
          subst hw
          refine g_ifeq ((q_51 _).trans rfl) (fun _ => ?_) (fun _ => ?_)
          · refine g_aload ((q_51 _).trans rfl) rfl ?_
            refine g_getR ((q_51 _).trans rfl) (fun a87 => ?_)
            refine g_push ((q_51 _).trans rfl) ?_
            refine g_iload ((q_51 _).trans rfl) rfl ?_
            refine g_imul ((q_51 _).trans rfl) ?_
            refine g_iload ((q_51 _).trans rfl) rfl ?_
            refine g_iadd ((q_51 _).trans rfl) ?_
            refine g_iload ((q_51 _).trans rfl) rfl ?_
            refine g_iast ((q_51 _).trans rfl) (fun G88 => ?_)
            refine g_aload ((q_51 _).trans rfl) rfl ?_
            refine g_iload ((q_51 _).trans rfl) rfl ?_
            refine g_callV (kk := 1) ((q_51 _).trans rfl) (gHn m_51) rfl (by exact ⟨Nat.le_of_ble_eq_true rfl, rfl⟩) rfl (fun w G89 => gm_I (fun v90 hw => ?_))
            subst hw
            exact g_iret ((q_51 _).trans rfl)
          · refine g_push ((q_51 _).trans rfl) ?_
            exact g_iret ((q_51 _).trans rfl)
        · refine g_aload ((q_51 _).trans rfl) rfl ?_
          refine g_getR ((q_51 _).trans rfl) (fun a91 => ?_)
          refine g_push ((q_51 _).trans rfl) ?_
          refine g_iload ((q_51 _).trans rfl) rfl ?_
          refine g_imul ((q_51 _).trans rfl) ?_
          refine g_iload ((q_51 _).trans rfl) rfl ?_
          refine g_iadd ((q_51 _).trans rfl) ?_
          refine g_iald ((q_51 _).trans rfl) (fun v92 => ?_)
          refine g_ifgt ((q_51 _).trans rfl) (fun _ => ?_) (fun _ => ?_)
          · refine g_push ((q_51 _).trans rfl) ?_
            refine g_goto ((q_51 _).trans rfl) ?_
            refine g_callV (kk := 1) ((q_51 _).trans rfl) (gHn m_51) rfl (by exact ⟨Nat.le_of_ble_eq_true rfl, rfl⟩) rfl (fun w G93 => gm_I (fun v94 hw => ?_))
            subst hw
            refine g_ifeq ((q_51 _).trans rfl) (fun _ => ?_) (fun _ => ?_)
            · refine g_aload ((q_51 _).trans rfl) rfl ?_
              refine g_getR ((q_51 _).trans rfl) (fun a95 => ?_)
              refine g_push ((q_51 _).trans rfl) ?_
              refine g_iload ((q_51 _).trans rfl) rfl ?_
              refine g_imul ((q_51 _).trans rfl) ?_
              refine g_iload ((q_51 _).trans rfl) rfl ?_
              refine g_iadd ((q_51 _).trans rfl) ?_
              refine g_iload ((q_51 _).trans rfl) rfl ?_
              refine g_iast ((q_51 _).trans rfl) (fun G96 => ?_)
              refine g_aload ((q_51 _).trans rfl) rfl ?_
              refine g_iload ((q_51 _).trans rfl) rfl ?_
              refine g_callV (kk := 1) ((q_51 _).trans rfl) (gHn m_51) rfl (by exact ⟨Nat.le_of_ble_eq_true rfl, rfl⟩) rfl (fun w G97 => gm_I (fun v98 hw => ?_))
              subst hw
              exact g_iret ((q_51 _).trans rfl)
            · refine g_push ((q_51 _).trans rfl) ?_
              exact g_iret ((q_51 _).trans rfl)
          · refine g_aload ((q_51 _).trans rfl) rfl ?_
            refine g_getR ((q_51 _).trans rfl) (fun a99 => ?_)
            refine g_iload ((q_51 _).trans rfl) rfl ?_
            refine g_iald ((q_51 _).trans rfl) (fun v100 => ?_)
            refine g_ifle ((q_51 _).trans rfl) (fun _ => ?_) (fun _ => ?_)
            · refine g_push ((q_51 _).trans rfl) ?_
              refine g_callV (kk := 1) ((q_51 _).trans rfl) (gHn m_51) rfl (by exact ⟨Nat.le_of_ble_eq_true rfl, rfl⟩) rfl (fun w G101 => gm_I (fun v102 hw => ?_))
              subst hw
              refine g_ifeq ((q_51 _).trans rfl) (fun _ => ?_) (fun _ => ?_)
              · refine g_aload ((q_51 _).trans rfl) rfl ?_
                refine g_getR ((q_51 _).trans rfl) (fun a103 => ?_)
                refine g_push ((q_51 _).trans rfl) ?_
                refine g_iload ((q_51 _).trans rfl) rfl ?_
                refine g_imul ((q_51 _).trans rfl) ?_
                refine g_iload ((q_51 _).trans rfl) rfl ?_
                refine g_iadd ((q_51 _).trans rfl) ?_
                refine g_iload ((q_51 _).trans rfl) rfl ?_
                refine g_iast ((q_51 _).trans rfl) (fun G104 => ?_)
                refine g_aload ((q_51 _).trans rfl) rfl ?_
                refine g_iload ((q_51 _).trans rfl) rfl ?_
                refine g_callV (kk := 1) ((q_51 _).trans rfl) (gHn m_51) rfl (by exact ⟨Nat.le_of_ble_eq_true rfl, rfl⟩) rfl (fun w G105 => gm_I (fun v106 hw => ?_))
                subst hw
                exact g_iret ((q_51 _).trans rfl)
              · refine g_push ((q_51 _).trans rfl) ?_
                exact g_iret ((q_51 _).trans rfl)
            · refine g_push ((q_51 _).trans rfl) ?_
              refine g_goto ((q_51 _).trans rfl) ?_
              refine g_callV (kk := 1) ((q_51 _).trans rfl) (gHn m_51) rfl (by exact ⟨Nat.le_of_ble_eq_true rfl, rfl⟩) rfl (fun w G107 => gm_I (fun v108 hw => ?_))
              subst hw
              refine g_ifeq ((q_51 _).trans rfl) (fun _ => ?_) (fun _ => ?_)
              · refine g_aload ((q_51 _).trans rfl) rfl ?_
                refine g_getR ((q_51 _).trans rfl) (fun a109 => ?_)
                refine g_push ((q_51 _).trans rfl) ?_
                refine g_iload ((q_51 _).trans rfl) rfl ?_
                refine g_imul ((q_51 _).trans rfl) ?_
                refine g_iload ((q_51 _).trans rfl) rfl ?_
                refine g_iadd ((q_51 _).trans rfl) ?_
                refine g_iload ((q_51 _).trans rfl) rfl ?_
                refine g_iast ((q_51 _).trans rfl) (fun G110 => ?_)
                refine g_aload ((q_51 _).trans rfl) rfl ?_
                refine g_iload ((q_51 _).trans rfl) rfl ?_
                refine g_callV (kk := 1) ((q_51 _).trans rfl) (gHn m_51) rfl (by exact ⟨Nat.le_of_ble_eq_true rfl, rfl⟩) rfl (fun w G111 => gm_I (fun v112 hw => ?_))
                subst hw
                exact g_iret ((q_51 _).trans rfl)
              · refine g_push ((q_51 _).trans rfl) ?_
                exact g_iret ((q_51 _).trans rfl)
theorem c_51 {K : gK} {d : Nat} {l0 : Nat} {l1 : Int32} {l2 : Int32} {l3 : Int32} {G : gH} : gle (t_51_0 K d l0 l1 l2 l3 G) (gCa K (d + 1) 51 [.ref l0, .int l1, .int l2, .int l3] G) := by
  have h : gent (gMx 51) [.ref l0, .int l1, .int l2, .int l3] = [some (.ref l0), some (.int l1), some (.int l2), some (.int l3), none] := by
    show gent (gT 51).2.2.2.1 _ = _
    rw [m_51]; rfl
  exact fun r e => (congrArg (fun q => gRn K d 51 0 q [] G) h).trans (e_51_0 r e)
theorem q_53 {K : gK} (pc : Nat) : gP K 53 pc = ((gL_53 K).lookup pc).getD o_none := rfl
noncomputable def t_53_0_1 (K : gK) (d : Nat) (v6 : Int32) (G5 : gH) : Option gO := some (.inl (some (.int v6)), G5)
noncomputable def t_53_0_2 (K : gK) (d : Nat) (l0 : Nat) (l1 : Int32) (v4 : Int32) (G3 : gH) : Option gO := if v4 = 0 then (if g_cls G3 l0 = some 3 then (cI (gCa K d 124 [.ref l0, .int l1] G3) (t_53_0_1 K d)) else none) else (some (.inl (some (.int (0 : Int32))), G3))
noncomputable def t_53_0_3 (K : gK) (d : Nat) (v10 : Int32) (G9 : gH) : Option gO := some (.inl (some (.int v10)), G9)
noncomputable def t_53_0_4 (K : gK) (d : Nat) (l0 : Nat) (l1 : Int32) (v8 : Int32) (G7 : gH) : Option gO := if v8 = 0 then (if g_cls G7 l0 = some 3 then (cI (gCa K d 124 [.ref l0, .int l1] G7) (t_53_0_3 K d)) else none) else (some (.inl (some (.int (0 : Int32))), G7))
noncomputable def t_53_0_5 (K : gK) (d : Nat) (l0 : Nat) (l1 : Int32) (v2 : Int32) (G1 : gH) : Option gO := if v2 = 0 then (if g_cls G1 l0 = some 3 then (cI (gCa K d 90 [.ref l0, .int (1 : Int32)] G1) (t_53_0_2 K d l0 l1)) else none) else (if g_cls G1 l0 = some 3 then (cI (gCa K d 90 [.ref l0, .int (0 : Int32)] G1) (t_53_0_4 K d l0 l1)) else none)
noncomputable def t_53_0 (K : gK) (d : Nat) (l0 : Nat) (l1 : Int32) (G : gH) : Option gO := if g_cls G l0 = some 3 then (cI (gCa K d 123 [.ref l0, .int l1] G) (t_53_0_5 K d l0 l1)) else none
theorem e_53_0 {K : gK} {d : Nat} {l0 : Nat} {l1 : Int32} {G : gH} : gle (t_53_0 K d l0 l1 G) (gRn K d 53 0 [some (.ref l0), some (.int l1)] [] G) := by
  unfold t_53_0
  refine g_aload ((q_53 _).trans rfl) rfl ?_
  refine g_aload ((q_53 _).trans rfl) rfl ?_
  refine g_iload ((q_53 _).trans rfl) rfl ?_
  refine g_callV (kk := 1) ((q_53 _).trans rfl) (gHn m_53) rfl (by exact ⟨Nat.le_of_ble_eq_true rfl, rfl⟩) rfl (fun w G1 => gm_I (fun v2 hw => ?_))
  subst hw
  refine g_ifeq ((q_53 _).trans rfl) (fun _ => ?_) (fun _ => ?_)
  · refine g_push ((q_53 _).trans rfl) ?_
    refine g_callV (kk := 1) ((q_53 _).trans rfl) (gHn m_53) rfl (by exact ⟨Nat.le_of_ble_eq_true rfl, rfl⟩) rfl (fun w G3 => gm_I (fun v4 hw => ?_))
    subst hw
    refine g_ifeq ((q_53 _).trans rfl) (fun _ => ?_) (fun _ => ?_)
    · refine g_aload ((q_53 _).trans rfl) rfl ?_
      refine g_iload ((q_53 _).trans rfl) rfl ?_
      refine g_callV (kk := 1) ((q_53 _).trans rfl) (gHn m_53) rfl (by exact ⟨Nat.le_of_ble_eq_true rfl, rfl⟩) rfl (fun w G5 => gm_I (fun v6 hw => ?_))
      subst hw
      exact g_iret ((q_53 _).trans rfl)
    · refine g_push ((q_53 _).trans rfl) ?_
      refine g_goto ((q_53 _).trans rfl) ?_
      exact g_iret ((q_53 _).trans rfl)
  · refine g_push ((q_53 _).trans rfl) ?_
    refine g_goto ((q_53 _).trans rfl) ?_
    refine g_callV (kk := 1) ((q_53 _).trans rfl) (gHn m_53) rfl (by exact ⟨Nat.le_of_ble_eq_true rfl, rfl⟩) rfl (fun w G7 => gm_I (fun v8 hw => ?_))
    subst hw
    refine g_ifeq ((q_53 _).trans rfl) (fun _ => ?_) (fun _ => ?_)
    · refine g_aload ((q_53 _).trans rfl) rfl ?_
      refine g_iload ((q_53 _).trans rfl) rfl ?_
      refine g_callV (kk := 1) ((q_53 _).trans rfl) (gHn m_53) rfl (by exact ⟨Nat.le_of_ble_eq_true rfl, rfl⟩) rfl (fun w G9 => gm_I (fun v10 hw => ?_))
      subst hw
      exact g_iret ((q_53 _).trans rfl)
    · refine g_push ((q_53 _).trans rfl) ?_
      refine g_goto ((q_53 _).trans rfl) ?_
      exact g_iret ((q_53 _).trans rfl)
theorem c_53 {K : gK} {d : Nat} {l0 : Nat} {l1 : Int32} {G : gH} : gle (t_53_0 K d l0 l1 G) (gCa K (d + 1) 53 [.ref l0, .int l1] G) := by
  have h : gent (gMx 53) [.ref l0, .int l1] = [some (.ref l0), some (.int l1)] := by
    show gent (gT 53).2.2.2.1 _ = _
    rw [m_53]; rfl
  exact fun r e => (congrArg (fun q => gRn K d 53 0 q [] G) h).trans (e_53_0 r e)
theorem q_55 {K : gK} (pc : Nat) : gP K 55 pc = ((gL_55 K).lookup pc).getD o_none := rfl
noncomputable def t_55_0_1 (K : gK) (d : Nat) (v6 : Int32) (v8 : Int32) (G7 : gH) : Option gO := if v8 = 0 then (some (.inl (some (.int v6)), G7)) else (some (.inl (some (.int (0 : Int32))), G7))
noncomputable def t_55_0_2 (K : gK) (d : Nat) (v6 : Int32) (v10 : Int32) (G9 : gH) : Option gO := if v10 = 0 then (some (.inl (some (.int v6)), G9)) else (some (.inl (some (.int (0 : Int32))), G9))
noncomputable def t_55_0_3 (K : gK) (d : Nat) (l0 : Nat) (v6 : Int32) (G5 : gH) : Option gO := if v6 ≤ (60 : Int32) then (if g_cls G5 l0 = some 3 then (cI (gCa K d 90 [.ref l0, .int (0 : Int32)] G5) (t_55_0_1 K d v6)) else none) else (if g_cls G5 l0 = some 3 then (cI (gCa K d 90 [.ref l0, .int (3 : Int32)] G5) (t_55_0_2 K d v6)) else none)
noncomputable def t_55_0_4 (K : gK) (d : Nat) (l0 : Nat) (v4 : Int32) (G3 : gH) : Option gO := if v4 = 0 then (if g_cls G3 l0 = some 3 then (cI (gCa K d 128 [.ref l0] G3) (t_55_0_3 K d l0)) else none) else (some (.inl (some (.int (0 : Int32))), G3))
noncomputable def t_55_0_5 (K : gK) (d : Nat) (v16 : Int32) (v18 : Int32) (G17 : gH) : Option gO := if v18 = 0 then (some (.inl (some (.int v16)), G17)) else (some (.inl (some (.int (0 : Int32))), G17))
noncomputable def t_55_0_6 (K : gK) (d : Nat) (v16 : Int32) (v20 : Int32) (G19 : gH) : Option gO := if v20 = 0 then (some (.inl (some (.int v16)), G19)) else (some (.inl (some (.int (0 : Int32))), G19))
noncomputable def t_55_0_7 (K : gK) (d : Nat) (l0 : Nat) (v16 : Int32) (G15 : gH) : Option gO := if v16 ≤ (60 : Int32) then (if g_cls G15 l0 = some 3 then (cI (gCa K d 90 [.ref l0, .int (0 : Int32)] G15) (t_55_0_5 K d v16)) else none) else (if g_cls G15 l0 = some 3 then (cI (gCa K d 90 [.ref l0, .int (3 : Int32)] G15) (t_55_0_6 K d v16)) else none)
noncomputable def t_55_0_8 (K : gK) (d : Nat) (l0 : Nat) (v14 : Int32) (G13 : gH) : Option gO := if v14 = 0 then (if g_cls G13 l0 = some 3 then (cI (gCa K d 128 [.ref l0] G13) (t_55_0_7 K d l0)) else none) else (some (.inl (some (.int (0 : Int32))), G13))
noncomputable def t_55_0_9 (K : gK) (d : Nat) (v24 : Int32) (v26 : Int32) (G25 : gH) : Option gO := if v26 = 0 then (some (.inl (some (.int v24)), G25)) else (some (.inl (some (.int (0 : Int32))), G25))
noncomputable def t_55_0_10 (K : gK) (d : Nat) (v24 : Int32) (v28 : Int32) (G27 : gH) : Option gO := if v28 = 0 then (some (.inl (some (.int v24)), G27)) else (some (.inl (some (.int (0 : Int32))), G27))
noncomputable def t_55_0_11 (K : gK) (d : Nat) (l0 : Nat) (v24 : Int32) (G23 : gH) : Option gO := if v24 ≤ (60 : Int32) then (if g_cls G23 l0 = some 3 then (cI (gCa K d 90 [.ref l0, .int (0 : Int32)] G23) (t_55_0_9 K d v24)) else none) else (if g_cls G23 l0 = some 3 then (cI (gCa K d 90 [.ref l0, .int (3 : Int32)] G23) (t_55_0_10 K d v24)) else none)
noncomputable def t_55_0_12 (K : gK) (d : Nat) (l0 : Nat) (v22 : Int32) (G21 : gH) : Option gO := if v22 = 0 then (if g_cls G21 l0 = some 3 then (cI (gCa K d 128 [.ref l0] G21) (t_55_0_11 K d l0)) else none) else (some (.inl (some (.int (0 : Int32))), G21))
noncomputable def t_55_0_13 (K : gK) (d : Nat) (l0 : Nat) (v12 : Int32) (G11 : gH) : Option gO := if v12 = 0 then (if g_cls G11 l0 = some 3 then (cI (gCa K d 90 [.ref l0, .int (2 : Int32)] G11) (t_55_0_8 K d l0)) else none) else (if g_cls G11 l0 = some 3 then (cI (gCa K d 90 [.ref l0, .int (0 : Int32)] G11) (t_55_0_12 K d l0)) else none)
noncomputable def t_55_0_14 (K : gK) (d : Nat) (l0 : Nat) (l1 : Int32) (v2 : Int32) (G1 : gH) : Option gO := if v2 = 0 then (if g_cls G1 l0 = some 3 then (cI (gCa K d 90 [.ref l0, .int (1 : Int32)] G1) (t_55_0_4 K d l0)) else none) else (if g_cls G1 l0 = some 3 then (cI (gCa K d 127 [.ref l0, .int l1] G1) (t_55_0_13 K d l0)) else none)
noncomputable def t_55_0 (K : gK) (d : Nat) (l0 : Nat) (l1 : Int32) (G : gH) : Option gO := if g_cls G l0 = some 3 then (cI (gCa K d 123 [.ref l0, .int l1] G) (t_55_0_14 K d l0 l1)) else none
theorem e_55_0 {K : gK} {d : Nat} {l0 : Nat} {l1 : Int32} {G : gH} : gle (t_55_0 K d l0 l1 G) (gRn K d 55 0 [some (.ref l0), some (.int l1), none] [] G) := by
  unfold t_55_0
  refine g_aload ((q_55 _).trans rfl) rfl ?_
  refine g_aload ((q_55 _).trans rfl) rfl ?_
  refine g_iload ((q_55 _).trans rfl) rfl ?_
  refine g_callV (kk := 1) ((q_55 _).trans rfl) (gHn m_55) rfl (by exact ⟨Nat.le_of_ble_eq_true rfl, rfl⟩) rfl (fun w G1 => gm_I (fun v2 hw => ?_))
  subst hw
  refine g_ifne ((q_55 _).trans rfl) (fun _ => ?_) (fun _ => ?_)
  · refine g_push ((q_55 _).trans rfl) ?_
    refine g_goto ((q_55 _).trans rfl) ?_
    refine g_callV (kk := 1) ((q_55 _).trans rfl) (gHn m_55) rfl (by exact ⟨Nat.le_of_ble_eq_true rfl, rfl⟩) rfl (fun w G3 => gm_I (fun v4 hw => ?_))
    subst hw
    refine g_ifeq ((q_55 _).trans rfl) (fun _ => ?_) (fun _ => ?_)
    · refine g_aload ((q_55 _).trans rfl) rfl ?_
      refine g_callV (kk := 0) ((q_55 _).trans rfl) (gHn m_55) rfl (by exact ⟨Nat.le_of_ble_eq_true rfl, rfl⟩) rfl (fun w G5 => gm_I (fun v6 hw => ?_))
      subst hw
      refine g_istore ((q_55 _).trans rfl) ?_
      refine g_aload ((q_55 _).trans rfl) rfl ?_
      refine g_iload ((q_55 _).trans rfl) rfl ?_
      refine g_push ((q_55 _).trans rfl) ?_
      refine g_cmple ((q_55 _).trans rfl) (fun _ => ?_) (fun _ => ?_)
      · refine g_push ((q_55 _).trans rfl) ?_
        refine g_callV (kk := 1) ((q_55 _).trans rfl) (gHn m_55) rfl (by exact ⟨Nat.le_of_ble_eq_true rfl, rfl⟩) rfl (fun w G7 => gm_I (fun v8 hw => ?_))
        subst hw
        refine g_ifeq ((q_55 _).trans rfl) (fun _ => ?_) (fun _ => ?_)
        · refine g_iload ((q_55 _).trans rfl) rfl ?_
          exact g_iret ((q_55 _).trans rfl)
        · refine g_push ((q_55 _).trans rfl) ?_
          refine g_goto ((q_55 _).trans rfl) ?_
          exact g_iret ((q_55 _).trans rfl)
      · refine g_push ((q_55 _).trans rfl) ?_
        refine g_goto ((q_55 _).trans rfl) ?_
        refine g_callV (kk := 1) ((q_55 _).trans rfl) (gHn m_55) rfl (by exact ⟨Nat.le_of_ble_eq_true rfl, rfl⟩) rfl (fun w G9 => gm_I (fun v10 hw => ?_))
        subst hw
        refine g_ifeq ((q_55 _).trans rfl) (fun _ => ?_) (fun _ => ?_)
        · refine g_iload ((q_55 _).trans rfl) rfl ?_
          exact g_iret ((q_55 _).trans rfl)
        · refine g_push ((q_55 _).trans rfl) ?_
          refine g_goto ((q_55 _).trans rfl) ?_
          exact g_iret ((q_55 _).trans rfl)
    · refine g_push ((q_55 _).trans rfl) ?_
      exact g_iret ((q_55 _).trans rfl)
  · refine g_aload ((q_55 _).trans rfl) rfl ?_
    refine g_iload ((q_55 _).trans rfl) rfl ?_
    refine g_callV (kk := 1) ((q_55 _).trans rfl) (gHn m_55) rfl (by exact ⟨Nat.le_of_ble_eq_true rfl, rfl⟩) rfl (fun w G11 => gm_I (fun v12 hw => ?_))
    subst hw
    refine g_ifeq ((q_55 _).trans rfl) (fun _ => ?_) (fun _ => ?_)
    · refine g_push ((q_55 _).trans rfl) ?_
      refine g_callV (kk := 1) ((q_55 _).trans rfl) (gHn m_55) rfl (by exact ⟨Nat.le_of_ble_eq_true rfl, rfl⟩) rfl (fun w G13 => gm_I (fun v14 hw => ?_))
      subst hw
      refine g_ifeq ((q_55 _).trans rfl) (fun _ => ?_) (fun _ => ?_)
      · refine g_aload ((q_55 _).trans rfl) rfl ?_
        refine g_callV (kk := 0) ((q_55 _).trans rfl) (gHn m_55) rfl (by exact ⟨Nat.le_of_ble_eq_true rfl, rfl⟩) rfl (fun w G15 => gm_I (fun v16 hw => ?_))
        subst hw
        refine g_istore ((q_55 _).trans rfl) ?_
        refine g_aload ((q_55 _).trans rfl) rfl ?_
        refine g_iload ((q_55 _).trans rfl) rfl ?_
        refine g_push ((q_55 _).trans rfl) ?_
        refine g_cmple ((q_55 _).trans rfl) (fun _ => ?_) (fun _ => ?_)
        · refine g_push ((q_55 _).trans rfl) ?_
          refine g_callV (kk := 1) ((q_55 _).trans rfl) (gHn m_55) rfl (by exact ⟨Nat.le_of_ble_eq_true rfl, rfl⟩) rfl (fun w G17 => gm_I (fun v18 hw => ?_))
          subst hw
          refine g_ifeq ((q_55 _).trans rfl) (fun _ => ?_) (fun _ => ?_)
          · refine g_iload ((q_55 _).trans rfl) rfl ?_
            exact g_iret ((q_55 _).trans rfl)
          · refine g_push ((q_55 _).trans rfl) ?_
            refine g_goto ((q_55 _).trans rfl) ?_
            exact g_iret ((q_55 _).trans rfl)
        · refine g_push ((q_55 _).trans rfl) ?_
          refine g_goto ((q_55 _).trans rfl) ?_
          refine g_callV (kk := 1) ((q_55 _).trans rfl) (gHn m_55) rfl (by exact ⟨Nat.le_of_ble_eq_true rfl, rfl⟩) rfl (fun w G19 => gm_I (fun v20 hw => ?_))
          subst hw
          refine g_ifeq ((q_55 _).trans rfl) (fun _ => ?_) (fun _ => ?_)
          · refine g_iload ((q_55 _).trans rfl) rfl ?_
            exact g_iret ((q_55 _).trans rfl)
          · refine g_push ((q_55 _).trans rfl) ?_
            refine g_goto ((q_55 _).trans rfl) ?_
            exact g_iret ((q_55 _).trans rfl)
      · refine g_push ((q_55 _).trans rfl) ?_
        exact g_iret ((q_55 _).trans rfl)
    · refine g_push ((q_55 _).trans rfl) ?_
      refine g_goto ((q_55 _).trans rfl) ?_
      refine g_callV (kk := 1) ((q_55 _).trans rfl) (gHn m_55) rfl (by exact ⟨Nat.le_of_ble_eq_true rfl, rfl⟩) rfl (fun w G21 => gm_I (fun v22 hw => ?_))
      subst hw
      refine g_ifeq ((q_55 _).trans rfl) (fun _ => ?_) (fun _ => ?_)
      · refine g_aload ((q_55 _).trans rfl) rfl ?_
        refine g_callV (kk := 0) ((q_55 _).trans rfl) (gHn m_55) rfl (by exact ⟨Nat.le_of_ble_eq_true rfl, rfl⟩) rfl (fun w G23 => gm_I (fun v24 hw => ?_))
        subst hw
        refine g_istore ((q_55 _).trans rfl) ?_
        refine g_aload ((q_55 _).trans rfl) rfl ?_
        refine g_iload ((q_55 _).trans rfl) rfl ?_
        refine g_push ((q_55 _).trans rfl) ?_
        refine g_cmple ((q_55 _).trans rfl) (fun _ => ?_) (fun _ => ?_)
        · refine g_push ((q_55 _).trans rfl) ?_
          refine g_callV (kk := 1) ((q_55 _).trans rfl) (gHn m_55) rfl (by exact ⟨Nat.le_of_ble_eq_true rfl, rfl⟩) rfl (fun w G25 => gm_I (fun v26 hw => ?_))
          subst hw
          refine g_ifeq ((q_55 _).trans rfl) (fun _ => ?_) (fun _ => ?_)
          · refine g_iload ((q_55 _).trans rfl) rfl ?_
            exact g_iret ((q_55 _).trans rfl)
          · refine g_push ((q_55 _).trans rfl) ?_
            refine g_goto ((q_55 _).trans rfl) ?_
            exact g_iret ((q_55 _).trans rfl)
        · refine g_push ((q_55 _).trans rfl) ?_
          refine g_goto ((q_55 _).trans rfl) ?_
          refine g_callV (kk := 1) ((q_55 _).trans rfl) (gHn m_55) rfl (by exact ⟨Nat.le_of_ble_eq_true rfl, rfl⟩) rfl (fun w G27 => gm_I (fun v28 hw => ?_))
          subst hw
          refine g_ifeq ((q_55 _).trans rfl) (fun _ => ?_) (fun _ => ?_)
          · refine g_iload ((q_55 _).trans rfl) rfl ?_
            exact g_iret ((q_55 _).trans rfl)
          · refine g_push ((q_55 _).trans rfl) ?_
            refine g_goto ((q_55 _).trans rfl) ?_
            exact g_iret ((q_55 _).trans rfl)
      · refine g_push ((q_55 _).trans rfl) ?_
        exact g_iret ((q_55 _).trans rfl)
theorem c_55 {K : gK} {d : Nat} {l0 : Nat} {l1 : Int32} {G : gH} : gle (t_55_0 K d l0 l1 G) (gCa K (d + 1) 55 [.ref l0, .int l1] G) := by
  have h : gent (gMx 55) [.ref l0, .int l1] = [some (.ref l0), some (.int l1), none] := by
    show gent (gT 55).2.2.2.1 _ = _
    rw [m_55]; rfl
  exact fun r e => (congrArg (fun q => gRn K d 55 0 q [] G) h).trans (e_55_0 r e)
theorem q_57 {K : gK} (pc : Nat) : gP K 57 pc = ((gL_57 K).lookup pc).getD o_none := rfl
noncomputable def t_57_0_1 (K : gK) (d : Nat) (v2 : Int32) (G1 : gH) : Option gO := some (.inl (some (.int v2)), G1)
noncomputable def t_57_0 (K : gK) (d : Nat) (l0 : Nat) (l1 : Int32) (G : gH) : Option gO := if g_cls G l0 = some 3 then (cI (gCa K d 55 [.ref l0, .int l1] G) (t_57_0_1 K d)) else none
theorem e_57_0 {K : gK} {d : Nat} {l0 : Nat} {l1 : Int32} {G : gH} : gle (t_57_0 K d l0 l1 G) (gRn K d 57 0 [some (.ref l0), some (.int l1)] [] G) := by
  unfold t_57_0
  refine g_aload ((q_57 _).trans rfl) rfl ?_
  refine g_iload ((q_57 _).trans rfl) rfl ?_
  refine g_callV (kk := 1) ((q_57 _).trans rfl) (gHn m_57) rfl (by exact ⟨Nat.le_of_ble_eq_true rfl, rfl⟩) rfl (fun w G1 => gm_I (fun v2 hw => ?_))
  subst hw
  exact g_iret ((q_57 _).trans rfl)
theorem c_57 {K : gK} {d : Nat} {l0 : Nat} {l1 : Int32} {G : gH} : gle (t_57_0 K d l0 l1 G) (gCa K (d + 1) 57 [.ref l0, .int l1] G) := by
  have h : gent (gMx 57) [.ref l0, .int l1] = [some (.ref l0), some (.int l1)] := by
    show gent (gT 57).2.2.2.1 _ = _
    rw [m_57]; rfl
  exact fun r e => (congrArg (fun q => gRn K d 57 0 q [] G) h).trans (e_57_0 r e)
theorem q_59 {K : gK} (pc : Nat) : gP K 59 pc = ((gL_59 K).lookup pc).getD o_none := rfl
noncomputable def t_59_0_1 (K : gK) (d : Nat) (G6 : gH) (v7 : Int32) : Option gO := some (.inl (some (.int v7)), G6)
noncomputable def t_59_0_2 (K : gK) (d : Nat) (l0 : Nat) (G6 : gH) : Option gO := rI G6 l0 3 31 (t_59_0_1 K d G6)
noncomputable def t_59_0_3 (K : gK) (d : Nat) (l1 : Int32) (G3 : gH) (l0 : Nat) (v5 : Int32) : Option gO := if narrow .int (.int (v5 + l1)) = .int (v5 + l1) ∧ fits .int (.int (v5 + l1)) = true then wF G3 l0 3 31 (.int (v5 + l1)) (t_59_0_2 K d l0) else none
noncomputable def t_59_0_4 (K : gK) (d : Nat) (l0 : Nat) (l1 : Int32) (v4 : Int32) (G3 : gH) : Option gO := if v4 = 0 then (rI G3 l0 3 31 (t_59_0_3 K d l1 G3 l0)) else (some (.inl (some (.int (0 : Int32))), G3))
noncomputable def t_59_0_5 (K : gK) (d : Nat) (G12 : gH) (v13 : Int32) : Option gO := some (.inl (some (.int v13)), G12)
noncomputable def t_59_0_6 (K : gK) (d : Nat) (l0 : Nat) (G12 : gH) : Option gO := rI G12 l0 3 31 (t_59_0_5 K d G12)
noncomputable def t_59_0_7 (K : gK) (d : Nat) (l1 : Int32) (G9 : gH) (l0 : Nat) (v11 : Int32) : Option gO := if narrow .int (.int (v11 + l1)) = .int (v11 + l1) ∧ fits .int (.int (v11 + l1)) = true then wF G9 l0 3 31 (.int (v11 + l1)) (t_59_0_6 K d l0) else none
noncomputable def t_59_0_8 (K : gK) (d : Nat) (l0 : Nat) (l1 : Int32) (v10 : Int32) (G9 : gH) : Option gO := if v10 = 0 then (rI G9 l0 3 31 (t_59_0_7 K d l1 G9 l0)) else (some (.inl (some (.int (0 : Int32))), G9))
noncomputable def t_59_0_9 (K : gK) (d : Nat) (G17 : gH) (v18 : Int32) : Option gO := some (.inl (some (.int v18)), G17)
noncomputable def t_59_0_10 (K : gK) (d : Nat) (l0 : Nat) (G17 : gH) : Option gO := rI G17 l0 3 31 (t_59_0_9 K d G17)
noncomputable def t_59_0_11 (K : gK) (d : Nat) (l1 : Int32) (G14 : gH) (l0 : Nat) (v16 : Int32) : Option gO := if narrow .int (.int (v16 + l1)) = .int (v16 + l1) ∧ fits .int (.int (v16 + l1)) = true then wF G14 l0 3 31 (.int (v16 + l1)) (t_59_0_10 K d l0) else none
noncomputable def t_59_0_12 (K : gK) (d : Nat) (l0 : Nat) (l1 : Int32) (v15 : Int32) (G14 : gH) : Option gO := if v15 = 0 then (rI G14 l0 3 31 (t_59_0_11 K d l1 G14 l0)) else (some (.inl (some (.int (0 : Int32))), G14))
noncomputable def t_59_0_13 (K : gK) (d : Nat) (l1 : Int32) (G1 : gH) (l0 : Nat) (v8 : Int32) : Option gO := if (v8 + l1) ≤ (999999 : Int32) then (if g_cls G1 l0 = some 3 then (cI (gCa K d 90 [.ref l0, .int (0 : Int32)] G1) (t_59_0_8 K d l0 l1)) else none) else (if g_cls G1 l0 = some 3 then (cI (gCa K d 90 [.ref l0, .int (1 : Int32)] G1) (t_59_0_12 K d l0 l1)) else none)
noncomputable def t_59_0_14 (K : gK) (d : Nat) (l0 : Nat) (l1 : Int32) (v2 : Int32) (G1 : gH) : Option gO := if v2 = 0 then (if g_cls G1 l0 = some 3 then (cI (gCa K d 90 [.ref l0, .int (1 : Int32)] G1) (t_59_0_4 K d l0 l1)) else none) else (rI G1 l0 3 31 (t_59_0_13 K d l1 G1 l0))
noncomputable def t_59_0 (K : gK) (d : Nat) (l0 : Nat) (l1 : Int32) (G : gH) : Option gO := cI (gCa K d 89 [.int l1, .int (1 : Int32), .int (9999 : Int32)] G) (t_59_0_14 K d l0 l1)
theorem e_59_0 {K : gK} {d : Nat} {l0 : Nat} {l1 : Int32} {G : gH} : gle (t_59_0 K d l0 l1 G) (gRn K d 59 0 [some (.ref l0), some (.int l1)] [] G) := by
  unfold t_59_0
  refine g_aload ((q_59 _).trans rfl) rfl ?_
  refine g_iload ((q_59 _).trans rfl) rfl ?_
  refine g_push ((q_59 _).trans rfl) ?_
  refine g_push ((q_59 _).trans rfl) ?_
  refine g_callS (kk := 3) ((q_59 _).trans rfl) (gHn m_59) (by exact ⟨Nat.le_of_ble_eq_true rfl, Nat.le_of_ble_eq_true rfl, rfl⟩) rfl (fun w G1 => gm_I (fun v2 hw => ?_))
  subst hw
  refine g_ifeq ((q_59 _).trans rfl) (fun _ => ?_) (fun _ => ?_)
  · refine g_push ((q_59 _).trans rfl) ?_
    refine g_goto ((q_59 _).trans rfl) ?_
    refine g_callV (kk := 1) ((q_59 _).trans rfl) (gHn m_59) rfl (by exact ⟨Nat.le_of_ble_eq_true rfl, rfl⟩) rfl (fun w G3 => gm_I (fun v4 hw => ?_))
    subst hw
    refine g_ifeq ((q_59 _).trans rfl) (fun _ => ?_) (fun _ => ?_)
    · refine g_aload ((q_59 _).trans rfl) rfl ?_
      refine g_dup_ref ((q_59 _).trans rfl) ?_
      refine g_getI ((q_59 _).trans rfl) (fun v5 => ?_)
      refine g_iload ((q_59 _).trans rfl) rfl ?_
      refine g_iadd ((q_59 _).trans rfl) ?_
      refine g_putf ((q_59 _).trans rfl) (fun G6 => ?_)
      refine g_aload ((q_59 _).trans rfl) rfl ?_
      refine g_getI ((q_59 _).trans rfl) (fun v7 => ?_)
      exact g_iret ((q_59 _).trans rfl)
    · refine g_push ((q_59 _).trans rfl) ?_
      exact g_iret ((q_59 _).trans rfl)
  · refine g_aload ((q_59 _).trans rfl) rfl ?_
    refine g_getI ((q_59 _).trans rfl) (fun v8 => ?_)
    refine g_iload ((q_59 _).trans rfl) rfl ?_
    refine g_iadd ((q_59 _).trans rfl) ?_
    refine g_push ((q_59 _).trans rfl) ?_
    refine g_cmple ((q_59 _).trans rfl) (fun _ => ?_) (fun _ => ?_)
    · refine g_push ((q_59 _).trans rfl) ?_
      refine g_callV (kk := 1) ((q_59 _).trans rfl) (gHn m_59) rfl (by exact ⟨Nat.le_of_ble_eq_true rfl, rfl⟩) rfl (fun w G9 => gm_I (fun v10 hw => ?_))
      subst hw
      refine g_ifeq ((q_59 _).trans rfl) (fun _ => ?_) (fun _ => ?_)
      · refine g_aload ((q_59 _).trans rfl) rfl ?_
        refine g_dup_ref ((q_59 _).trans rfl) ?_
        refine g_getI ((q_59 _).trans rfl) (fun v11 => ?_)
        refine g_iload ((q_59 _).trans rfl) rfl ?_
        refine g_iadd ((q_59 _).trans rfl) ?_
        refine g_putf ((q_59 _).trans rfl) (fun G12 => ?_)
        refine g_aload ((q_59 _).trans rfl) rfl ?_
        refine g_getI ((q_59 _).trans rfl) (fun v13 => ?_)
        exact g_iret ((q_59 _).trans rfl)
      · refine g_push ((q_59 _).trans rfl) ?_
        exact g_iret ((q_59 _).trans rfl)
    · refine g_push ((q_59 _).trans rfl) ?_
      refine g_goto ((q_59 _).trans rfl) ?_
      refine g_callV (kk := 1) ((q_59 _).trans rfl) (gHn m_59) rfl (by exact ⟨Nat.le_of_ble_eq_true rfl, rfl⟩) rfl (fun w G14 => gm_I (fun v15 hw => ?_))
      subst hw
      refine g_ifeq ((q_59 _).trans rfl) (fun _ => ?_) (fun _ => ?_)
      · refine g_aload ((q_59 _).trans rfl) rfl ?_
        refine g_dup_ref ((q_59 _).trans rfl) ?_
        refine g_getI ((q_59 _).trans rfl) (fun v16 => ?_)
        refine g_iload ((q_59 _).trans rfl) rfl ?_
        refine g_iadd ((q_59 _).trans rfl) ?_
        refine g_putf ((q_59 _).trans rfl) (fun G17 => ?_)
        refine g_aload ((q_59 _).trans rfl) rfl ?_
        refine g_getI ((q_59 _).trans rfl) (fun v18 => ?_)
        exact g_iret ((q_59 _).trans rfl)
      · refine g_push ((q_59 _).trans rfl) ?_
        exact g_iret ((q_59 _).trans rfl)
theorem c_59 {K : gK} {d : Nat} {l0 : Nat} {l1 : Int32} {G : gH} : gle (t_59_0 K d l0 l1 G) (gCa K (d + 1) 59 [.ref l0, .int l1] G) := by
  have h : gent (gMx 59) [.ref l0, .int l1] = [some (.ref l0), some (.int l1)] := by
    show gent (gT 59).2.2.2.1 _ = _
    rw [m_59]; rfl
  exact fun r e => (congrArg (fun q => gRn K d 59 0 q [] G) h).trans (e_59_0 r e)
theorem q_60 {K : gK} (pc : Nat) : gP K 60 pc = ((gL_60 K).lookup pc).getD o_none := rfl
noncomputable def t_60_0_1 (K : gK) (d : Nat) (G : gH) (v1 : Int32) : Option gO := some (.inl (some (.int v1)), G)
noncomputable def t_60_0 (K : gK) (d : Nat) (l0 : Nat) (G : gH) : Option gO := rI G l0 0 14 (t_60_0_1 K d G)
theorem e_60_0 {K : gK} {d : Nat} {l0 : Nat} {G : gH} : gle (t_60_0 K d l0 G) (gRn K d 60 0 [some (.ref l0)] [] G) := by
  unfold t_60_0
  refine g_aload ((q_60 _).trans rfl) rfl ?_
  refine g_getI ((q_60 _).trans rfl) (fun v1 => ?_)
  exact g_iret ((q_60 _).trans rfl)
theorem c_60 {K : gK} {d : Nat} {l0 : Nat} {G : gH} : gle (t_60_0 K d l0 G) (gCa K (d + 1) 60 [.ref l0] G) := by
  have h : gent (gMx 60) [.ref l0] = [some (.ref l0)] := by
    show gent (gT 60).2.2.2.1 _ = _
    rw [m_60]; rfl
  exact fun r e => (congrArg (fun q => gRn K d 60 0 q [] G) h).trans (e_60_0 r e)
theorem q_61 {K : gK} (pc : Nat) : gP K 61 pc = ((gL_61 K).lookup pc).getD o_none := rfl
noncomputable def t_61_0_1 (K : gK) (d : Nat) (G1 : gH) (v2 : Int32) : Option gO := some (.inl (some (.int v2)), G1)
noncomputable def t_61_0_2 (K : gK) (d : Nat) (l0 : Nat) (G1 : gH) : Option gO := rI G1 l0 3 31 (t_61_0_1 K d G1)
noncomputable def t_61_0 (K : gK) (d : Nat) (l0 : Nat) (G : gH) : Option gO := if narrow .int (.int (0 : Int32)) = .int (0 : Int32) ∧ fits .int (.int (0 : Int32)) = true then wF G l0 3 0 (.int (0 : Int32)) (t_61_0_2 K d l0) else none
theorem e_61_0 {K : gK} {d : Nat} {l0 : Nat} {G : gH} : gle (t_61_0 K d l0 G) (gRn K d 61 0 [some (.ref l0)] [] G) := by
  unfold t_61_0
  refine g_aload ((q_61 _).trans rfl) rfl ?_
  refine g_push ((q_61 _).trans rfl) ?_
  refine g_putf ((q_61 _).trans rfl) (fun G1 => ?_)
  refine g_aload ((q_61 _).trans rfl) rfl ?_
  refine g_getI ((q_61 _).trans rfl) (fun v2 => ?_)
  exact g_iret ((q_61 _).trans rfl)
theorem c_61 {K : gK} {d : Nat} {l0 : Nat} {G : gH} : gle (t_61_0 K d l0 G) (gCa K (d + 1) 61 [.ref l0] G) := by
  have h : gent (gMx 61) [.ref l0] = [some (.ref l0)] := by
    show gent (gT 61).2.2.2.1 _ = _
    rw [m_61]; rfl
  exact fun r e => (congrArg (fun q => gRn K d 61 0 q [] G) h).trans (e_61_0 r e)
theorem q_63 {K : gK} (pc : Nat) : gP K 63 pc = ((gL_63 K).lookup pc).getD o_none := rfl
noncomputable def t_63_0_1 (K : gK) (d : Nat) (l0 : Nat) (l1 : Int32) (G8 : gH) : Option gO := gRn K d 63 75 [some (.ref l0), some (.int l1), some (.int (0 : Int32)), none] [] G8
noncomputable def t_63_0_2 (K : gK) (d : Nat) (v5 : Int32) (l0 : Nat) (l1 : Int32) (v7 : Int32) (G6 : gH) : Option gO := if narrow .int (.int (v5 - v7)) = .int (v5 - v7) ∧ fits .int (.int (v5 - v7)) = true then wF G6 l0 3 31 (.int (v5 - v7)) (t_63_0_1 K d l0 l1) else none
noncomputable def t_63_0_3 (K : gK) (d : Nat) (G3 : gH) (l0 : Nat) (l1 : Int32) (v5 : Int32) : Option gO := if g_cls G3 l0 = some 3 then (cI (gCa K d 132 [.ref l0, .int l1] G3) (t_63_0_2 K d v5 l0 l1)) else none
noncomputable def t_63_0_4 (K : gK) (d : Nat) (l0 : Nat) (l1 : Int32) (v4 : Int32) (G3 : gH) : Option gO := if v4 = 0 then (rI G3 l0 3 31 (t_63_0_3 K d G3 l0 l1)) else (some (.inl (some (.int (0 : Int32))), G3))
noncomputable def t_63_0_5 (K : gK) (d : Nat) (l0 : Nat) (l1 : Int32) (G15 : gH) : Option gO := gRn K d 63 75 [some (.ref l0), some (.int l1), some (.int (0 : Int32)), none] [] G15
noncomputable def t_63_0_6 (K : gK) (d : Nat) (v12 : Int32) (l0 : Nat) (l1 : Int32) (v14 : Int32) (G13 : gH) : Option gO := if narrow .int (.int (v12 - v14)) = .int (v12 - v14) ∧ fits .int (.int (v12 - v14)) = true then wF G13 l0 3 31 (.int (v12 - v14)) (t_63_0_5 K d l0 l1) else none
noncomputable def t_63_0_7 (K : gK) (d : Nat) (G10 : gH) (l0 : Nat) (l1 : Int32) (v12 : Int32) : Option gO := if g_cls G10 l0 = some 3 then (cI (gCa K d 132 [.ref l0, .int l1] G10) (t_63_0_6 K d v12 l0 l1)) else none
noncomputable def t_63_0_8 (K : gK) (d : Nat) (l0 : Nat) (l1 : Int32) (v11 : Int32) (G10 : gH) : Option gO := if v11 = 0 then (rI G10 l0 3 31 (t_63_0_7 K d G10 l0 l1)) else (some (.inl (some (.int (0 : Int32))), G10))
noncomputable def t_63_0_9 (K : gK) (d : Nat) (l0 : Nat) (l1 : Int32) (G24 : gH) : Option gO := gRn K d 63 75 [some (.ref l0), some (.int l1), some (.int (0 : Int32)), none] [] G24
noncomputable def t_63_0_10 (K : gK) (d : Nat) (v21 : Int32) (l0 : Nat) (l1 : Int32) (v23 : Int32) (G22 : gH) : Option gO := if narrow .int (.int (v21 - v23)) = .int (v21 - v23) ∧ fits .int (.int (v21 - v23)) = true then wF G22 l0 3 31 (.int (v21 - v23)) (t_63_0_9 K d l0 l1) else none
noncomputable def t_63_0_11 (K : gK) (d : Nat) (G19 : gH) (l0 : Nat) (l1 : Int32) (v21 : Int32) : Option gO := if g_cls G19 l0 = some 3 then (cI (gCa K d 132 [.ref l0, .int l1] G19) (t_63_0_10 K d v21 l0 l1)) else none
noncomputable def t_63_0_12 (K : gK) (d : Nat) (l0 : Nat) (l1 : Int32) (v20 : Int32) (G19 : gH) : Option gO := if v20 = 0 then (rI G19 l0 3 31 (t_63_0_11 K d G19 l0 l1)) else (some (.inl (some (.int (0 : Int32))), G19))
noncomputable def t_63_0_13 (K : gK) (d : Nat) (l0 : Nat) (l1 : Int32) (G32 : gH) : Option gO := gRn K d 63 75 [some (.ref l0), some (.int l1), some (.int (0 : Int32)), none] [] G32
noncomputable def t_63_0_14 (K : gK) (d : Nat) (v29 : Int32) (l0 : Nat) (l1 : Int32) (v31 : Int32) (G30 : gH) : Option gO := if narrow .int (.int (v29 - v31)) = .int (v29 - v31) ∧ fits .int (.int (v29 - v31)) = true then wF G30 l0 3 31 (.int (v29 - v31)) (t_63_0_13 K d l0 l1) else none
noncomputable def t_63_0_15 (K : gK) (d : Nat) (G27 : gH) (l0 : Nat) (l1 : Int32) (v29 : Int32) : Option gO := if g_cls G27 l0 = some 3 then (cI (gCa K d 132 [.ref l0, .int l1] G27) (t_63_0_14 K d v29 l0 l1)) else none
noncomputable def t_63_0_16 (K : gK) (d : Nat) (l0 : Nat) (l1 : Int32) (v28 : Int32) (G27 : gH) : Option gO := if v28 = 0 then (rI G27 l0 3 31 (t_63_0_15 K d G27 l0 l1)) else (some (.inl (some (.int (0 : Int32))), G27))
noncomputable def t_63_0_17 (K : gK) (d : Nat) (l0 : Nat) (l1 : Int32) (G38 : gH) : Option gO := gRn K d 63 75 [some (.ref l0), some (.int l1), some (.int (0 : Int32)), none] [] G38
noncomputable def t_63_0_18 (K : gK) (d : Nat) (v35 : Int32) (l0 : Nat) (l1 : Int32) (v37 : Int32) (G36 : gH) : Option gO := if narrow .int (.int (v35 - v37)) = .int (v35 - v37) ∧ fits .int (.int (v35 - v37)) = true then wF G36 l0 3 31 (.int (v35 - v37)) (t_63_0_17 K d l0 l1) else none
noncomputable def t_63_0_19 (K : gK) (d : Nat) (G33 : gH) (l0 : Nat) (l1 : Int32) (v35 : Int32) : Option gO := if g_cls G33 l0 = some 3 then (cI (gCa K d 132 [.ref l0, .int l1] G33) (t_63_0_18 K d v35 l0 l1)) else none
noncomputable def t_63_0_20 (K : gK) (d : Nat) (l0 : Nat) (l1 : Int32) (v34 : Int32) (G33 : gH) : Option gO := if v34 = 0 then (rI G33 l0 3 31 (t_63_0_19 K d G33 l0 l1)) else (some (.inl (some (.int (0 : Int32))), G33))
noncomputable def t_63_0_21 (K : gK) (d : Nat) (l0 : Nat) (l1 : Int32) (v26 : Int32) (G25 : gH) : Option gO := if v26 = 0 then (if g_cls G25 l0 = some 3 then (cI (gCa K d 90 [.ref l0, .int (0 : Int32)] G25) (t_63_0_16 K d l0 l1)) else none) else (if g_cls G25 l0 = some 3 then (cI (gCa K d 90 [.ref l0, .int (3 : Int32)] G25) (t_63_0_20 K d l0 l1)) else none)
noncomputable def t_63_0_22 (K : gK) (d : Nat) (v17 : Int32) (G16 : gH) (l0 : Nat) (l1 : Int32) (v18 : Int32) : Option gO := if v18 < v17 then (if g_cls G16 l0 = some 3 then (cI (gCa K d 90 [.ref l0, .int (3 : Int32)] G16) (t_63_0_12 K d l0 l1)) else none) else (if g_cls G16 l0 = some 3 then (cI (gCa K d 133 [.ref l0, .int l1] G16) (t_63_0_21 K d l0 l1)) else none)
noncomputable def t_63_0_23 (K : gK) (d : Nat) (l0 : Nat) (l1 : Int32) (v17 : Int32) (G16 : gH) : Option gO := rI G16 l0 3 31 (t_63_0_22 K d v17 G16 l0 l1)
noncomputable def t_63_0_24 (K : gK) (d : Nat) (G1 : gH) (l0 : Nat) (l1 : Int32) (v9 : Int32) : Option gO := if v9 = 0 then (if g_cls G1 l0 = some 3 then (cI (gCa K d 90 [.ref l0, .int (2 : Int32)] G1) (t_63_0_8 K d l0 l1)) else none) else (if g_cls G1 l0 = some 3 then (cI (gCa K d 132 [.ref l0, .int l1] G1) (t_63_0_23 K d l0 l1)) else none)
noncomputable def t_63_0_25 (K : gK) (d : Nat) (l0 : Nat) (l1 : Int32) (v2 : Int32) (G1 : gH) : Option gO := if v2 = 0 then (if g_cls G1 l0 = some 3 then (cI (gCa K d 90 [.ref l0, .int (1 : Int32)] G1) (t_63_0_4 K d l0 l1)) else none) else (rI G1 l0 3 17 (t_63_0_24 K d G1 l0 l1))
noncomputable def t_63_0 (K : gK) (d : Nat) (l0 : Nat) (l1 : Int32) (G : gH) : Option gO := cI (gCa K d 89 [.int l1, .int (1 : Int32), .int (50 : Int32)] G) (t_63_0_25 K d l0 l1)
theorem e_63_0 {K : gK} {d : Nat} {l0 : Nat} {l1 : Int32} {G : gH} : gle (t_63_0 K d l0 l1 G) (gRn K d 63 0 [some (.ref l0), some (.int l1), none, none] [] G) := by
  unfold t_63_0
  refine g_aload ((q_63 _).trans rfl) rfl ?_
  refine g_iload ((q_63 _).trans rfl) rfl ?_
  refine g_push ((q_63 _).trans rfl) ?_
  refine g_push ((q_63 _).trans rfl) ?_
  refine g_callS (kk := 3) ((q_63 _).trans rfl) (gHn m_63) (by exact ⟨Nat.le_of_ble_eq_true rfl, Nat.le_of_ble_eq_true rfl, rfl⟩) rfl (fun w G1 => gm_I (fun v2 hw => ?_))
  subst hw
  refine g_ifne ((q_63 _).trans rfl) (fun _ => ?_) (fun _ => ?_)
  · refine g_push ((q_63 _).trans rfl) ?_
    refine g_goto ((q_63 _).trans rfl) ?_
    refine g_callV (kk := 1) ((q_63 _).trans rfl) (gHn m_63) rfl (by exact ⟨Nat.le_of_ble_eq_true rfl, rfl⟩) rfl (fun w G3 => gm_I (fun v4 hw => ?_))
    subst hw
    refine g_ifeq ((q_63 _).trans rfl) (fun _ => ?_) (fun _ => ?_)
    · refine g_aload ((q_63 _).trans rfl) rfl ?_
      refine g_dup_ref ((q_63 _).trans rfl) ?_
      refine g_getI ((q_63 _).trans rfl) (fun v5 => ?_)
      refine g_aload ((q_63 _).trans rfl) rfl ?_
      refine g_iload ((q_63 _).trans rfl) rfl ?_
      refine g_callV (kk := 1) ((q_63 _).trans rfl) (gHn m_63) rfl (by exact ⟨Nat.le_of_ble_eq_true rfl, rfl⟩) rfl (fun w G6 => gm_I (fun v7 hw => ?_))
      subst hw
      refine g_isub ((q_63 _).trans rfl) ?_
      refine g_putf ((q_63 _).trans rfl) (fun G8 => ?_)
      refine g_push ((q_63 _).trans rfl) ?_
      refine g_istore ((q_63 _).trans rfl) ?_
      exact gle.rf _
    · refine g_push ((q_63 _).trans rfl) ?_
      exact g_iret ((q_63 _).trans rfl)
  · refine g_aload ((q_63 _).trans rfl) rfl ?_
    refine g_getI ((q_63 _).trans rfl) (fun v9 => ?_)
    refine g_ifne ((q_63 _).trans rfl) (fun _ => ?_) (fun _ => ?_)
    · refine g_push ((q_63 _).trans rfl) ?_
      refine g_goto ((q_63 _).trans rfl) ?_
      refine g_callV (kk := 1) ((q_63 _).trans rfl) (gHn m_63) rfl (by exact ⟨Nat.le_of_ble_eq_true rfl, rfl⟩) rfl (fun w G10 => gm_I (fun v11 hw => ?_))
      subst hw
      refine g_ifeq ((q_63 _).trans rfl) (fun _ => ?_) (fun _ => ?_)
      · refine g_aload ((q_63 _).trans rfl) rfl ?_
        refine g_dup_ref ((q_63 _).trans rfl) ?_
        refine g_getI ((q_63 _).trans rfl) (fun v12 => ?_)
        refine g_aload ((q_63 _).trans rfl) rfl ?_
        refine g_iload ((q_63 _).trans rfl) rfl ?_
        refine g_callV (kk := 1) ((q_63 _).trans rfl) (gHn m_63) rfl (by exact ⟨Nat.le_of_ble_eq_true rfl, rfl⟩) rfl (fun w G13 => gm_I (fun v14 hw => ?_))
        subst hw
        refine g_isub ((q_63 _).trans rfl) ?_
        refine g_putf ((q_63 _).trans rfl) (fun G15 => ?_)
        refine g_push ((q_63 _).trans rfl) ?_
        refine g_istore ((q_63 _).trans rfl) ?_
        exact gle.rf _
      · refine g_push ((q_63 _).trans rfl) ?_
        exact g_iret ((q_63 _).trans rfl)
    · refine g_aload ((q_63 _).trans rfl) rfl ?_
      refine g_iload ((q_63 _).trans rfl) rfl ?_
      refine g_callV (kk := 1) ((q_63 _).trans rfl) (gHn m_63) rfl (by exact ⟨Nat.le_of_ble_eq_true rfl, rfl⟩) rfl (fun w G16 => gm_I (fun v17 hw => ?_))
      subst hw
      refine g_aload ((q_63 _).trans rfl) rfl ?_
      refine g_getI ((q_63 _).trans rfl) (fun v18 => ?_)
      refine g_cmpgt ((q_63 _).trans rfl) (fun _ => ?_) (fun _ => ?_)
      · refine g_push ((q_63 _).trans rfl) ?_
        refine g_goto ((q_63 _).trans rfl) ?_
        refine g_callV (kk := 1) ((q_63 _).trans rfl) (gHn m_63) rfl (by exact ⟨Nat.le_of_ble_eq_true rfl, rfl⟩) rfl (fun w G19 => gm_I (fun v20 hw => ?_))
        subst hw
        refine g_ifeq ((q_63 _).trans rfl) (fun _ => ?_) (fun _ => ?_)
        · refine g_aload ((q_63 _).trans rfl) rfl ?_
          refine g_dup_ref ((q_63 _).trans rfl) ?_
          refine g_getI ((q_63 _).trans rfl) (fun v21 => ?_)
          refine g_aload ((q_63 _).trans rfl) rfl ?_
          refine g_iload ((q_63 _).trans rfl) rfl ?_
          refine g_callV (kk := 1) ((q_63 _).trans rfl) (gHn m_63) rfl (by exact ⟨Nat.le_of_ble_eq_true rfl, rfl⟩) rfl (fun w G22 => gm_I (fun v23 hw => ?_))
          subst hw
          refine g_isub ((q_63 _).trans rfl) ?_
          refine g_putf ((q_63 _).trans rfl) (fun G24 => ?_)
          refine g_push ((q_63 _).trans rfl) ?_
          refine g_istore ((q_63 _).trans rfl) ?_
          exact gle.rf _
        · refine g_push ((q_63 _).trans rfl) ?_
          exact g_iret ((q_63 _).trans rfl)
      · refine g_aload ((q_63 _).trans rfl) rfl ?_
        refine g_iload ((q_63 _).trans rfl) rfl ?_
        refine g_callV (kk := 1) ((q_63 _).trans rfl) (gHn m_63) rfl (by exact ⟨Nat.le_of_ble_eq_true rfl, rfl⟩) rfl (fun w G25 => gm_I (fun v26 hw => ?_))
        subst hw
        refine g_ifeq ((q_63 _).trans rfl) (fun _ => ?_) (fun _ => ?_)
        · refine g_push ((q_63 _).trans rfl) ?_
          refine g_callV (kk := 1) ((q_63 _).trans rfl) (gHn m_63) rfl (by exact ⟨Nat.le_of_ble_eq_true rfl, rfl⟩) rfl (fun w G27 => gm_I (fun v28 hw => ?_))
          subst hw
          refine g_ifeq ((q_63 _).trans rfl) (fun _ => ?_) (fun _ => ?_)
          · refine g_aload ((q_63 _).trans rfl) rfl ?_
            refine g_dup_ref ((q_63 _).trans rfl) ?_
            refine g_getI ((q_63 _).trans rfl) (fun v29 => ?_)
            refine g_aload ((q_63 _).trans rfl) rfl ?_
            refine g_iload ((q_63 _).trans rfl) rfl ?_
            refine g_callV (kk := 1) ((q_63 _).trans rfl) (gHn m_63) rfl (by exact ⟨Nat.le_of_ble_eq_true rfl, rfl⟩) rfl (fun w G30 => gm_I (fun v31 hw => ?_))
            subst hw
            refine g_isub ((q_63 _).trans rfl) ?_
            refine g_putf ((q_63 _).trans rfl) (fun G32 => ?_)
            refine g_push ((q_63 _).trans rfl) ?_
            refine g_istore ((q_63 _).trans rfl) ?_
            exact gle.rf _
          · refine g_push ((q_63 _).trans rfl) ?_
            exact g_iret ((q_63 _).trans rfl)
        · refine g_push ((q_63 _).trans rfl) ?_
          refine g_goto ((q_63 _).trans rfl) ?_
          refine g_callV (kk := 1) ((q_63 _).trans rfl) (gHn m_63) rfl (by exact ⟨Nat.le_of_ble_eq_true rfl, rfl⟩) rfl (fun w G33 => gm_I (fun v34 hw => ?_))
          subst hw
          refine g_ifeq ((q_63 _).trans rfl) (fun _ => ?_) (fun _ => ?_)
          · refine g_aload ((q_63 _).trans rfl) rfl ?_
            refine g_dup_ref ((q_63 _).trans rfl) ?_
            refine g_getI ((q_63 _).trans rfl) (fun v35 => ?_)
            refine g_aload ((q_63 _).trans rfl) rfl ?_
            refine g_iload ((q_63 _).trans rfl) rfl ?_
            refine g_callV (kk := 1) ((q_63 _).trans rfl) (gHn m_63) rfl (by exact ⟨Nat.le_of_ble_eq_true rfl, rfl⟩) rfl (fun w G36 => gm_I (fun v37 hw => ?_))
            subst hw
            refine g_isub ((q_63 _).trans rfl) ?_
            refine g_putf ((q_63 _).trans rfl) (fun G38 => ?_)
            refine g_push ((q_63 _).trans rfl) ?_
            refine g_istore ((q_63 _).trans rfl) ?_
            exact gle.rf _
          · refine g_push ((q_63 _).trans rfl) ?_
            exact g_iret ((q_63 _).trans rfl)
theorem c_63 {K : gK} {d : Nat} {l0 : Nat} {l1 : Int32} {G : gH} : gle (t_63_0 K d l0 l1 G) (gCa K (d + 1) 63 [.ref l0, .int l1] G) := by
  have h : gent (gMx 63) [.ref l0, .int l1] = [some (.ref l0), some (.int l1), none, none] := by
    show gent (gT 63).2.2.2.1 _ = _
    rw [m_63]; rfl
  exact fun r e => (congrArg (fun q => gRn K d 63 0 q [] G) h).trans (e_63_0 r e)
noncomputable def t_63_75_1 (K : gK) (d : Nat) (G : gH) (v2 : Int32) : Option gO := some (.inl (some (.int v2)), G)
noncomputable def t_63_75_2 (K : gK) (d : Nat) (l0 : Nat) (l1 : Int32) (l2 : Int32) (v4 : Int32) (G13 : gH) : Option gO := gRn K d 63 75 [some (.ref l0), some (.int l1), some (.int (l2 + 1)), some (.int (l1 * v4))] [] G13
noncomputable def t_63_75_3 (K : gK) (d : Nat) (l0 : Nat) (l1 : Int32) (l2 : Int32) (v4 : Int32) (G14 : gH) : Option gO := gRn K d 63 75 [some (.ref l0), some (.int l1), some (.int (l2 + 1)), some (.int (l1 * v4))] [] G14
noncomputable def t_63_75_4 (K : gK) (d : Nat) (l0 : Nat) (l1 : Int32) (l2 : Int32) (v4 : Int32) (G15 : gH) : Option gO := gRn K d 63 75 [some (.ref l0), some (.int l1), some (.int (l2 + 1)), some (.int (l1 * v4))] [] G15
noncomputable def t_63_75_5 (K : gK) (d : Nat) (l1 : Int32) (v4 : Int32) (G9 : gH) (a10 : Nat) (l2 : Int32) (l0 : Nat) (v12 : Int32) : Option gO := if v12 = 0 then (if (l1 * v4) ≤ 0 then (yI G9 a10 1 (l2 / (2 : Int32)) (vp_nar .boolean (0 : Int32)) (t_63_75_2 K d l0 l1 l2 v4)) else (yI G9 a10 1 (l2 / (2 : Int32)) (vp_nar .boolean (1 : Int32)) (t_63_75_3 K d l0 l1 l2 v4))) else (yI G9 a10 1 (l2 / (2 : Int32)) (vp_nar .boolean (1 : Int32)) (t_63_75_4 K d l0 l1 l2 v4))
noncomputable def t_63_75_6 (K : gK) (d : Nat) (G9 : gH) (l2 : Int32) (l1 : Int32) (v4 : Int32) (a10 : Nat) (l0 : Nat) (a11 : Nat) : Option gO := if (2 : Int32) = 0 then none else (xI G9 a11 1 (l2 / (2 : Int32)) (t_63_75_5 K d l1 v4 G9 a10 l2 l0))
noncomputable def t_63_75_7 (K : gK) (d : Nat) (G9 : gH) (l0 : Nat) (l2 : Int32) (l1 : Int32) (v4 : Int32) (a10 : Nat) : Option gO := if (2 : Int32) = 0 then none else (rR G9 l0 3 15 (t_63_75_6 K d G9 l2 l1 v4 a10 l0))
noncomputable def t_63_75_8 (K : gK) (d : Nat) (l0 : Nat) (l2 : Int32) (l1 : Int32) (v4 : Int32) (G9 : gH) : Option gO := rR G9 l0 3 15 (t_63_75_7 K d G9 l0 l2 l1 v4)
noncomputable def t_63_75_9 (K : gK) (d : Nat) (l1 : Int32) (v4 : Int32) (G7 : gH) (l0 : Nat) (l2 : Int32) (j8 : Int64) : Option gO := if narrow .long (.long (j8 + ((l1 * v4)).toInt64)) = .long (j8 + ((l1 * v4)).toInt64) ∧ fits .long (.long (j8 + ((l1 * v4)).toInt64)) = true then wF G7 l0 3 32 (.long (j8 + ((l1 * v4)).toInt64)) (t_63_75_8 K d l0 l2 l1 v4) else none
noncomputable def t_63_75_10 (K : gK) (d : Nat) (l0 : Nat) (l1 : Int32) (v4 : Int32) (l2 : Int32) (G7 : gH) : Option gO := rJ G7 l0 3 32 (t_63_75_9 K d l1 v4 G7 l0 l2)
noncomputable def t_63_75_11 (K : gK) (d : Nat) (G3 : gH) (a5 : Nat) (l2 : Int32) (l1 : Int32) (v4 : Int32) (l0 : Nat) (v6 : Int32) : Option gO := yI G3 a5 0 l2 (v6 + (l1 * v4)) (t_63_75_10 K d l0 l1 v4 l2)
noncomputable def t_63_75_12 (K : gK) (d : Nat) (G3 : gH) (l2 : Int32) (l1 : Int32) (v4 : Int32) (l0 : Nat) (a5 : Nat) : Option gO := xI G3 a5 0 l2 (t_63_75_11 K d G3 a5 l2 l1 v4 l0)
noncomputable def t_63_75_13 (K : gK) (d : Nat) (l0 : Nat) (l2 : Int32) (l1 : Int32) (v4 : Int32) (G3 : gH) : Option gO := rR G3 l0 3 16 (t_63_75_12 K d G3 l2 l1 v4 l0)
noncomputable def t_63_75_14 (K : gK) (d : Nat) (l0 : Nat) (l1 : Int32) (l2 : Int32) (v17 : Int32) (G26 : gH) : Option gO := gRn K d 63 75 [some (.ref l0), some (.int l1), some (.int (l2 + 1)), some (.int (l1 * v17))] [] G26
noncomputable def t_63_75_15 (K : gK) (d : Nat) (l0 : Nat) (l1 : Int32) (l2 : Int32) (v17 : Int32) (G27 : gH) : Option gO := gRn K d 63 75 [some (.ref l0), some (.int l1), some (.int (l2 + 1)), some (.int (l1 * v17))] [] G27
noncomputable def t_63_75_16 (K : gK) (d : Nat) (l0 : Nat) (l1 : Int32) (l2 : Int32) (v17 : Int32) (G28 : gH) : Option gO := gRn K d 63 75 [some (.ref l0), some (.int l1), some (.int (l2 + 1)), some (.int (l1 * v17))] [] G28
noncomputable def t_63_75_17 (K : gK) (d : Nat) (l1 : Int32) (v17 : Int32) (G22 : gH) (a23 : Nat) (l2 : Int32) (l0 : Nat) (v25 : Int32) : Option gO := if v25 = 0 then (if (l1 * v17) ≤ 0 then (yI G22 a23 1 (l2 / (2 : Int32)) (vp_nar .boolean (0 : Int32)) (t_63_75_14 K d l0 l1 l2 v17)) else (yI G22 a23 1 (l2 / (2 : Int32)) (vp_nar .boolean (1 : Int32)) (t_63_75_15 K d l0 l1 l2 v17))) else (yI G22 a23 1 (l2 / (2 : Int32)) (vp_nar .boolean (1 : Int32)) (t_63_75_16 K d l0 l1 l2 v17))
noncomputable def t_63_75_18 (K : gK) (d : Nat) (G22 : gH) (l2 : Int32) (l1 : Int32) (v17 : Int32) (a23 : Nat) (l0 : Nat) (a24 : Nat) : Option gO := if (2 : Int32) = 0 then none else (xI G22 a24 1 (l2 / (2 : Int32)) (t_63_75_17 K d l1 v17 G22 a23 l2 l0))
noncomputable def t_63_75_19 (K : gK) (d : Nat) (G22 : gH) (l0 : Nat) (l2 : Int32) (l1 : Int32) (v17 : Int32) (a23 : Nat) : Option gO := if (2 : Int32) = 0 then none else (rR G22 l0 3 15 (t_63_75_18 K d G22 l2 l1 v17 a23 l0))
noncomputable def t_63_75_20 (K : gK) (d : Nat) (l0 : Nat) (l2 : Int32) (l1 : Int32) (v17 : Int32) (G22 : gH) : Option gO := rR G22 l0 3 15 (t_63_75_19 K d G22 l0 l2 l1 v17)
noncomputable def t_63_75_21 (K : gK) (d : Nat) (l1 : Int32) (v17 : Int32) (G20 : gH) (l0 : Nat) (l2 : Int32) (j21 : Int64) : Option gO := if narrow .long (.long (j21 + ((l1 * v17)).toInt64)) = .long (j21 + ((l1 * v17)).toInt64) ∧ fits .long (.long (j21 + ((l1 * v17)).toInt64)) = true then wF G20 l0 3 32 (.long (j21 + ((l1 * v17)).toInt64)) (t_63_75_20 K d l0 l2 l1 v17) else none
noncomputable def t_63_75_22 (K : gK) (d : Nat) (l0 : Nat) (l1 : Int32) (v17 : Int32) (l2 : Int32) (G20 : gH) : Option gO := rJ G20 l0 3 32 (t_63_75_21 K d l1 v17 G20 l0 l2)
noncomputable def t_63_75_23 (K : gK) (d : Nat) (G16 : gH) (a18 : Nat) (l2 : Int32) (l1 : Int32) (v17 : Int32) (l0 : Nat) (v19 : Int32) : Option gO := yI G16 a18 0 l2 (v19 + (l1 * v17)) (t_63_75_22 K d l0 l1 v17 l2)
noncomputable def t_63_75_24 (K : gK) (d : Nat) (G16 : gH) (l2 : Int32) (l1 : Int32) (v17 : Int32) (l0 : Nat) (a18 : Nat) : Option gO := xI G16 a18 0 l2 (t_63_75_23 K d G16 a18 l2 l1 v17 l0)
noncomputable def t_63_75_25 (K : gK) (d : Nat) (l0 : Nat) (l2 : Int32) (l1 : Int32) (v17 : Int32) (G16 : gH) : Option gO := rR G16 l0 3 16 (t_63_75_24 K d G16 l2 l1 v17 l0)
noncomputable def t_63_75_26 (K : gK) (d : Nat) (l2 : Int32) (G : gH) (l0 : Nat) (l1 : Int32) (v1 : Int32) : Option gO := if ((2 : Int32) * v1) ≤ l2 then (rI G l0 3 31 (t_63_75_1 K d G)) else (if (2 : Int32) = 0 then none else (if (2 : Int32) = 0 then none else (if (l2 - l2 / (2 : Int32) * (2 : Int32)) = (1 : Int32) then (if g_cls G l0 = some 3 then (cI (gCa K d 134 [.ref l0, .int (l2 / (2 : Int32)), .int (1 : Int32)] G) (t_63_75_13 K d l0 l2 l1)) else none) else (if g_cls G l0 = some 3 then (cI (gCa K d 134 [.ref l0, .int (l2 / (2 : Int32)), .int (0 : Int32)] G) (t_63_75_25 K d l0 l2 l1)) else none))))
noncomputable def t_63_75 (K : gK) (d : Nat) (l0 : Nat) (l1 : Int32) (l2 : Int32) (o3 : Option Value) (G : gH) : Option gO := rI G l0 3 7 (t_63_75_26 K d l2 G l0 l1)
theorem e_63_75 {K : gK} {d : Nat} {l0 : Nat} {l1 : Int32} {l2 : Int32} {o3 : Option Value} {G : gH} : gle (t_63_75 K d l0 l1 l2 o3 G) (gRn K d 63 75 [some (.ref l0), some (.int l1), some (.int l2), o3] [] G) := by
  unfold t_63_75
  refine g_iload ((q_63 _).trans rfl) rfl ?_
  refine g_push ((q_63 _).trans rfl) ?_
  refine g_aload ((q_63 _).trans rfl) rfl ?_
  refine g_getI ((q_63 _).trans rfl) (fun v1 => ?_)
  refine g_imul ((q_63 _).trans rfl) ?_
  refine g_cmpge ((q_63 _).trans rfl) (fun _ => ?_) (fun _ => ?_)
  · refine g_aload ((q_63 _).trans rfl) rfl ?_
    refine g_getI ((q_63 _).trans rfl) (fun v2 => ?_)
    exact g_iret ((q_63 _).trans rfl)
  · refine g_iload ((q_63 _).trans rfl) rfl ?_
    refine g_aload ((q_63 _).trans rfl) rfl ?_
    refine g_iload ((q_63 _).trans rfl) rfl ?_
    refine g_push ((q_63 _).trans rfl) ?_
    refine g_idiv ((q_63 _).trans rfl) (fun _ => ?_)
    refine g_iload ((q_63 _).trans rfl) rfl ?_
    refine g_push ((q_63 _).trans rfl) ?_
    refine g_irem ((q_63 _).trans rfl) (fun _ => ?_)
    refine g_push ((q_63 _).trans rfl) ?_
    refine g_cmpne ((q_63 _).trans rfl) (fun _ => ?_) (fun _ => ?_)
    · refine g_push ((q_63 _).trans rfl) ?_
      refine g_goto ((q_63 _).trans rfl) ?_
      refine g_callV (kk := 2) ((q_63 _).trans rfl) (gHn m_63) rfl (by exact ⟨Nat.le_of_ble_eq_true rfl, rfl⟩) rfl (fun w G3 => gm_I (fun v4 hw => ?_))
      subst hw
      refine g_imul ((q_63 _).trans rfl) ?_
      refine g_istore ((q_63 _).trans rfl) ?_
      refine g_aload ((q_63 _).trans rfl) rfl ?_
      refine g_getR ((q_63 _).trans rfl) (fun a5 => ?_)
      refine g_iload ((q_63 _).trans rfl) rfl ?_
      refine g_dup2 ((q_63 _).trans rfl) ?_
      refine g_iald ((q_63 _).trans rfl) (fun v6 => ?_)
      refine g_iload ((q_63 _).trans rfl) rfl ?_
      refine g_iadd ((q_63 _).trans rfl) ?_
      refine g_iast ((q_63 _).trans rfl) (fun G7 => ?_)
      refine g_aload ((q_63 _).trans rfl) rfl ?_
      refine g_dup_ref ((q_63 _).trans rfl) ?_
      refine g_getJ ((q_63 _).trans rfl) (fun j8 => ?_)
      refine g_iload ((q_63 _).trans rfl) rfl ?_
      refine g_i2l ((q_63 _).trans rfl) ?_
      refine g_ladd ((q_63 _).trans rfl) ?_
      refine g_putf ((q_63 _).trans rfl) (fun G9 => ?_)
      refine g_aload ((q_63 _).trans rfl) rfl ?_
      refine g_getR ((q_63 _).trans rfl) (fun a10 => ?_)
      refine g_iload ((q_63 _).trans rfl) rfl ?_
      refine g_push ((q_63 _).trans rfl) ?_
      refine g_idiv ((q_63 _).trans rfl) (fun _ => ?_)
      refine g_aload ((q_63 _).trans rfl) rfl ?_
      refine g_getR ((q_63 _).trans rfl) (fun a11 => ?_)
      refine g_iload ((q_63 _).trans rfl) rfl ?_
      refine g_push ((q_63 _).trans rfl) ?_
      refine g_idiv ((q_63 _).trans rfl) (fun _ => ?_)
      refine g_iald ((q_63 _).trans rfl) (fun v12 => ?_)
      refine g_ifne ((q_63 _).trans rfl) (fun _ => ?_) (fun _ => ?_)
      · refine g_iload ((q_63 _).trans rfl) rfl ?_
        refine g_ifle ((q_63 _).trans rfl) (fun _ => ?_) (fun _ => ?_)
        · refine g_push ((q_63 _).trans rfl) ?_
          refine g_zast ((q_63 _).trans rfl) (fun G13 => ?_)
          refine g_iinc ((q_63 _).trans rfl) rfl ?_
          refine g_goto ((q_63 _).trans rfl) ?_
          exact gle.rf _
        · refine g_push ((q_63 _).trans rfl) ?_
          refine g_goto ((q_63 _).trans rfl) ?_
          refine g_zast ((q_63 _).trans rfl) (fun G14 => ?_)
          refine g_iinc ((q_63 _).trans rfl) rfl ?_
          refine g_goto ((q_63 _).trans rfl) ?_
          exact gle.rf _
      · refine g_push ((q_63 _).trans rfl) ?_
        refine g_goto ((q_63 _).trans rfl) ?_
        refine g_zast ((q_63 _).trans rfl) (fun G15 => ?_)
        refine g_iinc ((q_63 _).trans rfl) rfl ?_
        refine g_goto ((q_63 _).trans rfl) ?_
        exact gle.rf _
    · refine g_push ((q_63 _).trans rfl) ?_
      refine g_callV (kk := 2) ((q_63 _).trans rfl) (gHn m_63) rfl (by exact ⟨Nat.le_of_ble_eq_true rfl, rfl⟩) rfl (fun w G16 => gm_I (fun v17 hw => ?_))
      subst hw
      refine g_imul ((q_63 _).trans rfl) ?_
      refine g_istore ((q_63 _).trans rfl) ?_
      refine g_aload ((q_63 _).trans rfl) rfl ?_
      refine g_getR ((q_63 _).trans rfl) (fun a18 => ?_)
      refine g_iload ((q_63 _).trans rfl) rfl ?_
      refine g_dup2 ((q_63 _).trans rfl) ?_
      refine g_iald ((q_63 _).trans rfl) (fun v19 => ?_)
      refine g_iload ((q_63 _).trans rfl) rfl ?_
      refine g_iadd ((q_63 _).trans rfl) ?_
      refine g_iast ((q_63 _).trans rfl) (fun G20 => ?_)
      refine g_aload ((q_63 _).trans rfl) rfl ?_
      refine g_dup_ref ((q_63 _).trans rfl) ?_
      refine g_getJ ((q_63 _).trans rfl) (fun j21 => ?_)
      refine g_iload ((q_63 _).trans rfl) rfl ?_
      refine g_i2l ((q_63 _).trans rfl) ?_
      refine g_ladd ((q_63 _).trans rfl) ?_
      refine g_putf ((q_63 _).trans rfl) (fun G22 => ?_)
      refine g_aload ((q_63 _).trans rfl) rfl ?_
      refine g_getR ((q_63 _).trans rfl) (fun a23 => ?_)
      refine g_iload ((q_63 _).trans rfl) rfl ?_
      refine g_push ((q_63 _).trans rfl) ?_
      refine g_idiv ((q_63 _).trans rfl) (fun _ => ?_)
      refine g_aload ((q_63 _).trans rfl) rfl ?_
      refine g_getR ((q_63 _).trans rfl) (fun a24 => ?_)
      refine g_iload ((q_63 _).trans rfl) rfl ?_
      refine g_push ((q_63 _).trans rfl) ?_
      refine g_idiv ((q_63 _).trans rfl) (fun _ => ?_)
      refine g_iald ((q_63 _).trans rfl) (fun v25 => ?_)
      refine g_ifne ((q_63 _).trans rfl) (fun _ => ?_) (fun _ => ?_)
      · refine g_iload ((q_63 _).trans rfl) rfl ?_
        refine g_ifle ((q_63 _).trans rfl) (fun _ => ?_) (fun _ => ?_)
        · refine g_push ((q_63 _).trans rfl) ?_
          refine g_zast ((q_63 _).trans rfl) (fun G26 => ?_)
          refine g_iinc ((q_63 _).trans rfl) rfl ?_
          refine g_goto ((q_63 _).trans rfl) ?_
          exact gle.rf _
        · refine g_push ((q_63 _).trans rfl) ?_
          refine g_goto ((q_63 _).trans rfl) ?_
          refine g_zast ((q_63 _).trans rfl) (fun G27 => ?_)
          refine g_iinc ((q_63 _).trans rfl) rfl ?_
          refine g_goto ((q_63 _).trans rfl) ?_
          exact gle.rf _
      · refine g_push ((q_63 _).trans rfl) ?_
        refine g_goto ((q_63 _).trans rfl) ?_
        refine g_zast ((q_63 _).trans rfl) (fun G28 => ?_)
        refine g_iinc ((q_63 _).trans rfl) rfl ?_
        refine g_goto ((q_63 _).trans rfl) ?_
        exact gle.rf _
theorem q_65 {K : gK} (pc : Nat) : gP K 65 pc = ((gL_65 K).lookup pc).getD o_none := rfl
noncomputable def t_65_0_1 (K : gK) (d : Nat) (G3 : gH) (v6 : Int32) : Option gO := some (.inl (some (.int v6)), G3)
noncomputable def t_65_0_2 (K : gK) (d : Nat) (G3 : gH) (v7 : Int32) : Option gO := some (.inl (some (.int v7)), G3)
noncomputable def t_65_0_3 (K : gK) (d : Nat) (l2 : Int32) (G3 : gH) (l1 : Int32) (a5 : Nat) : Option gO := if l2 = 0 then (xI G3 a5 0 (((2 : Int32) * l1) + (0 : Int32)) (t_65_0_1 K d G3)) else (xI G3 a5 0 (((2 : Int32) * l1) + (1 : Int32)) (t_65_0_2 K d G3))
noncomputable def t_65_0_4 (K : gK) (d : Nat) (l0 : Nat) (l2 : Int32) (l1 : Int32) (v4 : Int32) (G3 : gH) : Option gO := if v4 = 0 then (rR G3 l0 3 16 (t_65_0_3 K d l2 G3 l1)) else (some (.inl (some (.int (0 : Int32))), G3))
noncomputable def t_65_0_5 (K : gK) (d : Nat) (G8 : gH) (v11 : Int32) : Option gO := some (.inl (some (.int v11)), G8)
noncomputable def t_65_0_6 (K : gK) (d : Nat) (G8 : gH) (v12 : Int32) : Option gO := some (.inl (some (.int v12)), G8)
noncomputable def t_65_0_7 (K : gK) (d : Nat) (l2 : Int32) (G8 : gH) (l1 : Int32) (a10 : Nat) : Option gO := if l2 = 0 then (xI G8 a10 0 (((2 : Int32) * l1) + (0 : Int32)) (t_65_0_5 K d G8)) else (xI G8 a10 0 (((2 : Int32) * l1) + (1 : Int32)) (t_65_0_6 K d G8))
noncomputable def t_65_0_8 (K : gK) (d : Nat) (l0 : Nat) (l2 : Int32) (l1 : Int32) (v9 : Int32) (G8 : gH) : Option gO := if v9 = 0 then (rR G8 l0 3 16 (t_65_0_7 K d l2 G8 l1)) else (some (.inl (some (.int (0 : Int32))), G8))
noncomputable def t_65_0_9 (K : gK) (d : Nat) (G15 : gH) (v18 : Int32) : Option gO := some (.inl (some (.int v18)), G15)
noncomputable def t_65_0_10 (K : gK) (d : Nat) (G15 : gH) (v19 : Int32) : Option gO := some (.inl (some (.int v19)), G15)
noncomputable def t_65_0_11 (K : gK) (d : Nat) (l2 : Int32) (G15 : gH) (l1 : Int32) (a17 : Nat) : Option gO := if l2 = 0 then (xI G15 a17 0 (((2 : Int32) * l1) + (0 : Int32)) (t_65_0_9 K d G15)) else (xI G15 a17 0 (((2 : Int32) * l1) + (1 : Int32)) (t_65_0_10 K d G15))
noncomputable def t_65_0_12 (K : gK) (d : Nat) (l0 : Nat) (l2 : Int32) (l1 : Int32) (v16 : Int32) (G15 : gH) : Option gO := if v16 = 0 then (rR G15 l0 3 16 (t_65_0_11 K d l2 G15 l1)) else (some (.inl (some (.int (0 : Int32))), G15))
noncomputable def t_65_0_13 (K : gK) (d : Nat) (G20 : gH) (v23 : Int32) : Option gO := some (.inl (some (.int v23)), G20)
noncomputable def t_65_0_14 (K : gK) (d : Nat) (G20 : gH) (v24 : Int32) : Option gO := some (.inl (some (.int v24)), G20)
noncomputable def t_65_0_15 (K : gK) (d : Nat) (l2 : Int32) (G20 : gH) (l1 : Int32) (a22 : Nat) : Option gO := if l2 = 0 then (xI G20 a22 0 (((2 : Int32) * l1) + (0 : Int32)) (t_65_0_13 K d G20)) else (xI G20 a22 0 (((2 : Int32) * l1) + (1 : Int32)) (t_65_0_14 K d G20))
noncomputable def t_65_0_16 (K : gK) (d : Nat) (l0 : Nat) (l2 : Int32) (l1 : Int32) (v21 : Int32) (G20 : gH) : Option gO := if v21 = 0 then (rR G20 l0 3 16 (t_65_0_15 K d l2 G20 l1)) else (some (.inl (some (.int (0 : Int32))), G20))
noncomputable def t_65_0_17 (K : gK) (d : Nat) (G1 : gH) (l0 : Nat) (l2 : Int32) (l1 : Int32) (v14 : Int32) : Option gO := if v14 = 0 then (if g_cls G1 l0 = some 3 then (cI (gCa K d 90 [.ref l0, .int (2 : Int32)] G1) (t_65_0_12 K d l0 l2 l1)) else none) else (if g_cls G1 l0 = some 3 then (cI (gCa K d 90 [.ref l0, .int (0 : Int32)] G1) (t_65_0_16 K d l0 l2 l1)) else none)
noncomputable def t_65_0_18 (K : gK) (d : Nat) (G1 : gH) (l1 : Int32) (l0 : Nat) (l2 : Int32) (a13 : Nat) : Option gO := xI G1 a13 1 l1 (t_65_0_17 K d G1 l0 l2 l1)
noncomputable def t_65_0_19 (K : gK) (d : Nat) (l0 : Nat) (l2 : Int32) (l1 : Int32) (v2 : Int32) (G1 : gH) : Option gO := if v2 = 0 then (if g_cls G1 l0 = some 3 then (cI (gCa K d 90 [.ref l0, .int (1 : Int32)] G1) (t_65_0_4 K d l0 l2 l1)) else none) else (if l2 = 0 then (if g_cls G1 l0 = some 3 then (cI (gCa K d 90 [.ref l0, .int (0 : Int32)] G1) (t_65_0_8 K d l0 l2 l1)) else none) else (rR G1 l0 3 9 (t_65_0_18 K d G1 l1 l0 l2)))
noncomputable def t_65_0 (K : gK) (d : Nat) (l0 : Nat) (l1 : Int32) (l2 : Int32) (G : gH) : Option gO := if g_cls G l0 = some 3 then (cI (gCa K d 96 [.ref l0, .int l1] G) (t_65_0_19 K d l0 l2 l1)) else none
theorem e_65_0 {K : gK} {d : Nat} {l0 : Nat} {l1 : Int32} {l2 : Int32} {G : gH} : gle (t_65_0 K d l0 l1 l2 G) (gRn K d 65 0 [some (.ref l0), some (.int l1), some (.int l2)] [] G) := by
  unfold t_65_0
  refine g_aload ((q_65 _).trans rfl) rfl ?_
  refine g_aload ((q_65 _).trans rfl) rfl ?_
  refine g_iload ((q_65 _).trans rfl) rfl ?_
  refine g_callV (kk := 1) ((q_65 _).trans rfl) (gHn m_65) rfl (by exact ⟨Nat.le_of_ble_eq_true rfl, rfl⟩) rfl (fun w G1 => gm_I (fun v2 hw => ?_))
  subst hw
  refine g_ifne ((q_65 _).trans rfl) (fun _ => ?_) (fun _ => ?_)
  · refine g_push ((q_65 _).trans rfl) ?_
    refine g_goto ((q_65 _).trans rfl) ?_
    refine g_callV (kk := 1) ((q_65 _).trans rfl) (gHn m_65) rfl (by exact ⟨Nat.le_of_ble_eq_true rfl, rfl⟩) rfl (fun w G3 => gm_I (fun v4 hw => ?_))
    subst hw
    refine g_ifeq ((q_65 _).trans rfl) (fun _ => ?_) (fun _ => ?_)
    · refine g_aload ((q_65 _).trans rfl) rfl ?_
      refine g_getR ((q_65 _).trans rfl) (fun a5 => ?_)
      refine g_push ((q_65 _).trans rfl) ?_
      refine g_iload ((q_65 _).trans rfl) rfl ?_
      refine g_imul ((q_65 _).trans rfl) ?_
      refine g_iload ((q_65 _).trans rfl) rfl ?_
      refine g_ifeq ((q_65 _).trans rfl) (fun _ => ?_) (fun _ => ?_)
      · refine g_push ((q_65 _).trans rfl) ?_
        refine g_iadd ((q_65 _).trans rfl) ?_
        refine g_iald ((q_65 _).trans rfl) (fun v6 => ?_)
        exact g_iret ((q_65 _).trans rfl)
      · refine g_push ((q_65 _).trans rfl) ?_
        refine g_goto ((q_65 _).trans rfl) ?_
        refine g_iadd ((q_65 _).trans rfl) ?_
        refine g_iald ((q_65 _).trans rfl) (fun v7 => ?_)
        exact g_iret ((q_65 _).trans rfl)
    · refine g_push ((q_65 _).trans rfl) ?_
      refine g_goto ((q_65 _).trans rfl) ?_
      exact g_iret ((q_65 _).trans rfl)
  · refine g_iload ((q_65 _).trans rfl) rfl ?_
    refine g_ifeq ((q_65 _).trans rfl) (fun _ => ?_) (fun _ => ?_)
    · refine g_push ((q_65 _).trans rfl) ?_
      refine g_callV (kk := 1) ((q_65 _).trans rfl) (gHn m_65) rfl (by exact ⟨Nat.le_of_ble_eq_true rfl, rfl⟩) rfl (fun w G8 => gm_I (fun v9 hw => ?_))
      subst hw
      refine g_ifeq ((q_65 _).trans rfl) (fun _ => ?_) (fun _ => ?_)
      · refine g_aload ((q_65 _).trans rfl) rfl ?_
        refine g_getR ((q_65 _).trans rfl) (fun a10 => ?_)
        refine g_push ((q_65 _).trans rfl) ?_
        refine g_iload ((q_65 _).trans rfl) rfl ?_
        refine g_imul ((q_65 _).trans rfl) ?_
        refine g_iload ((q_65 _).trans rfl) rfl ?_
        refine g_ifeq ((q_65 _).trans rfl) (fun _ => ?_) (fun _ => ?_)
        · refine g_push ((q_65 _).trans rfl) ?_
          refine g_iadd ((q_65 _).trans rfl) ?_
          refine g_iald ((q_65 _).trans rfl) (fun v11 => ?_)
          exact g_iret ((q_65 _).trans rfl)
        · refine g_push ((q_65 _).trans rfl) ?_
          refine g_goto ((q_65 _).trans rfl) ?_
          refine g_iadd ((q_65 _).trans rfl) ?_
          refine g_iald ((q_65 _).trans rfl) (fun v12 => ?_)
          exact g_iret ((q_65 _).trans rfl)
      · refine g_push ((q_65 _).trans rfl) ?_
        refine g_goto ((q_65 _).trans rfl) ?_
        exact g_iret ((q_65 _).trans rfl)
    · refine g_aload ((q_65 _).trans rfl) rfl ?_
      refine g_getR ((q_65 _).trans rfl) (fun a13 => ?_)
      refine g_iload ((q_65 _).trans rfl) rfl ?_
      refine g_iald ((q_65 _).trans rfl) (fun v14 => ?_)
      refine g_ifne ((q_65 _).trans rfl) (fun _ => ?_) (fun _ => ?_)
      · refine g_push ((q_65 _).trans rfl) ?_
        refine g_goto ((q_65 _).trans rfl) ?_
        refine g_callV (kk := 1) ((q_65 _).trans rfl) (gHn m_65) rfl (by exact ⟨Nat.le_of_ble_eq_true rfl, rfl⟩) rfl (fun w G15 => gm_I (fun v16 hw => ?_))
        subst hw
        refine g_ifeq ((q_65 _).trans rfl) (fun _ => ?_) (fun _ => ?_)
        · refine g_aload ((q_65 _).trans rfl) rfl ?_
          refine g_getR ((q_65 _).trans rfl) (fun a17 => ?_)
          refine g_push ((q_65 _).trans rfl) ?_
          refine g_iload ((q_65 _).trans rfl) rfl ?_
          refine g_imul ((q_65 _).trans rfl) ?_
          refine g_iload ((q_65 _).trans rfl) rfl ?_
          refine g_ifeq ((q_65 _).trans rfl) (fun _ => ?_) (fun _ => ?_)
          · refine g_push ((q_65 _).trans rfl) ?_
            refine g_iadd ((q_65 _).trans rfl) ?_
            refine g_iald ((q_65 _).trans rfl) (fun v18 => ?_)
            exact g_iret ((q_65 _).trans rfl)
          · refine g_push ((q_65 _).trans rfl) ?_
            refine g_goto ((q_65 _).trans rfl) ?_
            refine g_iadd ((q_65 _).trans rfl) ?_
            refine g_iald ((q_65 _).trans rfl) (fun v19 => ?_)
            exact g_iret ((q_65 _).trans rfl)
        · refine g_push ((q_65 _).trans rfl) ?_
          refine g_goto ((q_65 _).trans rfl) ?_
          exact g_iret ((q_65 _).trans rfl)
      · refine g_push ((q_65 _).trans rfl) ?_
        refine g_callV (kk := 1) ((q_65 _).trans rfl) (gHn m_65) rfl (by exact ⟨Nat.le_of_ble_eq_true rfl, rfl⟩) rfl (fun w G20 => gm_I (fun v21 hw => ?_))
        subst hw
        refine g_ifeq ((q_65 _).trans rfl) (fun _ => ?_) (fun _ => ?_)
        · refine g_aload ((q_65 _).trans rfl) rfl ?_
          refine g_getR ((q_65 _).trans rfl) (fun a22 => ?_)
          refine g_push ((q_65 _).trans rfl) ?_
          refine g_iload ((q_65 _).trans rfl) rfl ?_
          refine g_imul ((q_65 _).trans rfl) ?_
          refine g_iload ((q_65 _).trans rfl) rfl ?_
          refine g_ifeq ((q_65 _).trans rfl) (fun _ => ?_) (fun _ => ?_)
          · refine g_push ((q_65 _).trans rfl) ?_
            refine g_iadd ((q_65 _).trans rfl) ?_
            refine g_iald ((q_65 _).trans rfl) (fun v23 => ?_)
            exact g_iret ((q_65 _).trans rfl)
          · refine g_push ((q_65 _).trans rfl) ?_
            refine g_goto ((q_65 _).trans rfl) ?_
            refine g_iadd ((q_65 _).trans rfl) ?_
            refine g_iald ((q_65 _).trans rfl) (fun v24 => ?_)
            exact g_iret ((q_65 _).trans rfl)
        · refine g_push ((q_65 _).trans rfl) ?_
          refine g_goto ((q_65 _).trans rfl) ?_
          exact g_iret ((q_65 _).trans rfl)
theorem c_65 {K : gK} {d : Nat} {l0 : Nat} {l1 : Int32} {l2 : Int32} {G : gH} : gle (t_65_0 K d l0 l1 l2 G) (gCa K (d + 1) 65 [.ref l0, .int l1, .int l2] G) := by
  have h : gent (gMx 65) [.ref l0, .int l1, .int l2] = [some (.ref l0), some (.int l1), some (.int l2)] := by
    show gent (gT 65).2.2.2.1 _ = _
    rw [m_65]; rfl
  exact fun r e => (congrArg (fun q => gRn K d 65 0 q [] G) h).trans (e_65_0 r e)
