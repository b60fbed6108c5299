/-! PURE 6: methods as trees, 4 (printed by mkpure.py) -/
set_option maxRecDepth 100000
theorem q_135 {K : gK} (pc : Nat) : gP K 135 pc = ((gL_135 K).lookup pc).getD o_none := rfl
noncomputable def t_135_0_1 (K : gK) (d : Nat) (G3 : gH) (v5 : Int32) : Option gO := some (.inl (some (.int v5)), G3)
noncomputable def t_135_0_2 (K : gK) (d : Nat) (G3 : gH) (v6 : Int32) : Option gO := some (.inl (some (.int v6)), G3)
noncomputable def t_135_0_3 (K : gK) (d : Nat) (l2 : Int32) (a2 : Nat) (G3 : gH) : Option gO := if l2 = 0 then (rI G3 a2 4 5 (t_135_0_1 K d G3)) else (rI G3 a2 4 6 (t_135_0_2 K d G3))
noncomputable def t_135_0_4 (K : gK) (d : Nat) (G8 : gH) (v10 : Int32) : Option gO := some (.inl (some (.int v10)), G8)
noncomputable def t_135_0_5 (K : gK) (d : Nat) (G8 : gH) (v11 : Int32) : Option gO := some (.inl (some (.int v11)), G8)
noncomputable def t_135_0_6 (K : gK) (d : Nat) (l2 : Int32) (a2 : Nat) (G8 : gH) : Option gO := if l2 = 0 then (rI G8 a2 4 5 (t_135_0_4 K d G8)) else (rI G8 a2 4 6 (t_135_0_5 K d G8))
noncomputable def t_135_0_7 (K : gK) (d : Nat) (G12 : gH) (v14 : Int32) : Option gO := some (.inl (some (.int v14)), G12)
noncomputable def t_135_0_8 (K : gK) (d : Nat) (G12 : gH) (v15 : Int32) : Option gO := some (.inl (some (.int v15)), G12)
noncomputable def t_135_0_9 (K : gK) (d : Nat) (l2 : Int32) (a2 : Nat) (G12 : gH) : Option gO := if l2 = 0 then (rI G12 a2 4 5 (t_135_0_7 K d G12)) else (rI G12 a2 4 6 (t_135_0_8 K d G12))
noncomputable def t_135_0_10 (K : gK) (d : Nat) (G1 : gH) (l2 : Int32) (a2 : Nat) (v7 : Int32) : Option gO := if v7 = 0 then (cV (gCa K d 153 [.int (0 : Int32)] G1) (t_135_0_6 K d l2 a2)) else (cV (gCa K d 153 [.int (1 : Int32)] G1) (t_135_0_9 K d l2 a2))
noncomputable def t_135_0_11 (K : gK) (d : Nat) (l2 : Int32) (a2 : Nat) (G1 : gH) : Option gO := if l2 = 0 then (cV (gCa K d 153 [.int (1 : Int32)] G1) (t_135_0_3 K d l2 a2)) else (rI G1 a2 4 1 (t_135_0_10 K d G1 l2 a2))
noncomputable def t_135_0 (K : gK) (d : Nat) (l0 : Nat) (l1 : Int32) (l2 : Int32) (G : gH) : Option gO := if g_cls G l0 = some 0 then (cR (gCa K d 157 [.ref l0, .int l1] G) (t_135_0_11 K d l2)) else none
theorem e_135_0 {K : gK} {d : Nat} {l0 : Nat} {l1 : Int32} {l2 : Int32} {G : gH} : gle (t_135_0 K d l0 l1 l2 G) (gRn K d 135 0 [some (.ref l0), some (.int l1), some (.int l2), none] [] G) := by
  unfold t_135_0
  refine g_aload ((q_135 _).trans rfl) rfl ?_
  refine g_iload ((q_135 _).trans rfl) rfl ?_
  refine g_callV (kk := 1) ((q_135 _).trans rfl) (gHn m_135) rfl (by exact ⟨Nat.le_of_ble_eq_true rfl, rfl⟩) rfl (fun w G1 => gm_R (fun a2 hw => ?_))
  subst hw
  refine g_astore ((q_135 _).trans rfl) ?_
  refine g_iload ((q_135 _).trans rfl) rfl ?_
  refine g_ifeq ((q_135 _).trans rfl) (fun _ => ?_) (fun _ => ?_)
  · refine g_push ((q_135 _).trans rfl) ?_
    refine g_goto ((q_135 _).trans rfl) ?_
    refine g_callS (kk := 1) ((q_135 _).trans rfl) (gHn m_135) (by exact ⟨Nat.le_of_ble_eq_true rfl, Nat.le_of_ble_eq_true rfl, rfl⟩) rfl (fun w G3 => gm_V (fun hw => ?_))
    subst hw
    refine g_iload ((q_135 _).trans rfl) rfl ?_
    refine g_ifeq ((q_135 _).trans rfl) (fun _ => ?_) (fun _ => ?_)
    · refine g_aload ((q_135 _).trans rfl) rfl ?_
      refine g_getI ((q_135 _).trans rfl) (fun v5 => ?_)
      exact g_iret ((q_135 _).trans rfl)
    · refine g_aload ((q_135 _).trans rfl) rfl ?_
      refine g_getI ((q_135 _).trans rfl) (fun v6 => ?_)
      refine g_goto ((q_135 _).trans rfl) ?_
      exact g_iret ((q_135 _).trans rfl)
  · refine g_aload ((q_135 _).trans rfl) rfl ?_
    refine g_getI ((q_135 _).trans rfl) (fun v7 => ?_)
    refine g_ifeq ((q_135 _).trans rfl) (fun _ => ?_) (fun _ => ?_)
    · refine g_push ((q_135 _).trans rfl) ?_
      refine g_callS (kk := 1) ((q_135 _).trans rfl) (gHn m_135) (by exact ⟨Nat.le_of_ble_eq_true rfl, Nat.le_of_ble_eq_true rfl, rfl⟩) rfl (fun w G8 => gm_V (fun hw => ?_))
      subst hw
      refine g_iload ((q_135 _).trans rfl) rfl ?_
      refine g_ifeq ((q_135 _).trans rfl) (fun _ => ?_) (fun _ => ?_)
      · refine g_aload ((q_135 _).trans rfl) rfl ?_
        refine g_getI ((q_135 _).trans rfl) (fun v10 => ?_)
        exact g_iret ((q_135 _).trans rfl)
      · refine g_aload ((q_135 _).trans rfl) rfl ?_
        refine g_getI ((q_135 _).trans rfl) (fun v11 => ?_)
        refine g_goto ((q_135 _).trans rfl) ?_
        exact g_iret ((q_135 _).trans rfl)
    · refine g_push ((q_135 _).trans rfl) ?_
      refine g_goto ((q_135 _).trans rfl) ?_
      refine g_callS (kk := 1) ((q_135 _).trans rfl) (gHn m_135) (by exact ⟨Nat.le_of_ble_eq_true rfl, Nat.le_of_ble_eq_true rfl, rfl⟩) rfl (fun w G12 => gm_V (fun hw => ?_))
      subst hw
      refine g_iload ((q_135 _).trans rfl) rfl ?_
      refine g_ifeq ((q_135 _).trans rfl) (fun _ => ?_) (fun _ => ?_)
      · refine g_aload ((q_135 _).trans rfl) rfl ?_
        refine g_getI ((q_135 _).trans rfl) (fun v14 => ?_)
        exact g_iret ((q_135 _).trans rfl)
      · refine g_aload ((q_135 _).trans rfl) rfl ?_
        refine g_getI ((q_135 _).trans rfl) (fun v15 => ?_)
        refine g_goto ((q_135 _).trans rfl) ?_
        exact g_iret ((q_135 _).trans rfl)
theorem c_135 {K : gK} {d : Nat} {l0 : Nat} {l1 : Int32} {l2 : Int32} {G : gH} : gle (t_135_0 K d l0 l1 l2 G) (gCa K (d + 1) 135 [.ref l0, .int l1, .int l2] G) := by
  have h : gent (gMx 135) [.ref l0, .int l1, .int l2] = [some (.ref l0), some (.int l1), some (.int l2), none] := by
    show gent (gT 135).2.2.2.1 _ = _
    rw [m_135]; rfl
  exact fun r e => (congrArg (fun q => gRn K d 135 0 q [] G) h).trans (e_135_0 r e)
theorem q_136 {K : gK} (pc : Nat) : gP K 136 pc = ((gL_136 K).lookup pc).getD o_none := rfl
noncomputable def t_136_0_1 (K : gK) (d : Nat) (v4 : Int32) (G3 : gH) : Option gO := some (.inl (some (.int v4)), G3)
noncomputable def t_136_0_2 (K : gK) (d : Nat) (a2 : Nat) (G1 : gH) : Option gO := if g_cls G1 a2 = some 8 then (cI (gCa K d 190 [.ref a2] G1) (t_136_0_1 K d)) else none
noncomputable def t_136_0 (K : gK) (d : Nat) (l0 : Nat) (l1 : Int32) (G : gH) : Option gO := if g_cls G l0 = some 0 then (cR (gCa K d 189 [.ref l0, .int l1] G) (t_136_0_2 K d)) else none
theorem e_136_0 {K : gK} {d : Nat} {l0 : Nat} {l1 : Int32} {G : gH} : gle (t_136_0 K d l0 l1 G) (gRn K d 136 0 [some (.ref l0), some (.int l1)] [] G) := by
  unfold t_136_0
  refine g_aload ((q_136 _).trans rfl) rfl ?_
  refine g_iload ((q_136 _).trans rfl) rfl ?_
  refine g_callV (kk := 1) ((q_136 _).trans rfl) (gHn m_136) rfl (by exact ⟨Nat.le_of_ble_eq_true rfl, rfl⟩) rfl (fun w G1 => gm_R (fun a2 hw => ?_))
  subst hw
  refine g_callV (kk := 0) ((q_136 _).trans rfl) (gHn m_136) rfl (by exact ⟨Nat.le_of_ble_eq_true rfl, rfl⟩) rfl (fun w G3 => gm_I (fun v4 hw => ?_))
  subst hw
  exact g_iret ((q_136 _).trans rfl)
theorem c_136 {K : gK} {d : Nat} {l0 : Nat} {l1 : Int32} {G : gH} : gle (t_136_0 K d l0 l1 G) (gCa K (d + 1) 136 [.ref l0, .int l1] G) := by
  have h : gent (gMx 136) [.ref l0, .int l1] = [some (.ref l0), some (.int l1)] := by
    show gent (gT 136).2.2.2.1 _ = _
    rw [m_136]; rfl
  exact fun r e => (congrArg (fun q => gRn K d 136 0 q [] G) h).trans (e_136_0 r e)
theorem q_137 {K : gK} (pc : Nat) : gP K 137 pc = ((gL_137 K).lookup pc).getD o_none := rfl
noncomputable def t_137_0 (K : gK) (d : Nat) (l0 : Nat) (l1 : Int32) (l2 : Int32) (G : gH) : Option gO := gRn K d 137 7 [some (.ref l0), some (.int l1), some (.int l2), some (.int (2147483647 : Int32)), some (.int (0 : Int32)), none, none, none] [] G
theorem e_137_0 {K : gK} {d : Nat} {l0 : Nat} {l1 : Int32} {l2 : Int32} {G : gH} : gle (t_137_0 K d l0 l1 l2 G) (gRn K d 137 0 [some (.ref l0), some (.int l1), some (.int l2), none, none, none, none, none] [] G) := by
  unfold t_137_0
  refine g_push ((q_137 _).trans rfl) ?_
  refine g_istore ((q_137 _).trans rfl) ?_
  refine g_push ((q_137 _).trans rfl) ?_
  refine g_istore ((q_137 _).trans rfl) ?_
  exact gle.rf _
theorem c_137 {K : gK} {d : Nat} {l0 : Nat} {l1 : Int32} {l2 : Int32} {G : gH} : gle (t_137_0 K d l0 l1 l2 G) (gCa K (d + 1) 137 [.ref l0, .int l1, .int l2] G) := by
  have h : gent (gMx 137) [.ref l0, .int l1, .int l2] = [some (.ref l0), some (.int l1), some (.int l2), none, none, none, none, none] := by
    show gent (gT 137).2.2.2.1 _ = _
    rw [m_137]; rfl
  exact fun r e => (congrArg (fun q => gRn K d 137 0 q [] G) h).trans (e_137_0 r e)
noncomputable def t_137_7_1 (K : gK) (d : Nat) (v3 : Int32) (l3 : Int32) (v5 : Int32) (l2 : Int32) (v7 : Int32) (v11 : Int32) (l0 : Nat) (l1 : Int32) (l4 : Int32) (v13 : Int32) (G12 : gH) : Option gO := if v3 = 0 then none else (if l3 ≤ ((v5 + (l2 * v7)) / v3) then (if l3 ≤ ((v11 + (l2 * v13)) / v3) then (gRn K d 137 7 [some (.ref l0), some (.int l1), some (.int l2), some (.int l3), some (.int (l4 + 1)), some (.int v3), some (.int ((v5 + (l2 * v7)) / v3)), some (.int ((v11 + (l2 * v13)) / v3))] [] G12) else (gRn K d 137 7 [some (.ref l0), some (.int l1), some (.int l2), some (.int ((v11 + (l2 * v13)) / v3)), some (.int (l4 + 1)), some (.int v3), some (.int ((v5 + (l2 * v7)) / v3)), some (.int ((v11 + (l2 * v13)) / v3))] [] G12)) else (if ((v5 + (l2 * v7)) / v3) ≤ ((v11 + (l2 * v13)) / v3) then (gRn K d 137 7 [some (.ref l0), some (.int l1), some (.int l2), some (.int ((v5 + (l2 * v7)) / v3)), some (.int (l4 + 1)), some (.int v3), some (.int ((v5 + (l2 * v7)) / v3)), some (.int ((v11 + (l2 * v13)) / v3))] [] G12) else (gRn K d 137 7 [some (.ref l0), some (.int l1), some (.int l2), some (.int ((v11 + (l2 * v13)) / v3)), some (.int (l4 + 1)), some (.int v3), some (.int ((v5 + (l2 * v7)) / v3)), some (.int ((v11 + (l2 * v13)) / v3))] [] G12)))
noncomputable def t_137_7_2 (K : gK) (d : Nat) (G6 : gH) (l0 : Nat) (l4 : Int32) (v3 : Int32) (l3 : Int32) (v5 : Int32) (l2 : Int32) (v7 : Int32) (l1 : Int32) (v11 : Int32) : Option gO := if g_cls G6 l0 = some 3 then (cI (gCa K d 134 [.ref l0, .int l4, .int (1 : Int32)] G6) (t_137_7_1 K d v3 l3 v5 l2 v7 v11 l0 l1 l4)) else none
noncomputable def t_137_7_3 (K : gK) (d : Nat) (G6 : gH) (l4 : Int32) (l0 : Nat) (v3 : Int32) (l3 : Int32) (v5 : Int32) (l2 : Int32) (v7 : Int32) (l1 : Int32) (a10 : Nat) : Option gO := xI G6 a10 0 (((2 : Int32) * l4) + (1 : Int32)) (t_137_7_2 K d G6 l0 l4 v3 l3 v5 l2 v7 l1)
noncomputable def t_137_7_4 (K : gK) (d : Nat) (l3 : Int32) (v5 : Int32) (l2 : Int32) (v7 : Int32) (v3 : Int32) (l0 : Nat) (l1 : Int32) (l4 : Int32) (G6 : gH) (v9 : Int32) : Option gO := if v9 = 0 then (if l3 ≤ ((v5 + (l2 * v7)) / v3) then (if l3 ≤ ((v5 + (l2 * v7)) / v3) then (gRn K d 137 7 [some (.ref l0), some (.int l1), some (.int l2), some (.int l3), some (.int (l4 + 1)), some (.int v3), some (.int ((v5 + (l2 * v7)) / v3)), some (.int ((v5 + (l2 * v7)) / v3))] [] G6) else (gRn K d 137 7 [some (.ref l0), some (.int l1), some (.int l2), some (.int ((v5 + (l2 * v7)) / v3)), some (.int (l4 + 1)), some (.int v3), some (.int ((v5 + (l2 * v7)) / v3)), some (.int ((v5 + (l2 * v7)) / v3))] [] G6)) else (if ((v5 + (l2 * v7)) / v3) ≤ ((v5 + (l2 * v7)) / v3) then (gRn K d 137 7 [some (.ref l0), some (.int l1), some (.int l2), some (.int ((v5 + (l2 * v7)) / v3)), some (.int (l4 + 1)), some (.int v3), some (.int ((v5 + (l2 * v7)) / v3)), some (.int ((v5 + (l2 * v7)) / v3))] [] G6) else (gRn K d 137 7 [some (.ref l0), some (.int l1), some (.int l2), some (.int ((v5 + (l2 * v7)) / v3)), some (.int (l4 + 1)), some (.int v3), some (.int ((v5 + (l2 * v7)) / v3)), some (.int ((v5 + (l2 * v7)) / v3))] [] G6))) else (rR G6 l0 3 16 (t_137_7_3 K d G6 l4 l0 v3 l3 v5 l2 v7 l1))
noncomputable def t_137_7_5 (K : gK) (d : Nat) (G6 : gH) (l4 : Int32) (l3 : Int32) (v5 : Int32) (l2 : Int32) (v7 : Int32) (v3 : Int32) (l0 : Nat) (l1 : Int32) (a8 : Nat) : Option gO := xI G6 a8 1 l4 (t_137_7_4 K d l3 v5 l2 v7 v3 l0 l1 l4 G6)
noncomputable def t_137_7_6 (K : gK) (d : Nat) (v3 : Int32) (l0 : Nat) (l4 : Int32) (l3 : Int32) (v5 : Int32) (l2 : Int32) (l1 : Int32) (v7 : Int32) (G6 : gH) : Option gO := if v3 = 0 then none else (rR G6 l0 3 9 (t_137_7_5 K d G6 l4 l3 v5 l2 v7 v3 l0 l1))
noncomputable def t_137_7_7 (K : gK) (d : Nat) (G : gH) (l0 : Nat) (l4 : Int32) (v3 : Int32) (l3 : Int32) (l2 : Int32) (l1 : Int32) (v5 : Int32) : Option gO := if g_cls G l0 = some 3 then (cI (gCa K d 134 [.ref l0, .int l4, .int (0 : Int32)] G) (t_137_7_6 K d v3 l0 l4 l3 v5 l2 l1)) else none
noncomputable def t_137_7_8 (K : gK) (d : Nat) (G : gH) (l4 : Int32) (l0 : Nat) (v3 : Int32) (l3 : Int32) (l2 : Int32) (l1 : Int32) (a4 : Nat) : Option gO := xI G a4 0 ((2 : Int32) * l4) (t_137_7_7 K d G l0 l4 v3 l3 l2 l1)
noncomputable def t_137_7_9 (K : gK) (d : Nat) (l0 : Nat) (l1 : Int32) (l2 : Int32) (l3 : Int32) (l4 : Int32) (o6 : Option Value) (o7 : Option Value) (G : gH) (v3 : Int32) : Option gO := if v3 ≤ 0 then (gRn K d 137 7 [some (.ref l0), some (.int l1), some (.int l2), some (.int l3), some (.int (l4 + 1)), some (.int v3), o6, o7] [] G) else (rR G l0 3 16 (t_137_7_8 K d G l4 l0 v3 l3 l2 l1))
noncomputable def t_137_7_10 (K : gK) (d : Nat) (G : gH) (l1 : Int32) (l4 : Int32) (l0 : Nat) (l2 : Int32) (l3 : Int32) (o6 : Option Value) (o7 : Option Value) (a2 : Nat) : Option gO := xI G a2 0 (((8 : Int32) * l1) + l4) (t_137_7_9 K d l0 l1 l2 l3 l4 o6 o7 G)
noncomputable def t_137_7_11 (K : gK) (d : Nat) (l4 : Int32) (l3 : Int32) (G : gH) (l0 : Nat) (l1 : Int32) (l2 : Int32) (o6 : Option Value) (o7 : Option Value) (v1 : Int32) : Option gO := if v1 ≤ l4 then (some (.inl (some (.int l3)), G)) else (rR G l0 3 29 (t_137_7_10 K d G l1 l4 l0 l2 l3 o6 o7))
noncomputable def t_137_7 (K : gK) (d : Nat) (l0 : Nat) (l1 : Int32) (l2 : Int32) (l3 : Int32) (l4 : Int32) (o5 : Option Value) (o6 : Option Value) (o7 : Option Value) (G : gH) : Option gO := rI G l0 3 7 (t_137_7_11 K d l4 l3 G l0 l1 l2 o6 o7)
theorem e_137_7 {K : gK} {d : Nat} {l0 : Nat} {l1 : Int32} {l2 : Int32} {l3 : Int32} {l4 : Int32} {o5 : Option Value} {o6 : Option Value} {o7 : Option Value} {G : gH} : gle (t_137_7 K d l0 l1 l2 l3 l4 o5 o6 o7 G) (gRn K d 137 7 [some (.ref l0), some (.int l1), some (.int l2), some (.int l3), some (.int l4), o5, o6, o7] [] G) := by
  unfold t_137_7
  refine g_iload ((q_137 _).trans rfl) rfl ?_
  refine g_aload ((q_137 _).trans rfl) rfl ?_
  refine g_getI ((q_137 _).trans rfl) (fun v1 => ?_)
  refine g_cmpge ((q_137 _).trans rfl) (fun _ => ?_) (fun _ => ?_)
  · refine g_iload ((q_137 _).trans rfl) rfl ?_
    exact g_iret ((q_137 _).trans rfl)
  · refine g_aload ((q_137 _).trans rfl) rfl ?_
    refine g_getR ((q_137 _).trans rfl) (fun a2 => ?_)
    refine g_push ((q_137 _).trans rfl) ?_
    refine g_iload ((q_137 _).trans rfl) rfl ?_
    refine g_imul ((q_137 _).trans rfl) ?_
    refine g_iload ((q_137 _).trans rfl) rfl ?_
    refine g_iadd ((q_137 _).trans rfl) ?_
    refine g_iald ((q_137 _).trans rfl) (fun v3 => ?_)
    refine g_istore ((q_137 _).trans rfl) ?_
    refine g_iload ((q_137 _).trans rfl) rfl ?_
    refine g_ifle ((q_137 _).trans rfl) (fun _ => ?_) (fun _ => ?_)
    · refine g_iinc ((q_137 _).trans rfl) rfl ?_
      refine g_goto ((q_137 _).trans rfl) ?_
      exact gle.rf _
    · refine g_aload ((q_137 _).trans rfl) rfl ?_
      refine g_getR ((q_137 _).trans rfl) (fun a4 => ?_)
      refine g_push ((q_137 _).trans rfl) ?_
      refine g_iload ((q_137 _).trans rfl) rfl ?_
      refine g_imul ((q_137 _).trans rfl) ?_
      refine g_iald ((q_137 _).trans rfl) (fun v5 => ?_)
      refine g_iload ((q_137 _).trans rfl) rfl ?_
      refine g_aload ((q_137 _).trans rfl) rfl ?_
      refine g_iload ((q_137 _).trans rfl) rfl ?_
      refine g_push ((q_137 _).trans rfl) ?_
      refine g_callV (kk := 2) ((q_137 _).trans rfl) (gHn m_137) rfl (by exact ⟨Nat.le_of_ble_eq_true rfl, rfl⟩) rfl (fun w G6 => gm_I (fun v7 hw => ?_))
      subst hw
      refine g_imul ((q_137 _).trans rfl) ?_
      refine g_iadd ((q_137 _).trans rfl) ?_
      refine g_iload ((q_137 _).trans rfl) rfl ?_
      refine g_idiv ((q_137 _).trans rfl) (fun _ => ?_)
      refine g_istore ((q_137 _).trans rfl) ?_
      refine g_aload ((q_137 _).trans rfl) rfl ?_
      refine g_getR ((q_137 _).trans rfl) (fun a8 => ?_)
      refine g_iload ((q_137 _).trans rfl) rfl ?_
      refine g_iald ((q_137 _).trans rfl) (fun v9 => ?_)
      refine g_ifeq ((q_137 _).trans rfl) (fun _ => ?_) (fun _ => ?_)
      · refine g_iload ((q_137 _).trans rfl) rfl ?_
        refine g_istore ((q_137 _).trans rfl) ?_
        refine g_iload ((q_137 _).trans rfl) rfl ?_
        refine g_iload ((q_137 _).trans rfl) rfl ?_
        refine g_cmpge ((q_137 _).trans rfl) (fun _ => ?_) (fun _ => ?_)
        · refine g_iload ((q_137 _).trans rfl) rfl ?_
          refine g_istore ((q_137 _).trans rfl) ?_
          refine g_iload ((q_137 _).trans rfl) rfl ?_
          refine g_iload ((q_137 _).trans rfl) rfl ?_
          refine g_cmpge ((q_137 _).trans rfl) (fun _ => ?_) (fun _ => ?_)
          · refine g_iload ((q_137 _).trans rfl) rfl ?_
            refine g_istore ((q_137 _).trans rfl) ?_
            refine g_iinc ((q_137 _).trans rfl) rfl ?_
            refine g_goto ((q_137 _).trans rfl) ?_
            exact gle.rf _
          · refine g_iload ((q_137 _).trans rfl) rfl ?_
            refine g_goto ((q_137 _).trans rfl) ?_
            refine g_istore ((q_137 _).trans rfl) ?_
            refine g_iinc ((q_137 _).trans rfl) rfl ?_
            refine g_goto ((q_137 _).trans rfl) ?_
            exact gle.rf _
        · refine g_iload ((q_137 _).trans rfl) rfl ?_
          refine g_goto ((q_137 _).trans rfl) ?_
          refine g_istore ((q_137 _).trans rfl) ?_
          refine g_iload ((q_137 _).trans rfl) rfl ?_
          refine g_iload ((q_137 _).trans rfl) rfl ?_
          refine g_cmpge ((q_137 _).trans rfl) (fun _ => ?_) (fun _ => ?_)
          · refine g_iload ((q_137 _).trans rfl) rfl ?_
            refine g_istore ((q_137 _).trans rfl) ?_
            refine g_iinc ((q_137 _).trans rfl) rfl ?_
            refine g_goto ((q_137 _).trans rfl) ?_
            exact gle.rf _
          · refine g_iload ((q_137 _).trans rfl) rfl ?_
            refine g_goto ((q_137 _).trans rfl) ?_
            refine g_istore ((q_137 _).trans rfl) ?_
            refine g_iinc ((q_137 _).trans rfl) rfl ?_
            refine g_goto ((q_137 _).trans rfl) ?_
            exact gle.rf _
      · refine g_aload ((q_137 _).trans rfl) rfl ?_
        refine g_getR ((q_137 _).trans rfl) (fun a10 => ?_)
        refine g_push ((q_137 _).trans rfl) ?_
        refine g_iload ((q_137 _).trans rfl) rfl ?_
        refine g_imul ((q_137 _).trans rfl) ?_
        refine g_push ((q_137 _).trans rfl) ?_
        refine g_iadd ((q_137 _).trans rfl) ?_
        refine g_iald ((q_137 _).trans rfl) (fun v11 => ?_)
        refine g_iload ((q_137 _).trans rfl) rfl ?_
        refine g_aload ((q_137 _).trans rfl) rfl ?_
        refine g_iload ((q_137 _).trans rfl) rfl ?_
        refine g_push ((q_137 _).trans rfl) ?_
        refine g_callV (kk := 2) ((q_137 _).trans rfl) (gHn m_137) rfl (by exact ⟨Nat.le_of_ble_eq_true rfl, rfl⟩) rfl (fun w G12 => gm_I (fun v13 hw => ?_))
        subst hw
        refine g_imul ((q_137 _).trans rfl) ?_
        refine g_iadd ((q_137 _).trans rfl) ?_
        refine g_iload ((q_137 _).trans rfl) rfl ?_
        refine g_idiv ((q_137 _).trans rfl) (fun _ => ?_)
        refine g_goto ((q_137 _).trans rfl) ?_
        refine g_istore ((q_137 _).trans rfl) ?_
        refine g_iload ((q_137 _).trans rfl) rfl ?_
        refine g_iload ((q_137 _).trans rfl) rfl ?_
        refine g_cmpge ((q_137 _).trans rfl) (fun _ => ?_) (fun _ => ?_)
        · refine g_iload ((q_137 _).trans rfl) rfl ?_
          refine g_istore ((q_137 _).trans rfl) ?_
          refine g_iload ((q_137 _).trans rfl) rfl ?_
          refine g_iload ((q_137 _).trans rfl) rfl ?_
          refine g_cmpge ((q_137 _).trans rfl) (fun _ => ?_) (fun _ => ?_)
          · refine g_iload ((q_137 _).trans rfl) rfl ?_
            refine g_istore ((q_137 _).trans rfl) ?_
            refine g_iinc ((q_137 _).trans rfl) rfl ?_
            refine g_goto ((q_137 _).trans rfl) ?_
            exact gle.rf _
          · refine g_iload ((q_137 _).trans rfl) rfl ?_
            refine g_goto ((q_137 _).trans rfl) ?_
            refine g_istore ((q_137 _).trans rfl) ?_
            refine g_iinc ((q_137 _).trans rfl) rfl ?_
            refine g_goto ((q_137 _).trans rfl) ?_
            exact gle.rf _
        · refine g_iload ((q_137 _).trans rfl) rfl ?_
          refine g_goto ((q_137 _).trans rfl) ?_
          refine g_istore ((q_137 _).trans rfl) ?_
          refine g_iload ((q_137 _).trans rfl) rfl ?_
          refine g_iload ((q_137 _).trans rfl) rfl ?_
          refine g_cmpge ((q_137 _).trans rfl) (fun _ => ?_) (fun _ => ?_)
          · refine g_iload ((q_137 _).trans rfl) rfl ?_
            refine g_istore ((q_137 _).trans rfl) ?_
            refine g_iinc ((q_137 _).trans rfl) rfl ?_
            refine g_goto ((q_137 _).trans rfl) ?_
            exact gle.rf _
          · refine g_iload ((q_137 _).trans rfl) rfl ?_
            refine g_goto ((q_137 _).trans rfl) ?_
            refine g_istore ((q_137 _).trans rfl) ?_
            refine g_iinc ((q_137 _).trans rfl) rfl ?_
            refine g_goto ((q_137 _).trans rfl) ?_
            exact gle.rf _
theorem q_138 {K : gK} (pc : Nat) : gP K 138 pc = ((gL_138 K).lookup pc).getD o_none := rfl
noncomputable def t_138_0_1 (K : gK) (d : Nat) (l0 : Nat) (l1 : Int32) (a2 : Nat) (G1 : gH) : Option gO := gRn K d 138 8 [some (.ref l0), some (.int l1), some (.ref a2), some (.int (0 : Int32))] [] G1
noncomputable def t_138_0 (K : gK) (d : Nat) (l0 : Nat) (l1 : Int32) (G : gH) : Option gO := if g_cls G l0 = some 0 then (cR (gCa K d 189 [.ref l0, .int l1] G) (t_138_0_1 K d l0 l1)) else none
theorem e_138_0 {K : gK} {d : Nat} {l0 : Nat} {l1 : Int32} {G : gH} : gle (t_138_0 K d l0 l1 G) (gRn K d 138 0 [some (.ref l0), some (.int l1), none, none] [] G) := by
  unfold t_138_0
  refine g_aload ((q_138 _).trans rfl) rfl ?_
  refine g_iload ((q_138 _).trans rfl) rfl ?_
  refine g_callV (kk := 1) ((q_138 _).trans rfl) (gHn m_138) rfl (by exact ⟨Nat.le_of_ble_eq_true rfl, rfl⟩) rfl (fun w G1 => gm_R (fun a2 hw => ?_))
  subst hw
  refine g_astore ((q_138 _).trans rfl) ?_
  refine g_push ((q_138 _).trans rfl) ?_
  refine g_istore ((q_138 _).trans rfl) ?_
  exact gle.rf _
theorem c_138 {K : gK} {d : Nat} {l0 : Nat} {l1 : Int32} {G : gH} : gle (t_138_0 K d l0 l1 G) (gCa K (d + 1) 138 [.ref l0, .int l1] G) := by
  have h : gent (gMx 138) [.ref l0, .int l1] = [some (.ref l0), some (.int l1), none, none] := by
    show gent (gT 138).2.2.2.1 _ = _
    rw [m_138]; rfl
  exact fun r e => (congrArg (fun q => gRn K d 138 0 q [] G) h).trans (e_138_0 r e)
noncomputable def t_138_8_1 (K : gK) (d : Nat) (l3 : Int32) (l0 : Nat) (l1 : Int32) (l2 : Nat) (v2 : Int32) (G1 : gH) : Option gO := if v2 = 0 then (some (.inl (some (.int l3)), G1)) else (gRn K d 138 8 [some (.ref l0), some (.int l1), some (.ref l2), some (.int (l3 + 1))] [] G1)
noncomputable def t_138_8 (K : gK) (d : Nat) (l0 : Nat) (l1 : Int32) (l2 : Nat) (l3 : Int32) (G : gH) : Option gO := if g_cls G l0 = some 0 then (cI (gCa K d 191 [.ref l0, .ref l2, .int (l3 + (1 : Int32)), .int (0 : Int32)] G) (t_138_8_1 K d l3 l0 l1 l2)) else none
theorem e_138_8 {K : gK} {d : Nat} {l0 : Nat} {l1 : Int32} {l2 : Nat} {l3 : Int32} {G : gH} : gle (t_138_8 K d l0 l1 l2 l3 G) (gRn K d 138 8 [some (.ref l0), some (.int l1), some (.ref l2), some (.int l3)] [] G) := by
  unfold t_138_8
  refine g_aload ((q_138 _).trans rfl) rfl ?_
  refine g_aload ((q_138 _).trans rfl) rfl ?_
  refine g_iload ((q_138 _).trans rfl) rfl ?_
  refine g_push ((q_138 _).trans rfl) ?_
  refine g_iadd ((q_138 _).trans rfl) ?_
  refine g_push ((q_138 _).trans rfl) ?_
  refine g_callV (kk := 3) ((q_138 _).trans rfl) (gHn m_138) rfl (by exact ⟨Nat.le_of_ble_eq_true rfl, rfl⟩) rfl (fun w G1 => gm_I (fun v2 hw => ?_))
  subst hw
  refine g_ifeq ((q_138 _).trans rfl) (fun _ => ?_) (fun _ => ?_)
  · refine g_iload ((q_138 _).trans rfl) rfl ?_
    exact g_iret ((q_138 _).trans rfl)
  · refine g_iinc ((q_138 _).trans rfl) rfl ?_
    refine g_goto ((q_138 _).trans rfl) ?_
    exact gle.rf _
theorem q_139 {K : gK} (pc : Nat) : gP K 139 pc = ((gL_139 K).lookup pc).getD o_none := rfl
noncomputable def t_139_0_1 (K : gK) (d : Nat) (G19 : gH) (v20 : Int32) : Option gO := some (.inl (some (.int v20)), G19)
noncomputable def t_139_0_2 (K : gK) (d : Nat) (a2 : Nat) (G19 : gH) : Option gO := rI G19 a2 8 1 (t_139_0_1 K d G19)
noncomputable def t_139_0_3 (K : gK) (d : Nat) (l2 : Int32) (G16 : gH) (a2 : Nat) (v18 : Int32) : Option gO := if narrow .int (.int (v18 + l2)) = .int (v18 + l2) ∧ fits .int (.int (v18 + l2)) = true then wF G16 a2 8 1 (.int (v18 + l2)) (t_139_0_2 K d a2) else none
noncomputable def t_139_0_4 (K : gK) (d : Nat) (a2 : Nat) (l2 : Int32) (G16 : gH) : Option gO := rI G16 a2 8 1 (t_139_0_3 K d l2 G16 a2)
noncomputable def t_139_0_5 (K : gK) (d : Nat) (a2 : Nat) (l2 : Int32) (G14 : gH) : Option gO := if g_cls G14 a2 = some 8 then (cV (gCa K d 192 [.ref a2, .int l2] G14) (t_139_0_4 K d a2 l2)) else none
noncomputable def t_139_0_6 (K : gK) (d : Nat) (a2 : Nat) (l2 : Int32) (v13 : Int32) (G12 : gH) : Option gO := cV (gCa K d 151 [.int v13] G12) (t_139_0_5 K d a2 l2)
noncomputable def t_139_0_7 (K : gK) (d : Nat) (l0 : Nat) (a2 : Nat) (l2 : Int32) (G10 : gH) : Option gO := if g_cls G10 l0 = some 0 then (cI (gCa K d 191 [.ref l0, .ref a2, .int l2, .int (0 : Int32)] G10) (t_139_0_6 K d a2 l2)) else none
noncomputable def t_139_0_8 (K : gK) (d : Nat) (G30 : gH) (v31 : Int32) : Option gO := some (.inl (some (.int v31)), G30)
noncomputable def t_139_0_9 (K : gK) (d : Nat) (a2 : Nat) (G30 : gH) : Option gO := rI G30 a2 8 1 (t_139_0_8 K d G30)
noncomputable def t_139_0_10 (K : gK) (d : Nat) (l2 : Int32) (G27 : gH) (a2 : Nat) (v29 : Int32) : Option gO := if narrow .int (.int (v29 + l2)) = .int (v29 + l2) ∧ fits .int (.int (v29 + l2)) = true then wF G27 a2 8 1 (.int (v29 + l2)) (t_139_0_9 K d a2) else none
noncomputable def t_139_0_11 (K : gK) (d : Nat) (a2 : Nat) (l2 : Int32) (G27 : gH) : Option gO := rI G27 a2 8 1 (t_139_0_10 K d l2 G27 a2)
noncomputable def t_139_0_12 (K : gK) (d : Nat) (a2 : Nat) (l2 : Int32) (G25 : gH) : Option gO := if g_cls G25 a2 = some 8 then (cV (gCa K d 192 [.ref a2, .int l2] G25) (t_139_0_11 K d a2 l2)) else none
noncomputable def t_139_0_13 (K : gK) (d : Nat) (a2 : Nat) (l2 : Int32) (v24 : Int32) (G23 : gH) : Option gO := cV (gCa K d 151 [.int v24] G23) (t_139_0_12 K d a2 l2)
noncomputable def t_139_0_14 (K : gK) (d : Nat) (l0 : Nat) (a2 : Nat) (l2 : Int32) (G21 : gH) : Option gO := if g_cls G21 l0 = some 0 then (cI (gCa K d 191 [.ref l0, .ref a2, .int l2, .int (0 : Int32)] G21) (t_139_0_13 K d a2 l2)) else none
noncomputable def t_139_0_15 (K : gK) (d : Nat) (l0 : Nat) (a2 : Nat) (l2 : Int32) (v9 : Int32) (G8 : gH) : Option gO := if v9 = 0 then (cV (gCa K d 153 [.int (1 : Int32)] G8) (t_139_0_7 K d l0 a2 l2)) else (cV (gCa K d 153 [.int (0 : Int32)] G8) (t_139_0_14 K d l0 a2 l2))
noncomputable def t_139_0_16 (K : gK) (d : Nat) (G5 : gH) (l0 : Nat) (a2 : Nat) (l2 : Int32) (a7 : Nat) : Option gO := if g_cls G5 a7 = some 12 then (cI (gCa K d 150 [.ref a7] G5) (t_139_0_15 K d l0 a2 l2)) else none
noncomputable def t_139_0_17 (K : gK) (d : Nat) (a2 : Nat) (l0 : Nat) (l2 : Int32) (G5 : gH) : Option gO := rR G5 a2 8 0 (t_139_0_16 K d G5 l0 a2 l2)
noncomputable def t_139_0_18 (K : gK) (d : Nat) (a2 : Nat) (l0 : Nat) (l2 : Int32) (v4 : Int32) (G3 : gH) : Option gO := cV (gCa K d 149 [.int v4] G3) (t_139_0_17 K d a2 l0 l2)
noncomputable def t_139_0_19 (K : gK) (d : Nat) (l2 : Int32) (l0 : Nat) (a2 : Nat) (G1 : gH) : Option gO := cI (gCa K d 148 [.int l2, .int (1 : Int32), .int (99 : Int32)] G1) (t_139_0_18 K d a2 l0 l2)
noncomputable def t_139_0 (K : gK) (d : Nat) (l0 : Nat) (l1 : Int32) (l2 : Int32) (G : gH) : Option gO := if g_cls G l0 = some 0 then (cR (gCa K d 181 [.ref l0, .int l1] G) (t_139_0_19 K d l2 l0)) else none
theorem e_139_0 {K : gK} {d : Nat} {l0 : Nat} {l1 : Int32} {l2 : Int32} {G : gH} : gle (t_139_0 K d l0 l1 l2 G) (gRn K d 139 0 [some (.ref l0), some (.int l1), some (.int l2), none] [] G) := by
  unfold t_139_0
  refine g_aload ((q_139 _).trans rfl) rfl ?_
  refine g_iload ((q_139 _).trans rfl) rfl ?_
  refine g_callV (kk := 1) ((q_139 _).trans rfl) (gHn m_139) rfl (by exact ⟨Nat.le_of_ble_eq_true rfl, rfl⟩) rfl (fun w G1 => gm_R (fun a2 hw => ?_))
  subst hw
  refine g_astore ((q_139 _).trans rfl) ?_
  refine g_iload ((q_139 _).trans rfl) rfl ?_
  refine g_push ((q_139 _).trans rfl) ?_
  refine g_push ((q_139 _).trans rfl) ?_
  refine g_callS (kk := 3) ((q_139 _).trans rfl) (gHn m_139) (by exact ⟨Nat.le_of_ble_eq_true rfl, Nat.le_of_ble_eq_true rfl, rfl⟩) rfl (fun w G3 => gm_I (fun v4 hw => ?_))
  subst hw
  refine g_callS (kk := 1) ((q_139 _).trans rfl) (gHn m_139) (by exact ⟨Nat.le_of_ble_eq_true rfl, Nat.le_of_ble_eq_true rfl, rfl⟩) rfl (fun w G5 => gm_V (fun hw => ?_))
  subst hw
  refine g_aload ((q_139 _).trans rfl) rfl ?_
  refine g_getR ((q_139 _).trans rfl) (fun a7 => ?_)
  refine g_callV (kk := 0) ((q_139 _).trans rfl) (gHn m_139) rfl (by exact ⟨Nat.le_of_ble_eq_true rfl, rfl⟩) rfl (fun w G8 => gm_I (fun v9 hw => ?_))
  subst hw
  refine g_ifne ((q_139 _).trans rfl) (fun _ => ?_) (fun _ => ?_)
  · refine g_push ((q_139 _).trans rfl) ?_
    refine g_goto ((q_139 _).trans rfl) ?_
    refine g_callS (kk := 1) ((q_139 _).trans rfl) (gHn m_139) (by exact ⟨Nat.le_of_ble_eq_true rfl, Nat.le_of_ble_eq_true rfl, rfl⟩) rfl (fun w G10 => gm_V (fun hw => ?_))
    subst hw
    refine g_aload ((q_139 _).trans rfl) rfl ?_
    refine g_aload ((q_139 _).trans rfl) rfl ?_
    refine g_iload ((q_139 _).trans rfl) rfl ?_
    refine g_push ((q_139 _).trans rfl) ?_
    refine g_callV (kk := 3) ((q_139 _).trans rfl) (gHn m_139) rfl (by exact ⟨Nat.le_of_ble_eq_true rfl, rfl⟩) rfl (fun w G12 => gm_I (fun v13 hw => ?_))
    subst hw
    refine g_callS (kk := 1) ((q_139 _).trans rfl) (gHn m_139) (by exact ⟨Nat.le_of_ble_eq_true rfl, Nat.le_of_ble_eq_true rfl, rfl⟩) rfl (fun w G14 => gm_V (fun hw => ?_))
    subst hw
    refine g_aload ((q_139 _).trans rfl) rfl ?_
    refine g_iload ((q_139 _).trans rfl) rfl ?_
    refine g_callV (kk := 1) ((q_139 _).trans rfl) (gHn m_139) rfl (by exact ⟨Nat.le_of_ble_eq_true rfl, rfl⟩) rfl (fun w G16 => gm_V (fun hw => ?_))
    subst hw
    refine g_aload ((q_139 _).trans rfl) rfl ?_
    refine g_dup_ref ((q_139 _).trans rfl) ?_
    refine g_getI ((q_139 _).trans rfl) (fun v18 => ?_)
    refine g_iload ((q_139 _).trans rfl) rfl ?_
    refine g_iadd ((q_139 _).trans rfl) ?_
    refine g_putf ((q_139 _).trans rfl) (fun G19 => ?_)
    refine g_aload ((q_139 _).trans rfl) rfl ?_
    refine g_getI ((q_139 _).trans rfl) (fun v20 => ?_)
    exact g_iret ((q_139 _).trans rfl)
  · refine g_push ((q_139 _).trans rfl) ?_
    refine g_callS (kk := 1) ((q_139 _).trans rfl) (gHn m_139) (by exact ⟨Nat.le_of_ble_eq_true rfl, Nat.le_of_ble_eq_true rfl, rfl⟩) rfl (fun w G21 => gm_V (fun hw => ?_))
    subst hw
    refine g_aload ((q_139 _).trans rfl) rfl ?_
    refine g_aload ((q_139 _).trans rfl) rfl ?_
    refine g_iload ((q_139 _).trans rfl) rfl ?_
    refine g_push ((q_139 _).trans rfl) ?_
    refine g_callV (kk := 3) ((q_139 _).trans rfl) (gHn m_139) rfl (by exact ⟨Nat.le_of_ble_eq_true rfl, rfl⟩) rfl (fun w G23 => gm_I (fun v24 hw => ?_))
    subst hw
    refine g_callS (kk := 1) ((q_139 _).trans rfl) (gHn m_139) (by exact ⟨Nat.le_of_ble_eq_true rfl, Nat.le_of_ble_eq_true rfl, rfl⟩) rfl (fun w G25 => gm_V (fun hw => ?_))
    subst hw
    refine g_aload ((q_139 _).trans rfl) rfl ?_
    refine g_iload ((q_139 _).trans rfl) rfl ?_
    refine g_callV (kk := 1) ((q_139 _).trans rfl) (gHn m_139) rfl (by exact ⟨Nat.le_of_ble_eq_true rfl, rfl⟩) rfl (fun w G27 => gm_V (fun hw => ?_))
    subst hw
    refine g_aload ((q_139 _).trans rfl) rfl ?_
    refine g_dup_ref ((q_139 _).trans rfl) ?_
    refine g_getI ((q_139 _).trans rfl) (fun v29 => ?_)
    refine g_iload ((q_139 _).trans rfl) rfl ?_
    refine g_iadd ((q_139 _).trans rfl) ?_
    refine g_putf ((q_139 _).trans rfl) (fun G30 => ?_)
    refine g_aload ((q_139 _).trans rfl) rfl ?_
    refine g_getI ((q_139 _).trans rfl) (fun v31 => ?_)
    exact g_iret ((q_139 _).trans rfl)
theorem c_139 {K : gK} {d : Nat} {l0 : Nat} {l1 : Int32} {l2 : Int32} {G : gH} : gle (t_139_0 K d l0 l1 l2 G) (gCa K (d + 1) 139 [.ref l0, .int l1, .int l2] G) := by
  have h : gent (gMx 139) [.ref l0, .int l1, .int l2] = [some (.ref l0), some (.int l1), some (.int l2), none] := by
    show gent (gT 139).2.2.2.1 _ = _
    rw [m_139]; rfl
  exact fun r e => (congrArg (fun q => gRn K d 139 0 q [] G) h).trans (e_139_0 r e)
theorem q_140 {K : gK} (pc : Nat) : gP K 140 pc = ((gL_140 K).lookup pc).getD o_none := rfl
noncomputable def t_140_0_1 (K : gK) (d : Nat) (G1 : gH) (v3 : Int32) : Option gO := some (.inl (some (.int v3)), G1)
noncomputable def t_140_0_2 (K : gK) (d : Nat) (a2 : Nat) (G1 : gH) : Option gO := rI G1 a2 8 1 (t_140_0_1 K d G1)
noncomputable def t_140_0 (K : gK) (d : Nat) (l0 : Nat) (l1 : Int32) (G : gH) : Option gO := if g_cls G l0 = some 0 then (cR (gCa K d 181 [.ref l0, .int l1] G) (t_140_0_2 K d)) else none
theorem e_140_0 {K : gK} {d : Nat} {l0 : Nat} {l1 : Int32} {G : gH} : gle (t_140_0 K d l0 l1 G) (gRn K d 140 0 [some (.ref l0), some (.int l1)] [] G) := by
  unfold t_140_0
  refine g_aload ((q_140 _).trans rfl) rfl ?_
  refine g_iload ((q_140 _).trans rfl) rfl ?_
  refine g_callV (kk := 1) ((q_140 _).trans rfl) (gHn m_140) rfl (by exact ⟨Nat.le_of_ble_eq_true rfl, rfl⟩) rfl (fun w G1 => gm_R (fun a2 hw => ?_))
  subst hw
  refine g_getI ((q_140 _).trans rfl) (fun v3 => ?_)
  exact g_iret ((q_140 _).trans rfl)
theorem c_140 {K : gK} {d : Nat} {l0 : Nat} {l1 : Int32} {G : gH} : gle (t_140_0 K d l0 l1 G) (gCa K (d + 1) 140 [.ref l0, .int l1] G) := by
  have h : gent (gMx 140) [.ref l0, .int l1] = [some (.ref l0), some (.int l1)] := by
    show gent (gT 140).2.2.2.1 _ = _
    rw [m_140]; rfl
  exact fun r e => (congrArg (fun q => gRn K d 140 0 q [] G) h).trans (e_140_0 r e)
theorem q_141 {K : gK} (pc : Nat) : gP K 141 pc = ((gL_141 K).lookup pc).getD o_none := rfl
noncomputable def t_141_0_1 (K : gK) (d : Nat) (l0 : Nat) (l1 : Int32) (l2 : Int32) (a2 : Nat) (G10 : gH) : Option gO := gRn K d 141 39 [some (.ref l0), some (.int l1), some (.int l2), some (.ref a2), some (.int (0 : Int32))] [] G10
noncomputable def t_141_0_2 (K : gK) (d : Nat) (l0 : Nat) (l1 : Int32) (l2 : Int32) (a2 : Nat) (G12 : gH) : Option gO := gRn K d 141 39 [some (.ref l0), some (.int l1), some (.int l2), some (.ref a2), some (.int (0 : Int32))] [] G12
noncomputable def t_141_0_3 (K : gK) (d : Nat) (l0 : Nat) (l1 : Int32) (l2 : Int32) (a2 : Nat) (v9 : Int32) (G8 : gH) : Option gO := if v9 = 0 then (cV (gCa K d 153 [.int (1 : Int32)] G8) (t_141_0_1 K d l0 l1 l2 a2)) else (cV (gCa K d 153 [.int (0 : Int32)] G8) (t_141_0_2 K d l0 l1 l2 a2))
noncomputable def t_141_0_4 (K : gK) (d : Nat) (G5 : gH) (l0 : Nat) (l1 : Int32) (l2 : Int32) (a2 : Nat) (a7 : Nat) : Option gO := if g_cls G5 a7 = some 12 then (cI (gCa K d 150 [.ref a7] G5) (t_141_0_3 K d l0 l1 l2 a2)) else none
noncomputable def t_141_0_5 (K : gK) (d : Nat) (a2 : Nat) (l0 : Nat) (l1 : Int32) (l2 : Int32) (G5 : gH) : Option gO := rR G5 a2 8 0 (t_141_0_4 K d G5 l0 l1 l2 a2)
noncomputable def t_141_0_6 (K : gK) (d : Nat) (a2 : Nat) (l0 : Nat) (l1 : Int32) (l2 : Int32) (v4 : Int32) (G3 : gH) : Option gO := cV (gCa K d 149 [.int v4] G3) (t_141_0_5 K d a2 l0 l1 l2)
noncomputable def t_141_0_7 (K : gK) (d : Nat) (l2 : Int32) (l0 : Nat) (l1 : Int32) (a2 : Nat) (G1 : gH) : Option gO := cI (gCa K d 148 [.int l2, .int (1 : Int32), .int (99 : Int32)] G1) (t_141_0_6 K d a2 l0 l1 l2)
noncomputable def t_141_0 (K : gK) (d : Nat) (l0 : Nat) (l1 : Int32) (l2 : Int32) (G : gH) : Option gO := if g_cls G l0 = some 0 then (cR (gCa K d 181 [.ref l0, .int l1] G) (t_141_0_7 K d l2 l0 l1)) else none
theorem e_141_0 {K : gK} {d : Nat} {l0 : Nat} {l1 : Int32} {l2 : Int32} {G : gH} : gle (t_141_0 K d l0 l1 l2 G) (gRn K d 141 0 [some (.ref l0), some (.int l1), some (.int l2), none, none] [] G) := by
  unfold t_141_0
  refine g_aload ((q_141 _).trans rfl) rfl ?_
  refine g_iload ((q_141 _).trans rfl) rfl ?_
  refine g_callV (kk := 1) ((q_141 _).trans rfl) (gHn m_141) rfl (by exact ⟨Nat.le_of_ble_eq_true rfl, rfl⟩) rfl (fun w G1 => gm_R (fun a2 hw => ?_))
  subst hw
  refine g_astore ((q_141 _).trans rfl) ?_
  refine g_iload ((q_141 _).trans rfl) rfl ?_
  refine g_push ((q_141 _).trans rfl) ?_
  refine g_push ((q_141 _).trans rfl) ?_
  refine g_callS (kk := 3) ((q_141 _).trans rfl) (gHn m_141) (by exact ⟨Nat.le_of_ble_eq_true rfl, Nat.le_of_ble_eq_true rfl, rfl⟩) rfl (fun w G3 => gm_I (fun v4 hw => ?_))
  subst hw
  refine g_callS (kk := 1) ((q_141 _).trans rfl) (gHn m_141) (by exact ⟨Nat.le_of_ble_eq_true rfl, Nat.le_of_ble_eq_true rfl, rfl⟩) rfl (fun w G5 => gm_V (fun hw => ?_))
  subst hw
  refine g_aload ((q_141 _).trans rfl) rfl ?_
  refine g_getR ((q_141 _).trans rfl) (fun a7 => ?_)
  refine g_callV (kk := 0) ((q_141 _).trans rfl) (gHn m_141) rfl (by exact ⟨Nat.le_of_ble_eq_true rfl, rfl⟩) rfl (fun w G8 => gm_I (fun v9 hw => ?_))
  subst hw
  refine g_ifne ((q_141 _).trans rfl) (fun _ => ?_) (fun _ => ?_)
  · refine g_push ((q_141 _).trans rfl) ?_
    refine g_goto ((q_141 _).trans rfl) ?_
    refine g_callS (kk := 1) ((q_141 _).trans rfl) (gHn m_141) (by exact ⟨Nat.le_of_ble_eq_true rfl, Nat.le_of_ble_eq_true rfl, rfl⟩) rfl (fun w G10 => gm_V (fun hw => ?_))
    subst hw
    refine g_push ((q_141 _).trans rfl) ?_
    refine g_istore ((q_141 _).trans rfl) ?_
    exact gle.rf _
  · refine g_push ((q_141 _).trans rfl) ?_
    refine g_callS (kk := 1) ((q_141 _).trans rfl) (gHn m_141) (by exact ⟨Nat.le_of_ble_eq_true rfl, Nat.le_of_ble_eq_true rfl, rfl⟩) rfl (fun w G12 => gm_V (fun hw => ?_))
    subst hw
    refine g_push ((q_141 _).trans rfl) ?_
    refine g_istore ((q_141 _).trans rfl) ?_
    exact gle.rf _
theorem c_141 {K : gK} {d : Nat} {l0 : Nat} {l1 : Int32} {l2 : Int32} {G : gH} : gle (t_141_0 K d l0 l1 l2 G) (gCa K (d + 1) 141 [.ref l0, .int l1, .int l2] G) := by
  have h : gent (gMx 141) [.ref l0, .int l1, .int l2] = [some (.ref l0), some (.int l1), some (.int l2), none, none] := by
    show gent (gT 141).2.2.2.1 _ = _
    rw [m_141]; rfl
  exact fun r e => (congrArg (fun q => gRn K d 141 0 q [] G) h).trans (e_141_0 r e)
noncomputable def t_141_39_1 (K : gK) (d : Nat) (l4 : Int32) (G1 : gH) : Option gO := some (.inl (some (.int l4)), G1)
noncomputable def t_141_39_2 (K : gK) (d : Nat) (l4 : Int32) (G3 : gH) : Option gO := some (.inl (some (.int l4)), G3)
noncomputable def t_141_39_3 (K : gK) (d : Nat) (l4 : Int32) (G7 : gH) : Option gO := some (.inl (some (.int l4)), G7)
noncomputable def t_141_39_4 (K : gK) (d : Nat) (l4 : Int32) (G9 : gH) : Option gO := some (.inl (some (.int l4)), G9)
noncomputable def t_141_39_5 (K : gK) (d : Nat) (l0 : Nat) (l1 : Int32) (l2 : Int32) (l3 : Nat) (l4 : Int32) (v6 : Int32) (G5 : gH) : Option gO := if v6 = 0 then (gRn K d 141 39 [some (.ref l0), some (.int l1), some (.int l2), some (.ref l3), some (.int (l4 + 1))] [] G5) else (if ((4 : Int32) * l2) < l4 then (cV (gCa K d 151 [.int (0 : Int32)] G5) (t_141_39_3 K d l4)) else (cV (gCa K d 151 [.int (1 : Int32)] G5) (t_141_39_4 K d l4)))
noncomputable def t_141_39 (K : gK) (d : Nat) (l0 : Nat) (l1 : Int32) (l2 : Int32) (l3 : Nat) (l4 : Int32) (G : gH) : Option gO := if ((4 : Int32) * l2) < l4 then (if ((4 : Int32) * l2) < l4 then (cV (gCa K d 151 [.int (0 : Int32)] G) (t_141_39_1 K d l4)) else (cV (gCa K d 151 [.int (1 : Int32)] G) (t_141_39_2 K d l4))) else (if g_cls G l0 = some 0 then (cI (gCa K d 191 [.ref l0, .ref l3, .int l2, .int l4] G) (t_141_39_5 K d l0 l1 l2 l3 l4)) else none)
theorem e_141_39 {K : gK} {d : Nat} {l0 : Nat} {l1 : Int32} {l2 : Int32} {l3 : Nat} {l4 : Int32} {G : gH} : gle (t_141_39 K d l0 l1 l2 l3 l4 G) (gRn K d 141 39 [some (.ref l0), some (.int l1), some (.int l2), some (.ref l3), some (.int l4)] [] G) := by
  unfold t_141_39
  refine g_iload ((q_141 _).trans rfl) rfl ?_
  refine g_push ((q_141 _).trans rfl) ?_
  refine g_iload ((q_141 _).trans rfl) rfl ?_
  refine g_imul ((q_141 _).trans rfl) ?_
  refine g_cmpgt ((q_141 _).trans rfl) (fun _ => ?_) (fun _ => ?_)
  · refine g_iload ((q_141 _).trans rfl) rfl ?_
    refine g_push ((q_141 _).trans rfl) ?_
    refine g_iload ((q_141 _).trans rfl) rfl ?_
    refine g_imul ((q_141 _).trans rfl) ?_
    refine g_cmpgt ((q_141 _).trans rfl) (fun _ => ?_) (fun _ => ?_)
    · refine g_push ((q_141 _).trans rfl) ?_
      refine g_callS (kk := 1) ((q_141 _).trans rfl) (gHn m_141) (by exact ⟨Nat.le_of_ble_eq_true rfl, Nat.le_of_ble_eq_true rfl, rfl⟩) rfl (fun w G1 => gm_V (fun hw => ?_))
      subst hw
      refine g_iload ((q_141 _).trans rfl) rfl ?_
      exact g_iret ((q_141 _).trans rfl)
    · refine g_push ((q_141 _).trans rfl) ?_
      refine g_goto ((q_141 _).trans rfl) ?_
      refine g_callS (kk := 1) ((q_141 _).trans rfl) (gHn m_141) (by exact ⟨Nat.le_of_ble_eq_true rfl, Nat.le_of_ble_eq_true rfl, rfl⟩) rfl (fun w G3 => gm_V (fun hw => ?_))
      subst hw
      refine g_iload ((q_141 _).trans rfl) rfl ?_
      exact g_iret ((q_141 _).trans rfl)
  · refine g_aload ((q_141 _).trans rfl) rfl ?_
    refine g_aload ((q_141 _).trans rfl) rfl ?_
    refine g_iload ((q_141 _).trans rfl) rfl ?_
    refine g_iload ((q_141 _).trans rfl) rfl ?_
    refine g_callV (kk := 3) ((q_141 _).trans rfl) (gHn m_141) rfl (by exact ⟨Nat.le_of_ble_eq_true rfl, rfl⟩) rfl (fun w G5 => gm_I (fun v6 hw => ?_))
    subst hw
    refine g_ifne ((q_141 _).trans rfl) (fun _ => ?_) (fun _ => ?_)
    · refine g_iinc ((q_141 _).trans rfl) rfl ?_
      refine g_goto ((q_141 _).trans rfl) ?_
      exact gle.rf _
    · refine g_iload ((q_141 _).trans rfl) rfl ?_
      refine g_push ((q_141 _).trans rfl) ?_
      refine g_iload ((q_141 _).trans rfl) rfl ?_
      refine g_imul ((q_141 _).trans rfl) ?_
      refine g_cmpgt ((q_141 _).trans rfl) (fun _ => ?_) (fun _ => ?_)
      · refine g_push ((q_141 _).trans rfl) ?_
        refine g_callS (kk := 1) ((q_141 _).trans rfl) (gHn m_141) (by exact ⟨Nat.le_of_ble_eq_true rfl, Nat.le_of_ble_eq_true rfl, rfl⟩) rfl (fun w G7 => gm_V (fun hw => ?_))
        subst hw
        refine g_iload ((q_141 _).trans rfl) rfl ?_
        exact g_iret ((q_141 _).trans rfl)
      · refine g_push ((q_141 _).trans rfl) ?_
        refine g_goto ((q_141 _).trans rfl) ?_
        refine g_callS (kk := 1) ((q_141 _).trans rfl) (gHn m_141) (by exact ⟨Nat.le_of_ble_eq_true rfl, Nat.le_of_ble_eq_true rfl, rfl⟩) rfl (fun w G9 => gm_V (fun hw => ?_))
        subst hw
        refine g_iload ((q_141 _).trans rfl) rfl ?_
        exact g_iret ((q_141 _).trans rfl)
theorem q_142 {K : gK} (pc : Nat) : gP K 142 pc = ((gL_142 K).lookup pc).getD o_none := rfl
noncomputable def t_142_0_1 (K : gK) (d : Nat) (v4 : Int32) (v6 : Int32) (v8 : Int32) (G7 : gH) : Option gO := if (FP.fdiv (FP.i2f v4) (FP.i2f (v6 * v8))) &&& 0x7fffffff ≤ 0x7f800000 then (some (.inl (some (.float (FP.fdiv (FP.i2f v4) (FP.i2f (v6 * v8))))), G7)) else none
noncomputable def t_142_0_2 (K : gK) (d : Nat) (G3 : gH) (l0 : Nat) (v4 : Int32) (v6 : Int32) : Option gO := if g_cls G3 l0 = some 0 then (cI (gCa K d 194 [.ref l0] G3) (t_142_0_1 K d v4 v6)) else none
noncomputable def t_142_0_3 (K : gK) (d : Nat) (G3 : gH) (l0 : Nat) (v4 : Int32) (a5 : Nat) : Option gO := rI G3 a5 2 2 (t_142_0_2 K d G3 l0 v4)
noncomputable def t_142_0_4 (K : gK) (d : Nat) (l0 : Nat) (v4 : Int32) (G3 : gH) : Option gO := rR G3 l0 0 6 (t_142_0_3 K d G3 l0 v4)
noncomputable def t_142_0_5 (K : gK) (d : Nat) (l0 : Nat) (G1 : gH) : Option gO := if g_cls G1 l0 = some 0 then (cI (gCa K d 118 [.ref l0] G1) (t_142_0_4 K d l0)) else none
noncomputable def t_142_0 (K : gK) (d : Nat) (l0 : Nat) (G : gH) : Option gO := if g_cls G l0 = some 0 then (cV (gCa K d 193 [.ref l0] G) (t_142_0_5 K d l0)) else none
theorem e_142_0 {K : gK} {d : Nat} {l0 : Nat} {G : gH} : gle (t_142_0 K d l0 G) (gRn K d 142 0 [some (.ref l0)] [] G) := by
  unfold t_142_0
  refine g_aload ((q_142 _).trans rfl) rfl ?_
  refine g_callV (kk := 0) ((q_142 _).trans rfl) (gHn m_142) rfl (by exact ⟨Nat.le_of_ble_eq_true rfl, rfl⟩) rfl (fun w G1 => gm_V (fun hw => ?_))
  subst hw
  refine g_aload ((q_142 _).trans rfl) rfl ?_
  refine g_callV (kk := 0) ((q_142 _).trans rfl) (gHn m_142) rfl (by exact ⟨Nat.le_of_ble_eq_true rfl, rfl⟩) rfl (fun w G3 => gm_I (fun v4 hw => ?_))
  subst hw
  refine g_i2f ((q_142 _).trans rfl) ?_
  refine g_aload ((q_142 _).trans rfl) rfl ?_
  refine g_getR ((q_142 _).trans rfl) (fun a5 => ?_)
  refine g_getI ((q_142 _).trans rfl) (fun v6 => ?_)
  refine g_aload ((q_142 _).trans rfl) rfl ?_
  refine g_callV (kk := 0) ((q_142 _).trans rfl) (gHn m_142) rfl (by exact ⟨Nat.le_of_ble_eq_true rfl, rfl⟩) rfl (fun w G7 => gm_I (fun v8 hw => ?_))
  subst hw
  refine g_imul ((q_142 _).trans rfl) ?_
  refine g_i2f ((q_142 _).trans rfl) ?_
  refine g_fdiv ((q_142 _).trans rfl) (fun _ => ?_)
  exact g_fret ((q_142 _).trans rfl)
theorem c_142 {K : gK} {d : Nat} {l0 : Nat} {G : gH} : gle (t_142_0 K d l0 G) (gCa K (d + 1) 142 [.ref l0] G) := by
  have h : gent (gMx 142) [.ref l0] = [some (.ref l0)] := by
    show gent (gT 142).2.2.2.1 _ = _
    rw [m_142]; rfl
  exact fun r e => (congrArg (fun q => gRn K d 142 0 q [] G) h).trans (e_142_0 r e)
theorem q_143 {K : gK} (pc : Nat) : gP K 143 pc = ((gL_143 K).lookup pc).getD o_none := rfl
noncomputable def t_143_0_1 (K : gK) (d : Nat) (G : gH) (v2 : Int32) : Option gO := some (.inl (some (.int v2)), G)
noncomputable def t_143_0_2 (K : gK) (d : Nat) (G : gH) (v3 : Int32) : Option gO := if (2 : Int32) = 0 then none else (some (.inl (some (.int (v3 / (2 : Int32)))), G))
noncomputable def t_143_0_3 (K : gK) (d : Nat) (G : gH) (l0 : Nat) (v1 : Int32) : Option gO := if v1 = 0 then (rI G l0 3 1 (t_143_0_1 K d G)) else (rI G l0 3 1 (t_143_0_2 K d G))
noncomputable def t_143_0 (K : gK) (d : Nat) (l0 : Nat) (G : gH) : Option gO := rI G l0 3 3 (t_143_0_3 K d G l0)
theorem e_143_0 {K : gK} {d : Nat} {l0 : Nat} {G : gH} : gle (t_143_0 K d l0 G) (gRn K d 143 0 [some (.ref l0)] [] G) := by
  unfold t_143_0
  refine g_aload ((q_143 _).trans rfl) rfl ?_
  refine g_getI ((q_143 _).trans rfl) (fun v1 => ?_)
  refine g_ifeq ((q_143 _).trans rfl) (fun _ => ?_) (fun _ => ?_)
  · refine g_aload ((q_143 _).trans rfl) rfl ?_
    refine g_getI ((q_143 _).trans rfl) (fun v2 => ?_)
    exact g_iret ((q_143 _).trans rfl)
  · refine g_aload ((q_143 _).trans rfl) rfl ?_
    refine g_getI ((q_143 _).trans rfl) (fun v3 => ?_)
    refine g_push ((q_143 _).trans rfl) ?_
    refine g_idiv ((q_143 _).trans rfl) (fun _ => ?_)
    refine g_goto ((q_143 _).trans rfl) ?_
    exact g_iret ((q_143 _).trans rfl)
theorem c_143 {K : gK} {d : Nat} {l0 : Nat} {G : gH} : gle (t_143_0 K d l0 G) (gCa K (d + 1) 143 [.ref l0] G) := by
  have h : gent (gMx 143) [.ref l0] = [some (.ref l0)] := by
    show gent (gT 143).2.2.2.1 _ = _
    rw [m_143]; rfl
  exact fun r e => (congrArg (fun q => gRn K d 143 0 q [] G) h).trans (e_143_0 r e)
theorem q_144 {K : gK} (pc : Nat) : gP K 144 pc = ((gL_144 K).lookup pc).getD o_none := rfl
noncomputable def t_144_0_1 (K : gK) (d : Nat) (v4 : Int32) (v7 : Int32) (G6 : gH) : Option gO := if (FP.ddiv (FP.i2d v4) (FP.i2d v7)) &&& 0x7fffffffffffffff ≤ 0x7ff0000000000000 then (some (.inl (some (.double (FP.ddiv (FP.i2d v4) (FP.i2d v7)))), G6)) else none
noncomputable def t_144_0_2 (K : gK) (d : Nat) (G3 : gH) (v4 : Int32) (a5 : Nat) : Option gO := if g_cls G3 a5 = some 12 then (cI (gCa K d 110 [.ref a5] G3) (t_144_0_1 K d v4)) else none
noncomputable def t_144_0_3 (K : gK) (d : Nat) (l0 : Nat) (v4 : Int32) (G3 : gH) : Option gO := rR G3 l0 0 2 (t_144_0_2 K d G3 v4)
noncomputable def t_144_0_4 (K : gK) (d : Nat) (l0 : Nat) (G1 : gH) : Option gO := if g_cls G1 l0 = some 0 then (cI (gCa K d 118 [.ref l0] G1) (t_144_0_3 K d l0)) else none
noncomputable def t_144_0 (K : gK) (d : Nat) (l0 : Nat) (G : gH) : Option gO := if g_cls G l0 = some 0 then (cV (gCa K d 193 [.ref l0] G) (t_144_0_4 K d l0)) else none
theorem e_144_0 {K : gK} {d : Nat} {l0 : Nat} {G : gH} : gle (t_144_0 K d l0 G) (gRn K d 144 0 [some (.ref l0)] [] G) := by
  unfold t_144_0
  refine g_aload ((q_144 _).trans rfl) rfl ?_
  refine g_callV (kk := 0) ((q_144 _).trans rfl) (gHn m_144) rfl (by exact ⟨Nat.le_of_ble_eq_true rfl, rfl⟩) rfl (fun w G1 => gm_V (fun hw => ?_))
  subst hw
  refine g_aload ((q_144 _).trans rfl) rfl ?_
  refine g_callV (kk := 0) ((q_144 _).trans rfl) (gHn m_144) rfl (by exact ⟨Nat.le_of_ble_eq_true rfl, rfl⟩) rfl (fun w G3 => gm_I (fun v4 hw => ?_))
  subst hw
  refine g_i2d ((q_144 _).trans rfl) ?_
  refine g_aload ((q_144 _).trans rfl) rfl ?_
  refine g_getR ((q_144 _).trans rfl) (fun a5 => ?_)
  refine g_callV (kk := 0) ((q_144 _).trans rfl) (gHn m_144) rfl (by exact ⟨Nat.le_of_ble_eq_true rfl, rfl⟩) rfl (fun w G6 => gm_I (fun v7 hw => ?_))
  subst hw
  refine g_i2d ((q_144 _).trans rfl) ?_
  refine g_ddiv ((q_144 _).trans rfl) (fun _ => ?_)
  exact g_dret ((q_144 _).trans rfl)
theorem c_144 {K : gK} {d : Nat} {l0 : Nat} {G : gH} : gle (t_144_0 K d l0 G) (gCa K (d + 1) 144 [.ref l0] G) := by
  have h : gent (gMx 144) [.ref l0] = [some (.ref l0)] := by
    show gent (gT 144).2.2.2.1 _ = _
    rw [m_144]; rfl
  exact fun r e => (congrArg (fun q => gRn K d 144 0 q [] G) h).trans (e_144_0 r e)
theorem q_145 {K : gK} (pc : Nat) : gP K 145 pc = ((gL_145 K).lookup pc).getD o_none := rfl
noncomputable def t_145_0 (K : gK) (d : Nat) (l0 : Nat) (G : gH) : Option gO := gRn K d 145 4 [some (.ref l0), some (.int (0 : Int32)), some (.int (0 : Int32)), none, none] [] G
theorem e_145_0 {K : gK} {d : Nat} {l0 : Nat} {G : gH} : gle (t_145_0 K d l0 G) (gRn K d 145 0 [some (.ref l0), none, none, none, none] [] G) := by
  unfold t_145_0
  refine g_push ((q_145 _).trans rfl) ?_
  refine g_istore ((q_145 _).trans rfl) ?_
  refine g_push ((q_145 _).trans rfl) ?_
  refine g_istore ((q_145 _).trans rfl) ?_
  exact gle.rf _
theorem c_145 {K : gK} {d : Nat} {l0 : Nat} {G : gH} : gle (t_145_0 K d l0 G) (gCa K (d + 1) 145 [.ref l0] G) := by
  have h : gent (gMx 145) [.ref l0] = [some (.ref l0), none, none, none, none] := by
    show gent (gT 145).2.2.2.1 _ = _
    rw [m_145]; rfl
  exact fun r e => (congrArg (fun q => gRn K d 145 0 q [] G) h).trans (e_145_0 r e)
noncomputable def t_145_4_1 (K : gK) (d : Nat) (l1 : Int32) (v2 : Int32) (G1 : gH) : Option gO := if l1 = v2 then (if narrow .boolean (.int (1 : Int32)) = .int (1 : Int32) then some (.inl (some (.int (1 : Int32))), G1) else none) else (if narrow .boolean (.int (0 : Int32)) = .int (0 : Int32) then some (.inl (some (.int (0 : Int32))), G1) else none)
noncomputable def t_145_4 (K : gK) (d : Nat) (l0 : Nat) (l1 : Int32) (l2 : Int32) (o3 : Option Value) (o4 : Option Value) (G : gH) : Option gO := if (60 : Int32) ≤ l2 then (if g_cls G l0 = some 0 then (cI (gCa K d 118 [.ref l0] G) (t_145_4_1 K d l1)) else none) else (gRn K d 145 12 [some (.ref l0), some (.int l1), some (.int l2), some (.int (0 : Int32)), o4] [] G)
theorem e_145_4 {K : gK} {d : Nat} {l0 : Nat} {l1 : Int32} {l2 : Int32} {o3 : Option Value} {o4 : Option Value} {G : gH} : gle (t_145_4 K d l0 l1 l2 o3 o4 G) (gRn K d 145 4 [some (.ref l0), some (.int l1), some (.int l2), o3, o4] [] G) := by
  unfold t_145_4
  refine g_iload ((q_145 _).trans rfl) rfl ?_
  refine g_push ((q_145 _).trans rfl) ?_
  refine g_cmpge ((q_145 _).trans rfl) (fun _ => ?_) (fun _ => ?_)
  · refine g_iload ((q_145 _).trans rfl) rfl ?_
    refine g_aload ((q_145 _).trans rfl) rfl ?_
    refine g_callV (kk := 0) ((q_145 _).trans rfl) (gHn m_145) rfl (by exact ⟨Nat.le_of_ble_eq_true rfl, rfl⟩) rfl (fun w G1 => gm_I (fun v2 hw => ?_))
    subst hw
    refine g_cmpne ((q_145 _).trans rfl) (fun _ => ?_) (fun _ => ?_)
    · refine g_push ((q_145 _).trans rfl) ?_
      refine g_goto ((q_145 _).trans rfl) ?_
      exact g_zret ((q_145 _).trans rfl)
    · refine g_push ((q_145 _).trans rfl) ?_
      exact g_zret ((q_145 _).trans rfl)
  · refine g_push ((q_145 _).trans rfl) ?_
    refine g_istore ((q_145 _).trans rfl) ?_
    exact gle.rf _
noncomputable def t_145_12_1 (K : gK) (d : Nat) (l0 : Nat) (l1 : Int32) (l2 : Int32) (l3 : Int32) (v3 : Int32) (v7 : Int32) (G6 : gH) : Option gO := if v7 = 0 then (if narrow .boolean (.int (0 : Int32)) = .int (0 : Int32) then some (.inl (some (.int (0 : Int32))), G6) else none) else (gRn K d 145 12 [some (.ref l0), some (.int (l1 + 1)), some (.int l2), some (.int (l3 + 1)), some (.int v3)] [] G6)
noncomputable def t_145_12_2 (K : gK) (d : Nat) (l2 : Int32) (l3 : Int32) (l0 : Nat) (l1 : Int32) (v3 : Int32) (a5 : Nat) (G4 : gH) : Option gO := if g_cls G4 a5 = some 7 then (cI (gCa K d 179 [.ref a5, .int l2, .int l3] G4) (t_145_12_1 K d l0 l1 l2 l3 v3)) else none
noncomputable def t_145_12_3 (K : gK) (d : Nat) (l0 : Nat) (l1 : Int32) (l2 : Int32) (l3 : Int32) (v3 : Int32) (G2 : gH) : Option gO := if v3 = ((-1) : Int32) then (gRn K d 145 12 [some (.ref l0), some (.int l1), some (.int l2), some (.int (l3 + 1)), some (.int v3)] [] G2) else (if g_cls G2 l0 = some 0 then (cR (gCa K d 174 [.ref l0, .int v3] G2) (t_145_12_2 K d l2 l3 l0 l1 v3)) else none)
noncomputable def t_145_12_4 (K : gK) (d : Nat) (G : gH) (l2 : Int32) (l3 : Int32) (l0 : Nat) (l1 : Int32) (a1 : Nat) : Option gO := if g_cls G a1 = some 2 then (cI (gCa K d 152 [.ref a1, .int l2, .int l3] G) (t_145_12_3 K d l0 l1 l2 l3)) else none
noncomputable def t_145_12 (K : gK) (d : Nat) (l0 : Nat) (l1 : Int32) (l2 : Int32) (l3 : Int32) (o4 : Option Value) (G : gH) : Option gO := if (12 : Int32) ≤ l3 then (gRn K d 145 4 [some (.ref l0), some (.int l1), some (.int (l2 + 1)), some (.int l3), o4] [] G) else (rR G l0 0 6 (t_145_12_4 K d G l2 l3 l0 l1))
theorem e_145_12 {K : gK} {d : Nat} {l0 : Nat} {l1 : Int32} {l2 : Int32} {l3 : Int32} {o4 : Option Value} {G : gH} : gle (t_145_12 K d l0 l1 l2 l3 o4 G) (gRn K d 145 12 [some (.ref l0), some (.int l1), some (.int l2), some (.int l3), o4] [] G) := by
  unfold t_145_12
  refine g_iload ((q_145 _).trans rfl) rfl ?_
  refine g_push ((q_145 _).trans rfl) ?_
  refine g_cmpge ((q_145 _).trans rfl) (fun _ => ?_) (fun _ => ?_)
  · refine g_iinc ((q_145 _).trans rfl) rfl ?_
    refine g_goto ((q_145 _).trans rfl) ?_
    exact gle.rf _
  · refine g_aload ((q_145 _).trans rfl) rfl ?_
    refine g_getR ((q_145 _).trans rfl) (fun a1 => ?_)
    refine g_iload ((q_145 _).trans rfl) rfl ?_
    refine g_iload ((q_145 _).trans rfl) rfl ?_
    refine g_callV (kk := 2) ((q_145 _).trans rfl) (gHn m_145) rfl (by exact ⟨Nat.le_of_ble_eq_true rfl, rfl⟩) rfl (fun w G2 => gm_I (fun v3 hw => ?_))
    subst hw
    refine g_istore ((q_145 _).trans rfl) ?_
    refine g_iload ((q_145 _).trans rfl) rfl ?_
    refine g_push ((q_145 _).trans rfl) ?_
    refine g_cmpeq ((q_145 _).trans rfl) (fun _ => ?_) (fun _ => ?_)
    · refine g_iinc ((q_145 _).trans rfl) rfl ?_
      refine g_goto ((q_145 _).trans rfl) ?_
      exact gle.rf _
    · refine g_iinc ((q_145 _).trans rfl) rfl ?_
      refine g_aload ((q_145 _).trans rfl) rfl ?_
      refine g_iload ((q_145 _).trans rfl) rfl ?_
      refine g_callV (kk := 1) ((q_145 _).trans rfl) (gHn m_145) rfl (by exact ⟨Nat.le_of_ble_eq_true rfl, rfl⟩) rfl (fun w G4 => gm_R (fun a5 hw => ?_))
      subst hw
      refine g_iload ((q_145 _).trans rfl) rfl ?_
      refine g_iload ((q_145 _).trans rfl) rfl ?_
      refine g_callV (kk := 2) ((q_145 _).trans rfl) (gHn m_145) rfl (by exact ⟨Nat.le_of_ble_eq_true rfl, rfl⟩) rfl (fun w G6 => gm_I (fun v7 hw => ?_))
      subst hw
      refine g_ifne ((q_145 _).trans rfl) (fun _ => ?_) (fun _ => ?_)
      · refine g_push ((q_145 _).trans rfl) ?_
        exact g_zret ((q_145 _).trans rfl)
      · refine g_iinc ((q_145 _).trans rfl) rfl ?_
        refine g_goto ((q_145 _).trans rfl) ?_
        exact gle.rf _
theorem q_146 {K : gK} (pc : Nat) : gP K 146 pc = ((gL_146 K).lookup pc).getD o_none := rfl
noncomputable def t_146_0 (K : gK) (d : Nat) (l0 : Nat) (G : gH) : Option gO := gRn K d 146 4 [some (.ref l0), some (.long (0 : Int64)), none, some (.int (0 : Int32)), none] [] G
theorem e_146_0 {K : gK} {d : Nat} {l0 : Nat} {G : gH} : gle (t_146_0 K d l0 G) (gRn K d 146 0 [some (.ref l0), none, none, none, none] [] G) := by
  unfold t_146_0
  refine g_push ((q_146 _).trans rfl) ?_
  refine g_lstore ((q_146 _).trans rfl) ?_
  refine g_push ((q_146 _).trans rfl) ?_
  refine g_istore ((q_146 _).trans rfl) ?_
  exact gle.rf _
theorem c_146 {K : gK} {d : Nat} {l0 : Nat} {G : gH} : gle (t_146_0 K d l0 G) (gCa K (d + 1) 146 [.ref l0] G) := by
  have h : gent (gMx 146) [.ref l0] = [some (.ref l0), none, none, none, none] := by
    show gent (gT 146).2.2.2.1 _ = _
    rw [m_146]; rfl
  exact fun r e => (congrArg (fun q => gRn K d 146 0 q [] G) h).trans (e_146_0 r e)
noncomputable def t_146_4_1 (K : gK) (d : Nat) (l0 : Nat) (l1 : Int64) (v7 : Int32) (l3 : Int32) (a6 : Nat) (G5 : gH) (v8 : Int32) : Option gO := gRn K d 146 4 [some (.ref l0), some (.long (l1 + ((v7 + v8)).toInt64)), none, some (.int (l3 + 1)), some (.ref a6)] [] G5
noncomputable def t_146_4_2 (K : gK) (d : Nat) (G5 : gH) (a6 : Nat) (l0 : Nat) (l1 : Int64) (l3 : Int32) (v7 : Int32) : Option gO := rI G5 a6 4 6 (t_146_4_1 K d l0 l1 v7 l3 a6 G5)
noncomputable def t_146_4_3 (K : gK) (d : Nat) (l0 : Nat) (l1 : Int64) (l3 : Int32) (a6 : Nat) (G5 : gH) : Option gO := if g_cls G5 a6 = some 4 then (rI G5 a6 4 5 (t_146_4_2 K d G5 a6 l0 l1 l3)) else none
noncomputable def t_146_4_4 (K : gK) (d : Nat) (G2 : gH) (l3 : Int32) (l0 : Nat) (l1 : Int64) (a4 : Nat) : Option gO := if g_cls G2 a4 = some 12 then (cR (gCa K d 178 [.ref a4, .int l3] G2) (t_146_4_3 K d l0 l1 l3)) else none
noncomputable def t_146_4_5 (K : gK) (d : Nat) (l3 : Int32) (l0 : Nat) (l1 : Int64) (o4 : Option Value) (v3 : Int32) (G2 : gH) : Option gO := if v3 ≤ l3 then (gRn K d 146 55 [some (.ref l0), some (.long l1), none, some (.int (0 : Int32)), o4] [] G2) else (rR G2 l0 0 0 (t_146_4_4 K d G2 l3 l0 l1))
noncomputable def t_146_4_6 (K : gK) (d : Nat) (G : gH) (l3 : Int32) (l0 : Nat) (l1 : Int64) (o4 : Option Value) (a1 : Nat) : Option gO := if g_cls G a1 = some 12 then (cI (gCa K d 110 [.ref a1] G) (t_146_4_5 K d l3 l0 l1 o4)) else none
noncomputable def t_146_4 (K : gK) (d : Nat) (l0 : Nat) (l1 : Int64) (l3 : Int32) (o4 : Option Value) (G : gH) : Option gO := rR G l0 0 0 (t_146_4_6 K d G l3 l0 l1 o4)
theorem e_146_4 {K : gK} {d : Nat} {l0 : Nat} {l1 : Int64} {l3 : Int32} {o4 : Option Value} {G : gH} : gle (t_146_4 K d l0 l1 l3 o4 G) (gRn K d 146 4 [some (.ref l0), some (.long l1), none, some (.int l3), o4] [] G) := by
  unfold t_146_4
  refine g_iload ((q_146 _).trans rfl) rfl ?_
  refine g_aload ((q_146 _).trans rfl) rfl ?_
  refine g_getR ((q_146 _).trans rfl) (fun a1 => ?_)
  refine g_callV (kk := 0) ((q_146 _).trans rfl) (gHn m_146) rfl (by exact ⟨Nat.le_of_ble_eq_true rfl, rfl⟩) rfl (fun w G2 => gm_I (fun v3 hw => ?_))
  subst hw
  refine g_cmpge ((q_146 _).trans rfl) (fun _ => ?_) (fun _ => ?_)
  · refine g_push ((q_146 _).trans rfl) ?_
    refine g_istore ((q_146 _).trans rfl) ?_
    exact gle.rf _
  · refine g_aload ((q_146 _).trans rfl) rfl ?_
    refine g_getR ((q_146 _).trans rfl) (fun a4 => ?_)
    refine g_iload ((q_146 _).trans rfl) rfl ?_
    refine g_callV (kk := 1) ((q_146 _).trans rfl) (gHn m_146) rfl (by exact ⟨Nat.le_of_ble_eq_true rfl, rfl⟩) rfl (fun w G5 => gm_R (fun a6 hw => ?_))
    subst hw
    refine g_ccast ((q_146 _).trans rfl) ?_
    refine g_astore ((q_146 _).trans rfl) ?_
    refine g_lload ((q_146 _).trans rfl) rfl ?_
    refine g_aload ((q_146 _).trans rfl) rfl ?_
    refine g_getI ((q_146 _).trans rfl) (fun v7 => ?_)
    refine g_aload ((q_146 _).trans rfl) rfl ?_
    refine g_getI ((q_146 _).trans rfl) (fun v8 => ?_)
    refine g_iadd ((q_146 _).trans rfl) ?_
    refine g_i2l ((q_146 _).trans rfl) ?_
    refine g_ladd ((q_146 _).trans rfl) ?_
    refine g_lstore ((q_146 _).trans rfl) ?_
    refine g_iinc ((q_146 _).trans rfl) rfl ?_
    refine g_goto ((q_146 _).trans rfl) ?_
    exact gle.rf _
noncomputable def t_146_55_1 (K : gK) (d : Nat) (l0 : Nat) (l1 : Int64) (v7 : Int32) (l3 : Int32) (a6 : Nat) (v9 : Int32) (G8 : gH) : Option gO := gRn K d 146 55 [some (.ref l0), some (.long (l1 + ((v7).toInt64 * (v9).toInt64))), none, some (.int (l3 + 1)), some (.ref a6)] [] G8
noncomputable def t_146_55_2 (K : gK) (d : Nat) (G5 : gH) (a6 : Nat) (l0 : Nat) (l1 : Int64) (l3 : Int32) (v7 : Int32) : Option gO := if g_cls G5 a6 = some 8 then (cI (gCa K d 184 [.ref a6] G5) (t_146_55_1 K d l0 l1 v7 l3 a6)) else none
noncomputable def t_146_55_3 (K : gK) (d : Nat) (l0 : Nat) (l1 : Int64) (l3 : Int32) (a6 : Nat) (G5 : gH) : Option gO := if g_cls G5 a6 = some 8 then (rI G5 a6 8 1 (t_146_55_2 K d G5 a6 l0 l1 l3)) else none
noncomputable def t_146_55_4 (K : gK) (d : Nat) (G2 : gH) (l3 : Int32) (l0 : Nat) (l1 : Int64) (a4 : Nat) : Option gO := if g_cls G2 a4 = some 12 then (cR (gCa K d 178 [.ref a4, .int l3] G2) (t_146_55_3 K d l0 l1 l3)) else none
noncomputable def t_146_55_5 (K : gK) (d : Nat) (l3 : Int32) (l1 : Int64) (l0 : Nat) (v3 : Int32) (G2 : gH) : Option gO := if v3 ≤ l3 then (some (.inl (some (.long l1)), G2)) else (rR G2 l0 0 1 (t_146_55_4 K d G2 l3 l0 l1))
noncomputable def t_146_55_6 (K : gK) (d : Nat) (G : gH) (l3 : Int32) (l1 : Int64) (l0 : Nat) (a1 : Nat) : Option gO := if g_cls G a1 = some 12 then (cI (gCa K d 110 [.ref a1] G) (t_146_55_5 K d l3 l1 l0)) else none
noncomputable def t_146_55 (K : gK) (d : Nat) (l0 : Nat) (l1 : Int64) (l3 : Int32) (o4 : Option Value) (G : gH) : Option gO := rR G l0 0 1 (t_146_55_6 K d G l3 l1 l0)
theorem e_146_55 {K : gK} {d : Nat} {l0 : Nat} {l1 : Int64} {l3 : Int32} {o4 : Option Value} {G : gH} : gle (t_146_55 K d l0 l1 l3 o4 G) (gRn K d 146 55 [some (.ref l0), some (.long l1), none, some (.int l3), o4] [] G) := by
  unfold t_146_55
  refine g_iload ((q_146 _).trans rfl) rfl ?_
  refine g_aload ((q_146 _).trans rfl) rfl ?_
  refine g_getR ((q_146 _).trans rfl) (fun a1 => ?_)
  refine g_callV (kk := 0) ((q_146 _).trans rfl) (gHn m_146) rfl (by exact ⟨Nat.le_of_ble_eq_true rfl, rfl⟩) rfl (fun w G2 => gm_I (fun v3 hw => ?_))
  subst hw
  refine g_cmpge ((q_146 _).trans rfl) (fun _ => ?_) (fun _ => ?_)
  · refine g_lload ((q_146 _).trans rfl) rfl ?_
    exact g_lret ((q_146 _).trans rfl)
  · refine g_aload ((q_146 _).trans rfl) rfl ?_
    refine g_getR ((q_146 _).trans rfl) (fun a4 => ?_)
    refine g_iload ((q_146 _).trans rfl) rfl ?_
    refine g_callV (kk := 1) ((q_146 _).trans rfl) (gHn m_146) rfl (by exact ⟨Nat.le_of_ble_eq_true rfl, rfl⟩) rfl (fun w G5 => gm_R (fun a6 hw => ?_))
    subst hw
    refine g_ccast ((q_146 _).trans rfl) ?_
    refine g_astore ((q_146 _).trans rfl) ?_
    refine g_lload ((q_146 _).trans rfl) rfl ?_
    refine g_aload ((q_146 _).trans rfl) rfl ?_
    refine g_getI ((q_146 _).trans rfl) (fun v7 => ?_)
    refine g_i2l ((q_146 _).trans rfl) ?_
    refine g_aload ((q_146 _).trans rfl) rfl ?_
    refine g_callV (kk := 0) ((q_146 _).trans rfl) (gHn m_146) rfl (by exact ⟨Nat.le_of_ble_eq_true rfl, rfl⟩) rfl (fun w G8 => gm_I (fun v9 hw => ?_))
    subst hw
    refine g_i2l ((q_146 _).trans rfl) ?_
    refine g_lmul ((q_146 _).trans rfl) ?_
    refine g_ladd ((q_146 _).trans rfl) ?_
    refine g_lstore ((q_146 _).trans rfl) ?_
    refine g_iinc ((q_146 _).trans rfl) rfl ?_
    refine g_goto ((q_146 _).trans rfl) ?_
    exact gle.rf _
theorem q_147 {K : gK} (pc : Nat) : gP K 147 pc = ((gL_147 K).lookup pc).getD o_none := rfl
noncomputable def t_147_0_1 (K : gK) (d : Nat) (G3 : gH) : Option gO := some (.inl none, G3)
noncomputable def t_147_0_2 (K : gK) (d : Nat) (l0 : Nat) (G1 : gH) : Option gO := if narrow .int (.int (0 : Int32)) = .int (0 : Int32) ∧ fits .int (.int (0 : Int32)) = true then wF G1 l0 12 0 (.int (0 : Int32)) (t_147_0_1 K d) else none
noncomputable def t_147_0 (K : gK) (d : Nat) (l0 : Nat) (G : gH) : Option gO := cV (gCa K d 195 [.ref l0] G) (t_147_0_2 K d l0)
theorem e_147_0 {K : gK} {d : Nat} {l0 : Nat} {G : gH} : gle (t_147_0 K d l0 G) (gRn K d 147 0 [some (.ref l0)] [] G) := by
  unfold t_147_0
  refine g_aload ((q_147 _).trans rfl) rfl ?_
  refine g_callI (kk := 0) ((q_147 _).trans rfl) (gHn m_147) rfl (by exact ⟨Nat.le_of_ble_eq_true rfl, rfl⟩) rfl (fun w G1 => gm_V (fun hw => ?_))
  subst hw
  refine g_aload ((q_147 _).trans rfl) rfl ?_
  refine g_push ((q_147 _).trans rfl) ?_
  refine g_putf ((q_147 _).trans rfl) (fun G3 => ?_)
  exact g_vret ((q_147 _).trans rfl)
theorem c_147 {K : gK} {d : Nat} {l0 : Nat} {G : gH} : gle (t_147_0 K d l0 G) (gCa K (d + 1) 147 [.ref l0] G) := by
  have h : gent (gMx 147) [.ref l0] = [some (.ref l0)] := by
    show gent (gT 147).2.2.2.1 _ = _
    rw [m_147]; rfl
  exact fun r e => (congrArg (fun q => gRn K d 147 0 q [] G) h).trans (e_147_0 r e)
theorem q_148 {K : gK} (pc : Nat) : gP K 148 pc = ((gL_148 K).lookup pc).getD o_none := rfl
noncomputable def t_148_0 (K : gK) (d : Nat) (l0 : Int32) (l1 : Int32) (l2 : Int32) (G : gH) : Option gO := if l0 < l1 then (if narrow .boolean (.int (0 : Int32)) = .int (0 : Int32) then some (.inl (some (.int (0 : Int32))), G) else none) else (if l2 < l0 then (if narrow .boolean (.int (0 : Int32)) = .int (0 : Int32) then some (.inl (some (.int (0 : Int32))), G) else none) else (if narrow .boolean (.int (1 : Int32)) = .int (1 : Int32) then some (.inl (some (.int (1 : Int32))), G) else none))
theorem e_148_0 {K : gK} {d : Nat} {l0 : Int32} {l1 : Int32} {l2 : Int32} {G : gH} : gle (t_148_0 K d l0 l1 l2 G) (gRn K d 148 0 [some (.int l0), some (.int l1), some (.int l2)] [] G) := by
  unfold t_148_0
  refine g_iload ((q_148 _).trans rfl) rfl ?_
  refine g_iload ((q_148 _).trans rfl) rfl ?_
  refine g_cmplt ((q_148 _).trans rfl) (fun _ => ?_) (fun _ => ?_)
  · refine g_push ((q_148 _).trans rfl) ?_
    exact g_zret ((q_148 _).trans rfl)
  · refine g_iload ((q_148 _).trans rfl) rfl ?_
    refine g_iload ((q_148 _).trans rfl) rfl ?_
    refine g_cmpgt ((q_148 _).trans rfl) (fun _ => ?_) (fun _ => ?_)
    · refine g_push ((q_148 _).trans rfl) ?_
      exact g_zret ((q_148 _).trans rfl)
    · refine g_push ((q_148 _).trans rfl) ?_
      refine g_goto ((q_148 _).trans rfl) ?_
      exact g_zret ((q_148 _).trans rfl)
theorem c_148 {K : gK} {d : Nat} {l0 : Int32} {l1 : Int32} {l2 : Int32} {G : gH} : gle (t_148_0 K d l0 l1 l2 G) (gCa K (d + 1) 148 [.int l0, .int l1, .int l2] G) := by
  have h : gent (gMx 148) [.int l0, .int l1, .int l2] = [some (.int l0), some (.int l1), some (.int l2)] := by
    show gent (gT 148).2.2.2.1 _ = _
    rw [m_148]; rfl
  exact fun r e => (congrArg (fun q => gRn K d 148 0 q [] G) h).trans (e_148_0 r e)
theorem q_149 {K : gK} (pc : Nat) : gP K 149 pc = ((gL_149 K).lookup pc).getD o_none := rfl
noncomputable def t_149_0 (K : gK) (d : Nat) (l0 : Int32) (G : gH) : Option gO := if l0 = 0 then (some (.inr 0, gjunk G 6)) else (some (.inl none, G))
theorem e_149_0 {K : gK} {d : Nat} {l0 : Int32} {G : gH} : gle (t_149_0 K d l0 G) (gRn K d 149 0 [some (.int l0)] [] G) := by
  unfold t_149_0
  refine g_iload ((q_149 _).trans rfl) rfl ?_
  refine g_ifne ((q_149 _).trans rfl) (fun _ => ?_) (fun _ => ?_)
  · exact gle.tr (gle.eq (if_pos (Nat.le_of_ble_eq_true rfl)).symm) (g_throw ((q_149 _).trans rfl))
  · exact g_vret ((q_149 _).trans rfl)
theorem c_149 {K : gK} {d : Nat} {l0 : Int32} {G : gH} : gle (t_149_0 K d l0 G) (gCa K (d + 1) 149 [.int l0] G) := by
  have h : gent (gMx 149) [.int l0] = [some (.int l0)] := by
    show gent (gT 149).2.2.2.1 _ = _
    rw [m_149]; rfl
  exact fun r e => (congrArg (fun q => gRn K d 149 0 q [] G) h).trans (e_149_0 r e)
theorem q_150 {K : gK} (pc : Nat) : gP K 150 pc = ((gL_150 K).lookup pc).getD o_none := rfl
noncomputable def t_150_0_1 (K : gK) (d : Nat) (G : gH) (v1 : Int32) : Option gO := if v1 = 0 then (if narrow .boolean (.int (1 : Int32)) = .int (1 : Int32) then some (.inl (some (.int (1 : Int32))), G) else none) else (if narrow .boolean (.int (0 : Int32)) = .int (0 : Int32) then some (.inl (some (.int (0 : Int32))), G) else none)
noncomputable def t_150_0 (K : gK) (d : Nat) (l0 : Nat) (G : gH) : Option gO := rI G l0 12 2 (t_150_0_1 K d G)
theorem e_150_0 {K : gK} {d : Nat} {l0 : Nat} {G : gH} : gle (t_150_0 K d l0 G) (gRn K d 150 0 [some (.ref l0)] [] G) := by
  unfold t_150_0
  refine g_aload ((q_150 _).trans rfl) rfl ?_
  refine g_getI ((q_150 _).trans rfl) (fun v1 => ?_)
  refine g_ifne ((q_150 _).trans rfl) (fun _ => ?_) (fun _ => ?_)
  · refine g_push ((q_150 _).trans rfl) ?_
    refine g_goto ((q_150 _).trans rfl) ?_
    exact g_zret ((q_150 _).trans rfl)
  · refine g_push ((q_150 _).trans rfl) ?_
    exact g_zret ((q_150 _).trans rfl)
theorem c_150 {K : gK} {d : Nat} {l0 : Nat} {G : gH} : gle (t_150_0 K d l0 G) (gCa K (d + 1) 150 [.ref l0] G) := by
  have h : gent (gMx 150) [.ref l0] = [some (.ref l0)] := by
    show gent (gT 150).2.2.2.1 _ = _
    rw [m_150]; rfl
  exact fun r e => (congrArg (fun q => gRn K d 150 0 q [] G) h).trans (e_150_0 r e)
theorem q_151 {K : gK} (pc : Nat) : gP K 151 pc = ((gL_151 K).lookup pc).getD o_none := rfl
noncomputable def t_151_0 (K : gK) (d : Nat) (l0 : Int32) (G : gH) : Option gO := if l0 = 0 then (some (.inr 1, gjunk G 6)) else (some (.inl none, G))
theorem e_151_0 {K : gK} {d : Nat} {l0 : Int32} {G : gH} : gle (t_151_0 K d l0 G) (gRn K d 151 0 [some (.int l0)] [] G) := by
  unfold t_151_0
  refine g_iload ((q_151 _).trans rfl) rfl ?_
  refine g_ifne ((q_151 _).trans rfl) (fun _ => ?_) (fun _ => ?_)
  · exact gle.tr (gle.eq (if_pos (Nat.le_of_ble_eq_true rfl)).symm) (g_throw ((q_151 _).trans rfl))
  · exact g_vret ((q_151 _).trans rfl)
theorem c_151 {K : gK} {d : Nat} {l0 : Int32} {G : gH} : gle (t_151_0 K d l0 G) (gCa K (d + 1) 151 [.int l0] G) := by
  have h : gent (gMx 151) [.int l0] = [some (.int l0)] := by
    show gent (gT 151).2.2.2.1 _ = _
    rw [m_151]; rfl
  exact fun r e => (congrArg (fun q => gRn K d 151 0 q [] G) h).trans (e_151_0 r e)
theorem q_152 {K : gK} (pc : Nat) : gP K 152 pc = ((gL_152 K).lookup pc).getD o_none := rfl
noncomputable def t_152_0_1 (K : gK) (d : Nat) (G : gH) (v3 : Int32) : Option gO := some (.inl (some (.int v3)), G)
noncomputable def t_152_0_2 (K : gK) (d : Nat) (G : gH) (l2 : Int32) (a2 : Nat) : Option gO := xI G a2 0 l2 (t_152_0_1 K d G)
noncomputable def t_152_0_3 (K : gK) (d : Nat) (G : gH) (l1 : Int32) (l2 : Int32) (a1 : Nat) : Option gO := xQ G a1 8 l1 (t_152_0_2 K d G l2)
noncomputable def t_152_0 (K : gK) (d : Nat) (l0 : Nat) (l1 : Int32) (l2 : Int32) (G : gH) : Option gO := rR G l0 2 0 (t_152_0_3 K d G l1 l2)
theorem e_152_0 {K : gK} {d : Nat} {l0 : Nat} {l1 : Int32} {l2 : Int32} {G : gH} : gle (t_152_0 K d l0 l1 l2 G) (gRn K d 152 0 [some (.ref l0), some (.int l1), some (.int l2)] [] G) := by
  unfold t_152_0
  refine g_aload ((q_152 _).trans rfl) rfl ?_
  refine g_getR ((q_152 _).trans rfl) (fun a1 => ?_)
  refine g_iload ((q_152 _).trans rfl) rfl ?_
  refine g_aald ((q_152 _).trans rfl) (fun a2 => ?_)
  refine g_iload ((q_152 _).trans rfl) rfl ?_
  refine g_iald ((q_152 _).trans rfl) (fun v3 => ?_)
  exact g_iret ((q_152 _).trans rfl)
theorem c_152 {K : gK} {d : Nat} {l0 : Nat} {l1 : Int32} {l2 : Int32} {G : gH} : gle (t_152_0 K d l0 l1 l2 G) (gCa K (d + 1) 152 [.ref l0, .int l1, .int l2] G) := by
  have h : gent (gMx 152) [.ref l0, .int l1, .int l2] = [some (.ref l0), some (.int l1), some (.int l2)] := by
    show gent (gT 152).2.2.2.1 _ = _
    rw [m_152]; rfl
  exact fun r e => (congrArg (fun q => gRn K d 152 0 q [] G) h).trans (e_152_0 r e)
theorem q_153 {K : gK} (pc : Nat) : gP K 153 pc = ((gL_153 K).lookup pc).getD o_none := rfl
noncomputable def t_153_0 (K : gK) (d : Nat) (l0 : Int32) (G : gH) : Option gO := if l0 = 0 then (some (.inr 2, gjunk G 6)) else (some (.inl none, G))
theorem e_153_0 {K : gK} {d : Nat} {l0 : Int32} {G : gH} : gle (t_153_0 K d l0 G) (gRn K d 153 0 [some (.int l0)] [] G) := by
  unfold t_153_0
  refine g_iload ((q_153 _).trans rfl) rfl ?_
  refine g_ifne ((q_153 _).trans rfl) (fun _ => ?_) (fun _ => ?_)
  · exact gle.tr (gle.eq (if_pos (Nat.le_of_ble_eq_true rfl)).symm) (g_throw ((q_153 _).trans rfl))
  · exact g_vret ((q_153 _).trans rfl)
theorem c_153 {K : gK} {d : Nat} {l0 : Int32} {G : gH} : gle (t_153_0 K d l0 G) (gCa K (d + 1) 153 [.int l0] G) := by
  have h : gent (gMx 153) [.int l0] = [some (.int l0)] := by
    show gent (gT 153).2.2.2.1 _ = _
    rw [m_153]; rfl
  exact fun r e => (congrArg (fun q => gRn K d 153 0 q [] G) h).trans (e_153_0 r e)
theorem q_154 {K : gK} (pc : Nat) : gP K 154 pc = ((gL_154 K).lookup pc).getD o_none := rfl
noncomputable def t_154_0_1 (K : gK) (d : Nat) (l0 : Int32) (G3 : gH) (v5 : Int32) : Option gO := if l0 = v5 then (some (.inl (some (.ref (K.2 1))), G3)) else (some (.inl (some (.ref (K.2 2))), G3))
noncomputable def t_154_0_2 (K : gK) (d : Nat) (l0 : Int32) (G3 : gH) : Option gO := xLt K (K.2 1) (t_154_0_1 K d l0 G3)
noncomputable def t_154_0_3 (K : gK) (d : Nat) (l0 : Int32) (G7 : gH) (v9 : Int32) : Option gO := if l0 = v9 then (some (.inl (some (.ref (K.2 1))), G7)) else (some (.inl (some (.ref (K.2 2))), G7))
noncomputable def t_154_0_4 (K : gK) (d : Nat) (l0 : Int32) (G7 : gH) : Option gO := xLt K (K.2 1) (t_154_0_3 K d l0 G7)
noncomputable def t_154_0_5 (K : gK) (d : Nat) (l0 : Int32) (G10 : gH) (v12 : Int32) : Option gO := if l0 = v12 then (some (.inl (some (.ref (K.2 1))), G10)) else (some (.inl (some (.ref (K.2 2))), G10))
noncomputable def t_154_0_6 (K : gK) (d : Nat) (l0 : Int32) (G10 : gH) : Option gO := xLt K (K.2 1) (t_154_0_5 K d l0 G10)
noncomputable def t_154_0_7 (K : gK) (d : Nat) (l0 : Int32) (G : gH) (v6 : Int32) : Option gO := if l0 = v6 then (cV (gCa K d 149 [.int (1 : Int32)] G) (t_154_0_4 K d l0)) else (cV (gCa K d 149 [.int (0 : Int32)] G) (t_154_0_6 K d l0))
noncomputable def t_154_0_8 (K : gK) (d : Nat) (l0 : Int32) (G : gH) (v2 : Int32) : Option gO := if l0 = v2 then (cV (gCa K d 149 [.int (1 : Int32)] G) (t_154_0_2 K d l0)) else (xLt K (K.2 2) (t_154_0_7 K d l0 G))
noncomputable def t_154_0_9 (K : gK) (d : Nat) (l0 : Int32) (G : gH) (v1 : Int32) : Option gO := if l0 = v1 then (some (.inl (some (.ref (K.2 0))), G)) else (xLt K (K.2 1) (t_154_0_8 K d l0 G))
noncomputable def t_154_0 (K : gK) (d : Nat) (l0 : Int32) (G : gH) : Option gO := xLt K (K.2 0) (t_154_0_9 K d l0 G)
theorem e_154_0 {K : gK} {d : Nat} {l0 : Int32} {G : gH} : gle (t_154_0 K d l0 G) (gRn K d 154 0 [some (.int l0)] [] G) := by
  unfold t_154_0
  refine g_iload ((q_154 _).trans rfl) rfl ?_
  refine g_push ((q_154 _).trans rfl) ?_
  refine g_letter ((q_154 _).trans rfl) (fun v1 => ?_)
  refine g_cmpne ((q_154 _).trans rfl) (fun _ => ?_) (fun _ => ?_)
  · refine g_push ((q_154 _).trans rfl) ?_
    exact g_aret ((q_154 _).trans rfl)
  · refine g_iload ((q_154 _).trans rfl) rfl ?_
    refine g_push ((q_154 _).trans rfl) ?_
    refine g_letter ((q_154 _).trans rfl) (fun v2 => ?_)
    refine g_cmpeq ((q_154 _).trans rfl) (fun _ => ?_) (fun _ => ?_)
    · refine g_push ((q_154 _).trans rfl) ?_
      refine g_goto ((q_154 _).trans rfl) ?_
      refine g_callS (kk := 1) ((q_154 _).trans rfl) (gHn m_154) (by exact ⟨Nat.le_of_ble_eq_true rfl, Nat.le_of_ble_eq_true rfl, rfl⟩) rfl (fun w G3 => gm_V (fun hw => ?_))
      subst hw
      refine g_iload ((q_154 _).trans rfl) rfl ?_
      refine g_push ((q_154 _).trans rfl) ?_
      refine g_letter ((q_154 _).trans rfl) (fun v5 => ?_)
      refine g_cmpne ((q_154 _).trans rfl) (fun _ => ?_) (fun _ => ?_)
      · refine g_push ((q_154 _).trans rfl) ?_
        refine g_goto ((q_154 _).trans rfl) ?_
        exact g_aret ((q_154 _).trans rfl)
      · refine g_push ((q_154 _).trans rfl) ?_
        exact g_aret ((q_154 _).trans rfl)
    · refine g_iload ((q_154 _).trans rfl) rfl ?_
      refine g_push ((q_154 _).trans rfl) ?_
      refine g_letter ((q_154 _).trans rfl) (fun v6 => ?_)
      refine g_cmpne ((q_154 _).trans rfl) (fun _ => ?_) (fun _ => ?_)
      · refine g_push ((q_154 _).trans rfl) ?_
        refine g_goto ((q_154 _).trans rfl) ?_
        refine g_callS (kk := 1) ((q_154 _).trans rfl) (gHn m_154) (by exact ⟨Nat.le_of_ble_eq_true rfl, Nat.le_of_ble_eq_true rfl, rfl⟩) rfl (fun w G7 => gm_V (fun hw => ?_))
        subst hw
        refine g_iload ((q_154 _).trans rfl) rfl ?_
        refine g_push ((q_154 _).trans rfl) ?_
        refine g_letter ((q_154 _).trans rfl) (fun v9 => ?_)
        refine g_cmpne ((q_154 _).trans rfl) (fun _ => ?_) (fun _ => ?_)
        · refine g_push ((q_154 _).trans rfl) ?_
          refine g_goto ((q_154 _).trans rfl) ?_
          exact g_aret ((q_154 _).trans rfl)
        · refine g_push ((q_154 _).trans rfl) ?_
          exact g_aret ((q_154 _).trans rfl)
      · refine g_push ((q_154 _).trans rfl) ?_
        refine g_callS (kk := 1) ((q_154 _).trans rfl) (gHn m_154) (by exact ⟨Nat.le_of_ble_eq_true rfl, Nat.le_of_ble_eq_true rfl, rfl⟩) rfl (fun w G10 => gm_V (fun hw => ?_))
        subst hw
        refine g_iload ((q_154 _).trans rfl) rfl ?_
        refine g_push ((q_154 _).trans rfl) ?_
        refine g_letter ((q_154 _).trans rfl) (fun v12 => ?_)
        refine g_cmpne ((q_154 _).trans rfl) (fun _ => ?_) (fun _ => ?_)
        · refine g_push ((q_154 _).trans rfl) ?_
          refine g_goto ((q_154 _).trans rfl) ?_
          exact g_aret ((q_154 _).trans rfl)
        · refine g_push ((q_154 _).trans rfl) ?_
          exact g_aret ((q_154 _).trans rfl)
theorem c_154 {K : gK} {d : Nat} {l0 : Int32} {G : gH} : gle (t_154_0 K d l0 G) (gCa K (d + 1) 154 [.int l0] G) := by
  have h : gent (gMx 154) [.int l0] = [some (.int l0)] := by
    show gent (gT 154).2.2.2.1 _ = _
    rw [m_154]; rfl
  exact fun r e => (congrArg (fun q => gRn K d 154 0 q [] G) h).trans (e_154_0 r e)
theorem q_155 {K : gK} (pc : Nat) : gP K 155 pc = ((gL_155 K).lookup pc).getD o_none := rfl
noncomputable def t_155_0_1 (K : gK) (d : Nat) (G11 : gH) : Option gO := some (.inl none, G11)
noncomputable def t_155_0_2 (K : gK) (d : Nat) (l0 : Nat) (G10 : gH) : Option gO := if g_cls G10 l0 = some 4 then (cV (gCa K d 162 [.ref l0] G10) (t_155_0_1 K d)) else none
noncomputable def t_155_0_3 (K : gK) (d : Nat) (l2 : Int32) (l0 : Nat) (G9 : gH) : Option gO := if narrow .boolean (.int l2) = .int l2 ∧ fits .boolean (.int l2) = true then wF G9 l0 4 1 (.int l2) (t_155_0_2 K d l0) else none
noncomputable def t_155_0_4 (K : gK) (d : Nat) (l1 : Nat) (l0 : Nat) (l2 : Int32) (G8 : gH) : Option gO := if narrow (.object "CuttingRoom$Rule") (.ref l1) = .ref l1 ∧ fits (.object "CuttingRoom$Rule") (.ref l1) = true then wF G8 l0 4 0 (.ref l1) (t_155_0_3 K d l2 l0) else none
noncomputable def t_155_0_5 (K : gK) (d : Nat) (l0 : Nat) (l1 : Nat) (l2 : Int32) (G7 : gH) : Option gO := if (8 : Int32) < 0 ∨ 100000 < ((8 : Int32)).toNatClampNeg then none else (if narrow (.array (.object "CuttingRoom$Variant")) (.ref (G7.2.1)) = .ref (G7.2.1) ∧ fits (.array (.object "CuttingRoom$Variant")) (.ref (G7.2.1)) = true then wF (gnew G7 (.inl (7, ((8 : Int32)).toNatClampNeg, gQ (fun _ => none))) ((8 : Int32)).toNatClampNeg) l0 4 8 (.ref (G7.2.1)) (t_155_0_4 K d l1 l0 l2) else none)
noncomputable def t_155_0_6 (K : gK) (d : Nat) (G4 : gH) (l0 : Nat) (l1 : Nat) (l2 : Int32) (G5 : gH) : Option gO := if narrow (.object "CuttingRoom$Cell") (.ref (G4.2.1)) = .ref (G4.2.1) ∧ fits (.object "CuttingRoom$Cell") (.ref (G4.2.1)) = true then wF G5 l0 4 4 (.ref (G4.2.1)) (t_155_0_5 K d l0 l1 l2) else none
noncomputable def t_155_0_7 (K : gK) (d : Nat) (l0 : Nat) (l1 : Nat) (l2 : Int32) (G4 : gH) : Option gO := cV (gCa K d 161 [.ref (G4.2.1), .int (0 : Int32), .int (0 : Int32)] (gnew G4 (.inr (5, [.int 0, .int 0])) 2)) (t_155_0_6 K d G4 l0 l1 l2)
noncomputable def t_155_0_8 (K : gK) (d : Nat) (l0 : Nat) (l1 : Nat) (l2 : Int32) (G3 : gH) : Option gO := if narrow .int (.int ((-1) : Int32)) = .int ((-1) : Int32) ∧ fits .int (.int ((-1) : Int32)) = true then wF G3 l0 4 3 (.int ((-1) : Int32)) (t_155_0_7 K d l0 l1 l2) else none
noncomputable def t_155_0_9 (K : gK) (d : Nat) (G : gH) (l0 : Nat) (l1 : Nat) (l2 : Int32) (G1 : gH) : Option gO := if narrow (.object "java/util/List") (.ref (G.2.1)) = .ref (G.2.1) ∧ fits (.object "java/util/List") (.ref (G.2.1)) = true then wF G1 l0 4 2 (.ref (G.2.1)) (t_155_0_8 K d l0 l1 l2) else none
noncomputable def t_155_0 (K : gK) (d : Nat) (l0 : Nat) (l1 : Nat) (l2 : Int32) (G : gH) : Option gO := cV (gCa K d 84 [.ref (G.2.1)] (gnew G (.inr (12, [.int 0, .null, .int 0])) 3)) (t_155_0_9 K d G l0 l1 l2)
theorem e_155_0 {K : gK} {d : Nat} {l0 : Nat} {l1 : Nat} {l2 : Int32} {G : gH} : gle (t_155_0 K d l0 l1 l2 G) (gRn K d 155 0 [some (.ref l0), some (.ref l1), some (.int l2)] [] G) := by
  unfold t_155_0
  refine g_aload ((q_155 _).trans rfl) rfl ?_
  refine g_objinit ((q_155 _).trans rfl) (Nat.le_of_ble_eq_true rfl) ?_
  refine g_aload ((q_155 _).trans rfl) rfl ?_
  refine g_new ((q_155 _).trans rfl) ?_
  refine g_dup_ref ((q_155 _).trans rfl) ?_
  refine g_callI (kk := 0) ((q_155 _).trans rfl) (gHn m_155) rfl (by exact ⟨Nat.le_of_ble_eq_true rfl, rfl⟩) rfl (fun w G1 => gm_V (fun hw => ?_))
  subst hw
  refine g_putf ((q_155 _).trans rfl) (fun G3 => ?_)
  refine g_aload ((q_155 _).trans rfl) rfl ?_
  refine g_push ((q_155 _).trans rfl) ?_
  refine g_putf ((q_155 _).trans rfl) (fun G4 => ?_)
  refine g_aload ((q_155 _).trans rfl) rfl ?_
  refine g_new ((q_155 _).trans rfl) ?_
  refine g_dup_ref ((q_155 _).trans rfl) ?_
  refine g_push ((q_155 _).trans rfl) ?_
  refine g_push ((q_155 _).trans rfl) ?_
  refine g_callI (kk := 2) ((q_155 _).trans rfl) (gHn m_155) rfl (by exact ⟨Nat.le_of_ble_eq_true rfl, rfl⟩) rfl (fun w G5 => gm_V (fun hw => ?_))
  subst hw
  refine g_putf ((q_155 _).trans rfl) (fun G7 => ?_)
  refine g_aload ((q_155 _).trans rfl) rfl ?_
  refine g_push ((q_155 _).trans rfl) ?_
  refine g_newq ((q_155 _).trans rfl) (fun _ => ?_)
  refine g_putf ((q_155 _).trans rfl) (fun G8 => ?_)
  refine g_aload ((q_155 _).trans rfl) rfl ?_
  refine g_aload ((q_155 _).trans rfl) rfl ?_
  refine g_putf ((q_155 _).trans rfl) (fun G9 => ?_)
  refine g_aload ((q_155 _).trans rfl) rfl ?_
  refine g_iload ((q_155 _).trans rfl) rfl ?_
  refine g_putf ((q_155 _).trans rfl) (fun G10 => ?_)
  refine g_aload ((q_155 _).trans rfl) rfl ?_
  refine g_callV (kk := 0) ((q_155 _).trans rfl) (gHn m_155) rfl (by exact ⟨Nat.le_of_ble_eq_true rfl, rfl⟩) rfl (fun w G11 => gm_V (fun hw => ?_))
  subst hw
  exact g_vret ((q_155 _).trans rfl)
theorem c_155 {K : gK} {d : Nat} {l0 : Nat} {l1 : Nat} {l2 : Int32} {G : gH} : gle (t_155_0 K d l0 l1 l2 G) (gCa K (d + 1) 155 [.ref l0, .ref l1, .int l2] G) := by
  have h : gent (gMx 155) [.ref l0, .ref l1, .int l2] = [some (.ref l0), some (.ref l1), some (.int l2)] := by
    show gent (gT 155).2.2.2.1 _ = _
    rw [m_155]; rfl
  exact fun r e => (congrArg (fun q => gRn K d 155 0 q [] G) h).trans (e_155_0 r e)
theorem q_156 {K : gK} (pc : Nat) : gP K 156 pc = ((gL_156 K).lookup pc).getD o_none := rfl
noncomputable def t_156_0_1 (K : gK) (d : Nat) (G5 : gH) : Option gO := if narrow .boolean (.int (1 : Int32)) = .int (1 : Int32) then some (.inl (some (.int (1 : Int32))), G5) else none
noncomputable def t_156_0_2 (K : gK) (d : Nat) (G2 : gH) (l0 : Nat) (l1 : Nat) (a3 : Nat) (v4 : Int32) : Option gO := if g_cls G2 l0 = some 12 then (cV (gCa K d 196 [.ref l0, .ref l1, .ref a3, .int v4] G2) (t_156_0_1 K d)) else none
noncomputable def t_156_0_3 (K : gK) (d : Nat) (G2 : gH) (l0 : Nat) (l1 : Nat) (a3 : Nat) : Option gO := rI G2 l0 12 2 (t_156_0_2 K d G2 l0 l1 a3)
noncomputable def t_156_0_4 (K : gK) (d : Nat) (l0 : Nat) (l1 : Nat) (G2 : gH) : Option gO := rR G2 l0 12 1 (t_156_0_3 K d G2 l0 l1)
noncomputable def t_156_0_5 (K : gK) (d : Nat) (G : gH) (l0 : Nat) (l1 : Nat) (v1 : Int32) : Option gO := if narrow .int (.int (v1 + (1 : Int32))) = .int (v1 + (1 : Int32)) ∧ fits .int (.int (v1 + (1 : Int32))) = true then wF G l0 12 0 (.int (v1 + (1 : Int32))) (t_156_0_4 K d l0 l1) else none
noncomputable def t_156_0 (K : gK) (d : Nat) (l0 : Nat) (l1 : Nat) (G : gH) : Option gO := rI G l0 12 0 (t_156_0_5 K d G l0 l1)
theorem e_156_0 {K : gK} {d : Nat} {l0 : Nat} {l1 : Nat} {G : gH} : gle (t_156_0 K d l0 l1 G) (gRn K d 156 0 [some (.ref l0), some (.ref l1)] [] G) := by
  unfold t_156_0
  refine g_aload ((q_156 _).trans rfl) rfl ?_
  refine g_dup_ref ((q_156 _).trans rfl) ?_
  refine g_getI ((q_156 _).trans rfl) (fun v1 => ?_)
  refine g_push ((q_156 _).trans rfl) ?_
  refine g_iadd ((q_156 _).trans rfl) ?_
  refine g_putf ((q_156 _).trans rfl) (fun G2 => ?_)
  refine g_aload ((q_156 _).trans rfl) rfl ?_
  refine g_aload ((q_156 _).trans rfl) rfl ?_
  refine g_aload ((q_156 _).trans rfl) rfl ?_
  refine g_getR ((q_156 _).trans rfl) (fun a3 => ?_)
  refine g_aload ((q_156 _).trans rfl) rfl ?_
  refine g_getI ((q_156 _).trans rfl) (fun v4 => ?_)
  refine g_callV (kk := 3) ((q_156 _).trans rfl) (gHn m_156) rfl (by exact ⟨Nat.le_of_ble_eq_true rfl, rfl⟩) rfl (fun w G5 => gm_V (fun hw => ?_))
  subst hw
  refine g_push ((q_156 _).trans rfl) ?_
  exact g_zret ((q_156 _).trans rfl)
theorem c_156 {K : gK} {d : Nat} {l0 : Nat} {l1 : Nat} {G : gH} : gle (t_156_0 K d l0 l1 G) (gCa K (d + 1) 156 [.ref l0, .ref l1] G) := by
  have h : gent (gMx 156) [.ref l0, .ref l1] = [some (.ref l0), some (.ref l1)] := by
    show gent (gT 156).2.2.2.1 _ = _
    rw [m_156]; rfl
  exact fun r e => (congrArg (fun q => gRn K d 156 0 q [] G) h).trans (e_156_0 r e)
theorem q_157 {K : gK} (pc : Nat) : gP K 157 pc = ((gL_157 K).lookup pc).getD o_none := rfl
noncomputable def t_157_0_1 (K : gK) (d : Nat) (a3 : Nat) (G2 : gH) : Option gO := if g_cls G2 a3 = some 4 then (some (.inl (some (.ref a3)), G2)) else none
noncomputable def t_157_0_2 (K : gK) (d : Nat) (l1 : Int32) (G : gH) (a1 : Nat) : Option gO := cR (gCa K d 197 [.ref a1, .int l1] G) (t_157_0_1 K d)
noncomputable def t_157_0 (K : gK) (d : Nat) (l0 : Nat) (l1 : Int32) (G : gH) : Option gO := rR G l0 0 0 (t_157_0_2 K d l1 G)
theorem e_157_0 {K : gK} {d : Nat} {l0 : Nat} {l1 : Int32} {G : gH} : gle (t_157_0 K d l0 l1 G) (gRn K d 157 0 [some (.ref l0), some (.int l1)] [] G) := by
  unfold t_157_0
  refine g_aload ((q_157 _).trans rfl) rfl ?_
  refine g_getR ((q_157 _).trans rfl) (fun a1 => ?_)
  refine g_iload ((q_157 _).trans rfl) rfl ?_
  refine g_callS (kk := 2) ((q_157 _).trans rfl) (gHn m_157) (by exact ⟨Nat.le_of_ble_eq_true rfl, Nat.le_of_ble_eq_true rfl, rfl⟩) rfl (fun w G2 => gm_R (fun a3 hw => ?_))
  subst hw
  refine g_ccast ((q_157 _).trans rfl) ?_
  exact g_aret ((q_157 _).trans rfl)
theorem c_157 {K : gK} {d : Nat} {l0 : Nat} {l1 : Int32} {G : gH} : gle (t_157_0 K d l0 l1 G) (gCa K (d + 1) 157 [.ref l0, .int l1] G) := by
  have h : gent (gMx 157) [.ref l0, .int l1] = [some (.ref l0), some (.int l1)] := by
    show gent (gT 157).2.2.2.1 _ = _
    rw [m_157]; rfl
  exact fun r e => (congrArg (fun q => gRn K d 157 0 q [] G) h).trans (e_157_0 r e)
theorem q_158 {K : gK} (pc : Nat) : gP K 158 pc = ((gL_158 K).lookup pc).getD o_none := rfl
noncomputable def t_158_0_1 (K : gK) (d : Nat) (v4 : Int32) (G3 : gH) : Option gO := if v4 = 0 then (if narrow .boolean (.int (0 : Int32)) = .int (0 : Int32) then some (.inl (some (.int (0 : Int32))), G3) else none) else (if narrow .boolean (.int (1 : Int32)) = .int (1 : Int32) then some (.inl (some (.int (1 : Int32))), G3) else none)
noncomputable def t_158_0_2 (K : gK) (d : Nat) (l1 : Int32) (v2 : Int32) (G1 : gH) : Option gO := if v2 = 0 then (if narrow .boolean (.int (0 : Int32)) = .int (0 : Int32) then some (.inl (some (.int (0 : Int32))), G1) else none) else (cI (gCa K d 148 [.int l1, .int (0 : Int32), .int (4 : Int32)] G1) (t_158_0_1 K d))
noncomputable def t_158_0 (K : gK) (d : Nat) (l0 : Int32) (l1 : Int32) (G : gH) : Option gO := cI (gCa K d 148 [.int l0, .int (0 : Int32), .int (4 : Int32)] G) (t_158_0_2 K d l1)
theorem e_158_0 {K : gK} {d : Nat} {l0 : Int32} {l1 : Int32} {G : gH} : gle (t_158_0 K d l0 l1 G) (gRn K d 158 0 [some (.int l0), some (.int l1)] [] G) := by
  unfold t_158_0
  refine g_iload ((q_158 _).trans rfl) rfl ?_
  refine g_push ((q_158 _).trans rfl) ?_
  refine g_push ((q_158 _).trans rfl) ?_
  refine g_callS (kk := 3) ((q_158 _).trans rfl) (gHn m_158) (by exact ⟨Nat.le_of_ble_eq_true rfl, Nat.le_of_ble_eq_true rfl, rfl⟩) rfl (fun w G1 => gm_I (fun v2 hw => ?_))
  subst hw
  refine g_ifeq ((q_158 _).trans rfl) (fun _ => ?_) (fun _ => ?_)
  · refine g_push ((q_158 _).trans rfl) ?_
    exact g_zret ((q_158 _).trans rfl)
  · refine g_iload ((q_158 _).trans rfl) rfl ?_
    refine g_push ((q_158 _).trans rfl) ?_
    refine g_push ((q_158 _).trans rfl) ?_
    refine g_callS (kk := 3) ((q_158 _).trans rfl) (gHn m_158) (by exact ⟨Nat.le_of_ble_eq_true rfl, Nat.le_of_ble_eq_true rfl, rfl⟩) rfl (fun w G3 => gm_I (fun v4 hw => ?_))
    subst hw
    refine g_ifeq ((q_158 _).trans rfl) (fun _ => ?_) (fun _ => ?_)
    · refine g_push ((q_158 _).trans rfl) ?_
      exact g_zret ((q_158 _).trans rfl)
    · refine g_push ((q_158 _).trans rfl) ?_
      refine g_goto ((q_158 _).trans rfl) ?_
      exact g_zret ((q_158 _).trans rfl)
theorem c_158 {K : gK} {d : Nat} {l0 : Int32} {l1 : Int32} {G : gH} : gle (t_158_0 K d l0 l1 G) (gCa K (d + 1) 158 [.int l0, .int l1] G) := by
  have h : gent (gMx 158) [.int l0, .int l1] = [some (.int l0), some (.int l1)] := by
    show gent (gT 158).2.2.2.1 _ = _
    rw [m_158]; rfl
  exact fun r e => (congrArg (fun q => gRn K d 158 0 q [] G) h).trans (e_158_0 r e)
theorem q_159 {K : gK} (pc : Nat) : gP K 159 pc = ((gL_159 K).lookup pc).getD o_none := rfl
noncomputable def t_159_0 (K : gK) (d : Nat) (l0 : Nat) (l1 : Int32) (l2 : Int32) (G : gH) : Option gO := gRn K d 159 2 [some (.ref l0), some (.int l1), some (.int l2), some (.int (0 : Int32)), none] [] G
theorem e_159_0 {K : gK} {d : Nat} {l0 : Nat} {l1 : Int32} {l2 : Int32} {G : gH} : gle (t_159_0 K d l0 l1 l2 G) (gRn K d 159 0 [some (.ref l0), some (.int l1), some (.int l2), none, none] [] G) := by
  unfold t_159_0
  refine g_push ((q_159 _).trans rfl) ?_
  refine g_istore ((q_159 _).trans rfl) ?_
  exact gle.rf _
theorem c_159 {K : gK} {d : Nat} {l0 : Nat} {l1 : Int32} {l2 : Int32} {G : gH} : gle (t_159_0 K d l0 l1 l2 G) (gCa K (d + 1) 159 [.ref l0, .int l1, .int l2] G) := by
  have h : gent (gMx 159) [.ref l0, .int l1, .int l2] = [some (.ref l0), some (.int l1), some (.int l2), none, none] := by
    show gent (gT 159).2.2.2.1 _ = _
    rw [m_159]; rfl
  exact fun r e => (congrArg (fun q => gRn K d 159 0 q [] G) h).trans (e_159_0 r e)
noncomputable def t_159_2_1 (K : gK) (d : Nat) (l0 : Nat) (l1 : Int32) (l2 : Int32) (l3 : Int32) (a6 : Nat) (v8 : Int32) (G7 : gH) : Option gO := if v8 = 0 then (gRn K d 159 2 [some (.ref l0), some (.int l1), some (.int l2), some (.int (l3 + 1)), some (.ref a6)] [] G7) else (if narrow .boolean (.int (1 : Int32)) = .int (1 : Int32) then some (.inl (some (.int (1 : Int32))), G7) else none)
noncomputable def t_159_2_2 (K : gK) (d : Nat) (l1 : Int32) (l2 : Int32) (l0 : Nat) (l3 : Int32) (a6 : Nat) (G5 : gH) : Option gO := if g_cls G5 a6 = some 5 then (if g_cls G5 a6 = some 5 then (cI (gCa K d 198 [.ref a6, .int l1, .int l2] G5) (t_159_2_1 K d l0 l1 l2 l3 a6)) else none) else none
noncomputable def t_159_2_3 (K : gK) (d : Nat) (G2 : gH) (l3 : Int32) (l1 : Int32) (l2 : Int32) (l0 : Nat) (a4 : Nat) : Option gO := if g_cls G2 a4 = some 12 then (cR (gCa K d 178 [.ref a4, .int l3] G2) (t_159_2_2 K d l1 l2 l0 l3)) else none
noncomputable def t_159_2_4 (K : gK) (d : Nat) (l3 : Int32) (l0 : Nat) (l1 : Int32) (l2 : Int32) (v3 : Int32) (G2 : gH) : Option gO := if v3 ≤ l3 then (if narrow .boolean (.int (0 : Int32)) = .int (0 : Int32) then some (.inl (some (.int (0 : Int32))), G2) else none) else (rR G2 l0 4 2 (t_159_2_3 K d G2 l3 l1 l2 l0))
noncomputable def t_159_2_5 (K : gK) (d : Nat) (G : gH) (l3 : Int32) (l0 : Nat) (l1 : Int32) (l2 : Int32) (a1 : Nat) : Option gO := if g_cls G a1 = some 12 then (cI (gCa K d 110 [.ref a1] G) (t_159_2_4 K d l3 l0 l1 l2)) else none
noncomputable def t_159_2 (K : gK) (d : Nat) (l0 : Nat) (l1 : Int32) (l2 : Int32) (l3 : Int32) (o4 : Option Value) (G : gH) : Option gO := rR G l0 4 2 (t_159_2_5 K d G l3 l0 l1 l2)
theorem e_159_2 {K : gK} {d : Nat} {l0 : Nat} {l1 : Int32} {l2 : Int32} {l3 : Int32} {o4 : Option Value} {G : gH} : gle (t_159_2 K d l0 l1 l2 l3 o4 G) (gRn K d 159 2 [some (.ref l0), some (.int l1), some (.int l2), some (.int l3), o4] [] G) := by
  unfold t_159_2
  refine g_iload ((q_159 _).trans rfl) rfl ?_
  refine g_aload ((q_159 _).trans rfl) rfl ?_
  refine g_getR ((q_159 _).trans rfl) (fun a1 => ?_)
  refine g_callV (kk := 0) ((q_159 _).trans rfl) (gHn m_159) rfl (by exact ⟨Nat.le_of_ble_eq_true rfl, rfl⟩) rfl (fun w G2 => gm_I (fun v3 hw => ?_))
  subst hw
  refine g_cmpge ((q_159 _).trans rfl) (fun _ => ?_) (fun _ => ?_)
  · refine g_push ((q_159 _).trans rfl) ?_
    exact g_zret ((q_159 _).trans rfl)
  · refine g_aload ((q_159 _).trans rfl) rfl ?_
    refine g_getR ((q_159 _).trans rfl) (fun a4 => ?_)
    refine g_iload ((q_159 _).trans rfl) rfl ?_
    refine g_callV (kk := 1) ((q_159 _).trans rfl) (gHn m_159) rfl (by exact ⟨Nat.le_of_ble_eq_true rfl, rfl⟩) rfl (fun w G5 => gm_R (fun a6 hw => ?_))
    subst hw
    refine g_ccast ((q_159 _).trans rfl) ?_
    refine g_astore ((q_159 _).trans rfl) ?_
    refine g_aload ((q_159 _).trans rfl) rfl ?_
    refine g_iload ((q_159 _).trans rfl) rfl ?_
    refine g_iload ((q_159 _).trans rfl) rfl ?_
    refine g_callV (kk := 2) ((q_159 _).trans rfl) (gHn m_159) rfl (by exact ⟨Nat.le_of_ble_eq_true rfl, rfl⟩) rfl (fun w G7 => gm_I (fun v8 hw => ?_))
    subst hw
    refine g_ifeq ((q_159 _).trans rfl) (fun _ => ?_) (fun _ => ?_)
    · refine g_iinc ((q_159 _).trans rfl) rfl ?_
      refine g_goto ((q_159 _).trans rfl) ?_
      exact gle.rf _
    · refine g_push ((q_159 _).trans rfl) ?_
      exact g_zret ((q_159 _).trans rfl)
theorem q_160 {K : gK} (pc : Nat) : gP K 160 pc = ((gL_160 K).lookup pc).getD o_none := rfl
noncomputable def t_160_0 (K : gK) (d : Nat) (l0 : Nat) (l1 : Nat) (G : gH) : Option gO := gRn K d 160 2 [some (.ref l0), some (.ref l1), some (.int (0 : Int32)), none] [] G
theorem e_160_0 {K : gK} {d : Nat} {l0 : Nat} {l1 : Nat} {G : gH} : gle (t_160_0 K d l0 l1 G) (gRn K d 160 0 [some (.ref l0), some (.ref l1), none, none] [] G) := by
  unfold t_160_0
  refine g_push ((q_160 _).trans rfl) ?_
  refine g_istore ((q_160 _).trans rfl) ?_
  exact gle.rf _
theorem c_160 {K : gK} {d : Nat} {l0 : Nat} {l1 : Nat} {G : gH} : gle (t_160_0 K d l0 l1 G) (gCa K (d + 1) 160 [.ref l0, .ref l1] G) := by
  have h : gent (gMx 160) [.ref l0, .ref l1] = [some (.ref l0), some (.ref l1), none, none] := by
    show gent (gT 160).2.2.2.1 _ = _
    rw [m_160]; rfl
  exact fun r e => (congrArg (fun q => gRn K d 160 0 q [] G) h).trans (e_160_0 r e)
noncomputable def t_160_2_1 (K : gK) (d : Nat) (l1 : Nat) (G5 : gH) (l0 : Nat) (l2 : Int32) (a6 : Nat) (a7 : Nat) : Option gO := if a7 = l1 then (if narrow .boolean (.int (1 : Int32)) = .int (1 : Int32) then some (.inl (some (.int (1 : Int32))), G5) else none) else (gRn K d 160 2 [some (.ref l0), some (.ref l1), some (.int (l2 + 1)), some (.ref a6)] [] G5)
noncomputable def t_160_2_2 (K : gK) (d : Nat) (l1 : Nat) (l0 : Nat) (l2 : Int32) (a6 : Nat) (G5 : gH) : Option gO := if g_cls G5 a6 = some 7 then (rR G5 a6 7 1 (t_160_2_1 K d l1 G5 l0 l2 a6)) else none
noncomputable def t_160_2_3 (K : gK) (d : Nat) (G2 : gH) (l2 : Int32) (l1 : Nat) (l0 : Nat) (a4 : Nat) : Option gO := if g_cls G2 a4 = some 12 then (cR (gCa K d 178 [.ref a4, .int l2] G2) (t_160_2_2 K d l1 l0 l2)) else none
noncomputable def t_160_2_4 (K : gK) (d : Nat) (l2 : Int32) (l0 : Nat) (l1 : Nat) (v3 : Int32) (G2 : gH) : Option gO := if v3 ≤ l2 then (if narrow .boolean (.int (0 : Int32)) = .int (0 : Int32) then some (.inl (some (.int (0 : Int32))), G2) else none) else (rR G2 l0 0 2 (t_160_2_3 K d G2 l2 l1 l0))
noncomputable def t_160_2_5 (K : gK) (d : Nat) (G : gH) (l2 : Int32) (l0 : Nat) (l1 : Nat) (a1 : Nat) : Option gO := if g_cls G a1 = some 12 then (cI (gCa K d 110 [.ref a1] G) (t_160_2_4 K d l2 l0 l1)) else none
noncomputable def t_160_2 (K : gK) (d : Nat) (l0 : Nat) (l1 : Nat) (l2 : Int32) (o3 : Option Value) (G : gH) : Option gO := rR G l0 0 2 (t_160_2_5 K d G l2 l0 l1)
theorem e_160_2 {K : gK} {d : Nat} {l0 : Nat} {l1 : Nat} {l2 : Int32} {o3 : Option Value} {G : gH} : gle (t_160_2 K d l0 l1 l2 o3 G) (gRn K d 160 2 [some (.ref l0), some (.ref l1), some (.int l2), o3] [] G) := by
  unfold t_160_2
  refine g_iload ((q_160 _).trans rfl) rfl ?_
  refine g_aload ((q_160 _).trans rfl) rfl ?_
  refine g_getR ((q_160 _).trans rfl) (fun a1 => ?_)
  refine g_callV (kk := 0) ((q_160 _).trans rfl) (gHn m_160) rfl (by exact ⟨Nat.le_of_ble_eq_true rfl, rfl⟩) rfl (fun w G2 => gm_I (fun v3 hw => ?_))
  subst hw
  refine g_cmpge ((q_160 _).trans rfl) (fun _ => ?_) (fun _ => ?_)
  · refine g_push ((q_160 _).trans rfl) ?_
    exact g_zret ((q_160 _).trans rfl)
  · refine g_aload ((q_160 _).trans rfl) rfl ?_
    refine g_getR ((q_160 _).trans rfl) (fun a4 => ?_)
    refine g_iload ((q_160 _).trans rfl) rfl ?_
    refine g_callV (kk := 1) ((q_160 _).trans rfl) (gHn m_160) rfl (by exact ⟨Nat.le_of_ble_eq_true rfl, rfl⟩) rfl (fun w G5 => gm_R (fun a6 hw => ?_))
    subst hw
    refine g_ccast ((q_160 _).trans rfl) ?_
    refine g_astore ((q_160 _).trans rfl) ?_
    refine g_aload ((q_160 _).trans rfl) rfl ?_
    refine g_getR ((q_160 _).trans rfl) (fun a7 => ?_)
    refine g_aload ((q_160 _).trans rfl) rfl ?_
    refine g_acmpne ((q_160 _).trans rfl) (fun _ => ?_) (fun _ => ?_)
    · refine g_push ((q_160 _).trans rfl) ?_
      exact g_zret ((q_160 _).trans rfl)
    · refine g_iinc ((q_160 _).trans rfl) rfl ?_
      refine g_goto ((q_160 _).trans rfl) ?_
      exact gle.rf _
theorem q_161 {K : gK} (pc : Nat) : gP K 161 pc = ((gL_161 K).lookup pc).getD o_none := rfl
noncomputable def t_161_0_1 (K : gK) (d : Nat) (G2 : gH) : Option gO := some (.inl none, G2)
noncomputable def t_161_0_2 (K : gK) (d : Nat) (l2 : Int32) (l0 : Nat) (G1 : gH) : Option gO := if narrow .int (.int l2) = .int l2 ∧ fits .int (.int l2) = true then wF G1 l0 5 1 (.int l2) (t_161_0_1 K d) else none
noncomputable def t_161_0 (K : gK) (d : Nat) (l0 : Nat) (l1 : Int32) (l2 : Int32) (G : gH) : Option gO := if narrow .int (.int l1) = .int l1 ∧ fits .int (.int l1) = true then wF G l0 5 0 (.int l1) (t_161_0_2 K d l2 l0) else none
theorem e_161_0 {K : gK} {d : Nat} {l0 : Nat} {l1 : Int32} {l2 : Int32} {G : gH} : gle (t_161_0 K d l0 l1 l2 G) (gRn K d 161 0 [some (.ref l0), some (.int l1), some (.int l2)] [] G) := by
  unfold t_161_0
  refine g_aload ((q_161 _).trans rfl) rfl ?_
  refine g_objinit ((q_161 _).trans rfl) (Nat.le_of_ble_eq_true rfl) ?_
  refine g_aload ((q_161 _).trans rfl) rfl ?_
  refine g_iload ((q_161 _).trans rfl) rfl ?_
  refine g_putf ((q_161 _).trans rfl) (fun G1 => ?_)
  refine g_aload ((q_161 _).trans rfl) rfl ?_
  refine g_iload ((q_161 _).trans rfl) rfl ?_
  refine g_putf ((q_161 _).trans rfl) (fun G2 => ?_)
  exact g_vret ((q_161 _).trans rfl)
theorem c_161 {K : gK} {d : Nat} {l0 : Nat} {l1 : Int32} {l2 : Int32} {G : gH} : gle (t_161_0 K d l0 l1 l2 G) (gCa K (d + 1) 161 [.ref l0, .int l1, .int l2] G) := by
  have h : gent (gMx 161) [.ref l0, .int l1, .int l2] = [some (.ref l0), some (.int l1), some (.int l2)] := by
    show gent (gT 161).2.2.2.1 _ = _
    rw [m_161]; rfl
  exact fun r e => (congrArg (fun q => gRn K d 161 0 q [] G) h).trans (e_161_0 r e)
theorem q_162 {K : gK} (pc : Nat) : gP K 162 pc = ((gL_162 K).lookup pc).getD o_none := rfl
noncomputable def t_162_0 (K : gK) (d : Nat) (l0 : Nat) (G : gH) : Option gO := gRn K d 162 2 [some (.ref l0), some (.int (0 : Int32))] [] G
theorem e_162_0 {K : gK} {d : Nat} {l0 : Nat} {G : gH} : gle (t_162_0 K d l0 G) (gRn K d 162 0 [some (.ref l0), none] [] G) := by
  unfold t_162_0
  refine g_push ((q_162 _).trans rfl) ?_
  refine g_istore ((q_162 _).trans rfl) ?_
  exact gle.rf _
theorem c_162 {K : gK} {d : Nat} {l0 : Nat} {G : gH} : gle (t_162_0 K d l0 G) (gCa K (d + 1) 162 [.ref l0] G) := by
  have h : gent (gMx 162) [.ref l0] = [some (.ref l0), none] := by
    show gent (gT 162).2.2.2.1 _ = _
    rw [m_162]; rfl
  exact fun r e => (congrArg (fun q => gRn K d 162 0 q [] G) h).trans (e_162_0 r e)
noncomputable def t_162_2_1 (K : gK) (d : Nat) (l0 : Nat) (l1 : Int32) (G8 : gH) : Option gO := gRn K d 162 2 [some (.ref l0), some (.int (l1 + 1))] [] G8
noncomputable def t_162_2_2 (K : gK) (d : Nat) (G4 : gH) (a5 : Nat) (l1 : Int32) (l0 : Nat) (G6 : gH) : Option gO := if ∃ c', g_cls G6 G4.2.1 = some c' ∧ ((6 = 100 ∧ c' < 13) ∨ (6 ≠ 100 ∧ c' = 6)) then yQ G6 a5 7 ((4 : Int32) + l1) (some G4.2.1) (t_162_2_1 K d l0 l1) else none
noncomputable def t_162_2_3 (K : gK) (d : Nat) (G4 : gH) (l0 : Nat) (l1 : Int32) (a5 : Nat) : Option gO := cV (gCa K d 199 [.ref (G4.2.1), .ref l0, .int (1 : Int32), .int l1] (gnew G4 (.inr (6, [.null, .null, .int 0])) 3)) (t_162_2_2 K d G4 a5 l1 l0)
noncomputable def t_162_2_4 (K : gK) (d : Nat) (l0 : Nat) (l1 : Int32) (G4 : gH) : Option gO := rR G4 l0 4 8 (t_162_2_3 K d G4 l0 l1)
noncomputable def t_162_2_5 (K : gK) (d : Nat) (G : gH) (a1 : Nat) (l1 : Int32) (l0 : Nat) (G2 : gH) : Option gO := if ∃ c', g_cls G2 G.2.1 = some c' ∧ ((6 = 100 ∧ c' < 13) ∨ (6 ≠ 100 ∧ c' = 6)) then yQ G2 a1 7 l1 (some G.2.1) (t_162_2_4 K d l0 l1) else none
noncomputable def t_162_2_6 (K : gK) (d : Nat) (G : gH) (l0 : Nat) (l1 : Int32) (a1 : Nat) : Option gO := cV (gCa K d 199 [.ref (G.2.1), .ref l0, .int (0 : Int32), .int l1] (gnew G (.inr (6, [.null, .null, .int 0])) 3)) (t_162_2_5 K d G a1 l1 l0)
noncomputable def t_162_2 (K : gK) (d : Nat) (l0 : Nat) (l1 : Int32) (G : gH) : Option gO := if (4 : Int32) ≤ l1 then (some (.inl none, G)) else (rR G l0 4 8 (t_162_2_6 K d G l0 l1))
theorem e_162_2 {K : gK} {d : Nat} {l0 : Nat} {l1 : Int32} {G : gH} : gle (t_162_2 K d l0 l1 G) (gRn K d 162 2 [some (.ref l0), some (.int l1)] [] G) := by
  unfold t_162_2
  refine g_iload ((q_162 _).trans rfl) rfl ?_
  refine g_push ((q_162 _).trans rfl) ?_
  refine g_cmpge ((q_162 _).trans rfl) (fun _ => ?_) (fun _ => ?_)
  · exact g_vret ((q_162 _).trans rfl)
  · refine g_aload ((q_162 _).trans rfl) rfl ?_
    refine g_getR ((q_162 _).trans rfl) (fun a1 => ?_)
    refine g_iload ((q_162 _).trans rfl) rfl ?_
    refine g_new ((q_162 _).trans rfl) ?_
    refine g_dup_ref ((q_162 _).trans rfl) ?_
    refine g_aload ((q_162 _).trans rfl) rfl ?_
    refine g_push ((q_162 _).trans rfl) ?_
    refine g_iload ((q_162 _).trans rfl) rfl ?_
    refine g_callI (kk := 3) ((q_162 _).trans rfl) (gHn m_162) rfl (by exact ⟨Nat.le_of_ble_eq_true rfl, rfl⟩) rfl (fun w G2 => gm_V (fun hw => ?_))
    subst hw
    refine g_aastR ((q_162 _).trans rfl) (fun G4 => ?_)
    refine g_aload ((q_162 _).trans rfl) rfl ?_
    refine g_getR ((q_162 _).trans rfl) (fun a5 => ?_)
    refine g_push ((q_162 _).trans rfl) ?_
    refine g_iload ((q_162 _).trans rfl) rfl ?_
    refine g_iadd ((q_162 _).trans rfl) ?_
    refine g_new ((q_162 _).trans rfl) ?_
    refine g_dup_ref ((q_162 _).trans rfl) ?_
    refine g_aload ((q_162 _).trans rfl) rfl ?_
    refine g_push ((q_162 _).trans rfl) ?_
    refine g_iload ((q_162 _).trans rfl) rfl ?_
    refine g_callI (kk := 3) ((q_162 _).trans rfl) (gHn m_162) rfl (by exact ⟨Nat.le_of_ble_eq_true rfl, rfl⟩) rfl (fun w G6 => gm_V (fun hw => ?_))
    subst hw
    refine g_aastR ((q_162 _).trans rfl) (fun G8 => ?_)
    refine g_iinc ((q_162 _).trans rfl) rfl ?_
    refine g_goto ((q_162 _).trans rfl) ?_
    exact gle.rf _
theorem q_163 {K : gK} (pc : Nat) : gP K 163 pc = ((gL_163 K).lookup pc).getD o_none := rfl
noncomputable def t_163_0_1 (K : gK) (d : Nat) (G2 : gH) : Option gO := some (.inl none, G2)
noncomputable def t_163_0_2 (K : gK) (d : Nat) (l2 : Int32) (l0 : Nat) (G1 : gH) : Option gO := if narrow .boolean (.int l2) = .int l2 ∧ fits .boolean (.int l2) = true then wF G1 l0 1 2 (.int l2) (t_163_0_1 K d) else none
noncomputable def t_163_0 (K : gK) (d : Nat) (l0 : Nat) (l1 : Nat) (l2 : Int32) (G : gH) : Option gO := if narrow (.object "CuttingRoom$Shape") (.ref l1) = .ref l1 ∧ fits (.object "CuttingRoom$Shape") (.ref l1) = true then wF G l0 1 0 (.ref l1) (t_163_0_2 K d l2 l0) else none
theorem e_163_0 {K : gK} {d : Nat} {l0 : Nat} {l1 : Nat} {l2 : Int32} {G : gH} : gle (t_163_0 K d l0 l1 l2 G) (gRn K d 163 0 [some (.ref l0), some (.ref l1), some (.int l2)] [] G) := by
  unfold t_163_0
  refine g_aload ((q_163 _).trans rfl) rfl ?_
  refine g_aload ((q_163 _).trans rfl) rfl ?_
  refine g_putf ((q_163 _).trans rfl) (fun G1 => ?_)
  refine g_aload ((q_163 _).trans rfl) rfl ?_
  refine g_iload ((q_163 _).trans rfl) rfl ?_
  refine g_putf ((q_163 _).trans rfl) (fun G2 => ?_)
  exact g_vret ((q_163 _).trans rfl)
theorem c_163 {K : gK} {d : Nat} {l0 : Nat} {l1 : Nat} {l2 : Int32} {G : gH} : gle (t_163_0 K d l0 l1 l2 G) (gCa K (d + 1) 163 [.ref l0, .ref l1, .int l2] G) := by
  have h : gent (gMx 163) [.ref l0, .ref l1, .int l2] = [some (.ref l0), some (.ref l1), some (.int l2)] := by
    show gent (gT 163).2.2.2.1 _ = _
    rw [m_163]; rfl
  exact fun r e => (congrArg (fun q => gRn K d 163 0 q [] G) h).trans (e_163_0 r e)
theorem q_164 {K : gK} (pc : Nat) : gP K 164 pc = ((gL_164 K).lookup pc).getD o_none := rfl
noncomputable def t_164_0_1 (K : gK) (d : Nat) (G3 : gH) : Option gO := some (.inl none, G3)
noncomputable def t_164_0_2 (K : gK) (d : Nat) (v2 : Int32) (G1 : gH) : Option gO := cV (gCa K d 149 [.int v2] G1) (t_164_0_1 K d)
noncomputable def t_164_0 (K : gK) (d : Nat) (l0 : Int32) (G : gH) : Option gO := cI (gCa K d 148 [.int l0, .int (0 : Int32), .int (3 : Int32)] G) (t_164_0_2 K d)
theorem e_164_0 {K : gK} {d : Nat} {l0 : Int32} {G : gH} : gle (t_164_0 K d l0 G) (gRn K d 164 0 [some (.int l0)] [] G) := by
  unfold t_164_0
  refine g_iload ((q_164 _).trans rfl) rfl ?_
  refine g_push ((q_164 _).trans rfl) ?_
  refine g_push ((q_164 _).trans rfl) ?_
  refine g_callS (kk := 3) ((q_164 _).trans rfl) (gHn m_164) (by exact ⟨Nat.le_of_ble_eq_true rfl, Nat.le_of_ble_eq_true rfl, rfl⟩) rfl (fun w G1 => gm_I (fun v2 hw => ?_))
  subst hw
  refine g_callS (kk := 1) ((q_164 _).trans rfl) (gHn m_164) (by exact ⟨Nat.le_of_ble_eq_true rfl, Nat.le_of_ble_eq_true rfl, rfl⟩) rfl (fun w G3 => gm_V (fun hw => ?_))
  subst hw
  exact g_vret ((q_164 _).trans rfl)
theorem c_164 {K : gK} {d : Nat} {l0 : Int32} {G : gH} : gle (t_164_0 K d l0 G) (gCa K (d + 1) 164 [.int l0] G) := by
  have h : gent (gMx 164) [.int l0] = [some (.int l0)] := by
    show gent (gT 164).2.2.2.1 _ = _
    rw [m_164]; rfl
  exact fun r e => (congrArg (fun q => gRn K d 164 0 q [] G) h).trans (e_164_0 r e)
theorem q_165 {K : gK} (pc : Nat) : gP K 165 pc = ((gL_165 K).lookup pc).getD o_none := rfl
noncomputable def t_165_0_1 (K : gK) (d : Nat) (G3 : gH) : Option gO := some (.inl none, G3)
noncomputable def t_165_0_2 (K : gK) (d : Nat) (l3 : Int32) (l0 : Nat) (G2 : gH) : Option gO := if narrow .int (.int l3) = .int l3 ∧ fits .int (.int l3) = true then wF G2 l0 1 4 (.int l3) (t_165_0_1 K d) else none
noncomputable def t_165_0_3 (K : gK) (d : Nat) (l2 : Int32) (l0 : Nat) (l3 : Int32) (G1 : gH) : Option gO := if narrow .int (.int l2) = .int l2 ∧ fits .int (.int l2) = true then wF G1 l0 1 3 (.int l2) (t_165_0_2 K d l3 l0) else none
noncomputable def t_165_0 (K : gK) (d : Nat) (l0 : Nat) (l1 : Int32) (l2 : Int32) (l3 : Int32) (G : gH) : Option gO := if narrow .int (.int l1) = .int l1 ∧ fits .int (.int l1) = true then wF G l0 1 1 (.int l1) (t_165_0_3 K d l2 l0 l3) else none
theorem e_165_0 {K : gK} {d : Nat} {l0 : Nat} {l1 : Int32} {l2 : Int32} {l3 : Int32} {G : gH} : gle (t_165_0 K d l0 l1 l2 l3 G) (gRn K d 165 0 [some (.ref l0), some (.int l1), some (.int l2), some (.int l3)] [] G) := by
  unfold t_165_0
  refine g_aload ((q_165 _).trans rfl) rfl ?_
  refine g_iload ((q_165 _).trans rfl) rfl ?_
  refine g_putf ((q_165 _).trans rfl) (fun G1 => ?_)
  refine g_aload ((q_165 _).trans rfl) rfl ?_
  refine g_iload ((q_165 _).trans rfl) rfl ?_
  refine g_putf ((q_165 _).trans rfl) (fun G2 => ?_)
  refine g_aload ((q_165 _).trans rfl) rfl ?_
  refine g_iload ((q_165 _).trans rfl) rfl ?_
  refine g_putf ((q_165 _).trans rfl) (fun G3 => ?_)
  exact g_vret ((q_165 _).trans rfl)
theorem c_165 {K : gK} {d : Nat} {l0 : Nat} {l1 : Int32} {l2 : Int32} {l3 : Int32} {G : gH} : gle (t_165_0 K d l0 l1 l2 l3 G) (gCa K (d + 1) 165 [.ref l0, .int l1, .int l2, .int l3] G) := by
  have h : gent (gMx 165) [.ref l0, .int l1, .int l2, .int l3] = [some (.ref l0), some (.int l1), some (.int l2), some (.int l3)] := by
    show gent (gT 165).2.2.2.1 _ = _
    rw [m_165]; rfl
  exact fun r e => (congrArg (fun q => gRn K d 165 0 q [] G) h).trans (e_165_0 r e)
theorem q_166 {K : gK} (pc : Nat) : gP K 166 pc = ((gL_166 K).lookup pc).getD o_none := rfl
noncomputable def t_166_0_1 (K : gK) (d : Nat) (l0 : Nat) (l1 : Nat) (a1 : Nat) (G : gH) (v2 : Int32) : Option gO := gRn K d 166 11 [some (.ref l0), some (.ref l1), some (.ref a1), some (.int v2), some (.int (0 : Int32)), none, none] [] G
noncomputable def t_166_0_2 (K : gK) (d : Nat) (G : gH) (l0 : Nat) (l1 : Nat) (a1 : Nat) : Option gO := xL K G a1 (t_166_0_1 K d l0 l1 a1 G)
noncomputable def t_166_0 (K : gK) (d : Nat) (l0 : Nat) (l1 : Nat) (G : gH) : Option gO := rR G l0 0 4 (t_166_0_2 K d G l0 l1)
theorem e_166_0 {K : gK} {d : Nat} {l0 : Nat} {l1 : Nat} {G : gH} : gle (t_166_0 K d l0 l1 G) (gRn K d 166 0 [some (.ref l0), some (.ref l1), none, none, none, none, none] [] G) := by
  unfold t_166_0
  refine g_aload ((q_166 _).trans rfl) rfl ?_
  refine g_getR ((q_166 _).trans rfl) (fun a1 => ?_)
  refine g_astore ((q_166 _).trans rfl) ?_
  refine g_aload ((q_166 _).trans rfl) rfl ?_
  refine g_alen ((q_166 _).trans rfl) (fun v2 => ?_)
  refine g_istore ((q_166 _).trans rfl) ?_
  refine g_push ((q_166 _).trans rfl) ?_
  refine g_istore ((q_166 _).trans rfl) ?_
  exact gle.rf _
theorem c_166 {K : gK} {d : Nat} {l0 : Nat} {l1 : Nat} {G : gH} : gle (t_166_0 K d l0 l1 G) (gCa K (d + 1) 166 [.ref l0, .ref l1] G) := by
  have h : gent (gMx 166) [.ref l0, .ref l1] = [some (.ref l0), some (.ref l1), none, none, none, none, none] := by
    show gent (gT 166).2.2.2.1 _ = _
    rw [m_166]; rfl
  exact fun r e => (congrArg (fun q => gRn K d 166 0 q [] G) h).trans (e_166_0 r e)
noncomputable def t_166_11_1 (K : gK) (d : Nat) (l0 : Nat) (l1 : Nat) (l2 : Nat) (l3 : Int32) (l4 : Int32) (a1 : Nat) (v3 : Int32) (G2 : gH) : Option gO := if v3 = (45 : Int32) then (gRn K d 166 11 [some (.ref l0), some (.ref l1), some (.ref l2), some (.int l3), some (.int (l4 + 1)), some (.ref a1), some (.int v3)] [] G2) else (if narrow .char (.int v3) = .int v3 then some (.inl (some (.int v3)), G2) else none)
noncomputable def t_166_11_2 (K : gK) (d : Nat) (G : gH) (l1 : Nat) (l0 : Nat) (l2 : Nat) (l3 : Int32) (l4 : Int32) (a1 : Nat) : Option gO := xFi K d G a1 l1 (kI (t_166_11_1 K d l0 l1 l2 l3 l4 a1))
noncomputable def t_166_11 (K : gK) (d : Nat) (l0 : Nat) (l1 : Nat) (l2 : Nat) (l3 : Int32) (l4 : Int32) (o5 : Option Value) (o6 : Option Value) (G : gH) : Option gO := if l3 ≤ l4 then (if narrow .char (.int (45 : Int32)) = .int (45 : Int32) then some (.inl (some (.int (45 : Int32))), G) else none) else (xQ G l2 6 l4 (t_166_11_2 K d G l1 l0 l2 l3 l4))
theorem e_166_11 {K : gK} {d : Nat} {l0 : Nat} {l1 : Nat} {l2 : Nat} {l3 : Int32} {l4 : Int32} {o5 : Option Value} {o6 : Option Value} {G : gH} : gle (t_166_11 K d l0 l1 l2 l3 l4 o5 o6 G) (gRn K d 166 11 [some (.ref l0), some (.ref l1), some (.ref l2), some (.int l3), some (.int l4), o5, o6] [] G) := by
  unfold t_166_11
  refine g_iload ((q_166 _).trans rfl) rfl ?_
  refine g_iload ((q_166 _).trans rfl) rfl ?_
  refine g_cmpge ((q_166 _).trans rfl) (fun _ => ?_) (fun _ => ?_)
  · refine g_push ((q_166 _).trans rfl) ?_
    exact g_zret ((q_166 _).trans rfl)
  · refine g_aload ((q_166 _).trans rfl) rfl ?_
    refine g_iload ((q_166 _).trans rfl) rfl ?_
    refine g_aald ((q_166 _).trans rfl) (fun a1 => ?_)
    refine g_astore ((q_166 _).trans rfl) ?_
    refine g_aload ((q_166 _).trans rfl) rfl ?_
    refine g_aload ((q_166 _).trans rfl) rfl ?_
    refine g_find ((q_166 _).trans rfl) (gHn m_166) (Nat.le_of_ble_eq_true rfl) (fun w G2 => gm_I (fun v3 hw => ?_))
    subst hw
    refine g_istore ((q_166 _).trans rfl) ?_
    refine g_iload ((q_166 _).trans rfl) rfl ?_
    refine g_push ((q_166 _).trans rfl) ?_
    refine g_cmpeq ((q_166 _).trans rfl) (fun _ => ?_) (fun _ => ?_)
    · refine g_iinc ((q_166 _).trans rfl) rfl ?_
      refine g_goto ((q_166 _).trans rfl) ?_
      exact gle.rf _
    · refine g_iload ((q_166 _).trans rfl) rfl ?_
      exact g_zret ((q_166 _).trans rfl)
theorem q_167 {K : gK} (pc : Nat) : gP K 167 pc = ((gL_167 K).lookup pc).getD o_none := rfl
noncomputable def t_167_0_1 (K : gK) (d : Nat) (G12 : gH) (v14 : Int32) : Option gO := some (.inl (some (.int v14)), G12)
noncomputable def t_167_0_2 (K : gK) (d : Nat) (G : gH) (G12 : gH) : Option gO := rI G12 G.2.1 7 0 (t_167_0_1 K d G12)
noncomputable def t_167_0_3 (K : gK) (d : Nat) (G8 : gH) (a10 : Nat) (G : gH) (v11 : Int32) : Option gO := if g_cls G8 a10 = some 2 then (cV (gCa K d 208 [.ref a10, .int v11] G8) (t_167_0_2 K d G)) else none
noncomputable def t_167_0_4 (K : gK) (d : Nat) (G8 : gH) (G : gH) (a10 : Nat) : Option gO := rI G8 G.2.1 7 0 (t_167_0_3 K d G8 a10 G)
noncomputable def t_167_0_5 (K : gK) (d : Nat) (l0 : Nat) (G : gH) (v9 : Int32) (G8 : gH) : Option gO := rR G8 l0 0 6 (t_167_0_4 K d G8 G)
noncomputable def t_167_0_6 (K : gK) (d : Nat) (G6 : gH) (G : gH) (l0 : Nat) (a7 : Nat) : Option gO := if g_cls G6 a7 = some 12 then (cI (gCa K d 156 [.ref a7, .ref (G.2.1)] G6) (t_167_0_5 K d l0 G)) else none
noncomputable def t_167_0_7 (K : gK) (d : Nat) (l0 : Nat) (G : gH) (G6 : gH) : Option gO := rR G6 l0 0 2 (t_167_0_6 K d G6 G l0)
noncomputable def t_167_0_8 (K : gK) (d : Nat) (G3 : gH) (l0 : Nat) (G : gH) (v5 : Int32) : Option gO := if narrow .int (.int (v5 + (1 : Int32))) = .int (v5 + (1 : Int32)) ∧ fits .int (.int (v5 + (1 : Int32))) = true then wF G3 l0 0 13 (.int (v5 + (1 : Int32))) (t_167_0_7 K d l0 G) else none
noncomputable def t_167_0_9 (K : gK) (d : Nat) (l0 : Nat) (G : gH) (G3 : gH) : Option gO := rI G3 l0 0 13 (t_167_0_8 K d G3 l0 G)
noncomputable def t_167_0_10 (K : gK) (d : Nat) (G : gH) (v1 : Int32) (l0 : Nat) (a2 : Nat) : Option gO := cV (gCa K d 207 [.ref (G.2.1), .int v1, .ref a2] (gnew G (.inr (7, [.int 0, .null, .int 0, .int 0, .int 0, .int 0])) 6)) (t_167_0_9 K d l0 G)
noncomputable def t_167_0_11 (K : gK) (d : Nat) (G : gH) (l0 : Nat) (v1 : Int32) : Option gO := rR (gnew G (.inr (7, [.int 0, .null, .int 0, .int 0, .int 0, .int 0])) 6) l0 0 5 (t_167_0_10 K d G v1 l0)
noncomputable def t_167_0 (K : gK) (d : Nat) (l0 : Nat) (G : gH) : Option gO := rI (gnew G (.inr (7, [.int 0, .null, .int 0, .int 0, .int 0, .int 0])) 6) l0 0 13 (t_167_0_11 K d G l0)
theorem e_167_0 {K : gK} {d : Nat} {l0 : Nat} {G : gH} : gle (t_167_0 K d l0 G) (gRn K d 167 0 [some (.ref l0), none] [] G) := by
  unfold t_167_0
  refine g_new ((q_167 _).trans rfl) ?_
  refine g_dup_ref ((q_167 _).trans rfl) ?_
  refine g_aload ((q_167 _).trans rfl) rfl ?_
  refine g_getI ((q_167 _).trans rfl) (fun v1 => ?_)
  refine g_aload ((q_167 _).trans rfl) rfl ?_
  refine g_getR ((q_167 _).trans rfl) (fun a2 => ?_)
  refine g_callI (kk := 2) ((q_167 _).trans rfl) (gHn m_167) rfl (by exact ⟨Nat.le_of_ble_eq_true rfl, rfl⟩) rfl (fun w G3 => gm_V (fun hw => ?_))
  subst hw
  refine g_astore ((q_167 _).trans rfl) ?_
  refine g_aload ((q_167 _).trans rfl) rfl ?_
  refine g_dup_ref ((q_167 _).trans rfl) ?_
  refine g_getI ((q_167 _).trans rfl) (fun v5 => ?_)
  refine g_push ((q_167 _).trans rfl) ?_
  refine g_iadd ((q_167 _).trans rfl) ?_
  refine g_putf ((q_167 _).trans rfl) (fun G6 => ?_)
  refine g_aload ((q_167 _).trans rfl) rfl ?_
  refine g_getR ((q_167 _).trans rfl) (fun a7 => ?_)
  refine g_aload ((q_167 _).trans rfl) rfl ?_
  refine g_callV (kk := 1) ((q_167 _).trans rfl) (gHn m_167) rfl (by exact ⟨Nat.le_of_ble_eq_true rfl, rfl⟩) rfl (fun w G8 => gm_I (fun v9 hw => ?_))
  subst hw
  refine g_pop_int ((q_167 _).trans rfl) ?_
  refine g_aload ((q_167 _).trans rfl) rfl ?_
  refine g_getR ((q_167 _).trans rfl) (fun a10 => ?_)
  refine g_aload ((q_167 _).trans rfl) rfl ?_
  refine g_getI ((q_167 _).trans rfl) (fun v11 => ?_)
  refine g_callV (kk := 1) ((q_167 _).trans rfl) (gHn m_167) rfl (by exact ⟨Nat.le_of_ble_eq_true rfl, rfl⟩) rfl (fun w G12 => gm_V (fun hw => ?_))
  subst hw
  refine g_aload ((q_167 _).trans rfl) rfl ?_
  refine g_getI ((q_167 _).trans rfl) (fun v14 => ?_)
  exact g_iret ((q_167 _).trans rfl)
theorem c_167 {K : gK} {d : Nat} {l0 : Nat} {G : gH} : gle (t_167_0 K d l0 G) (gCa K (d + 1) 167 [.ref l0] G) := by
  have h : gent (gMx 167) [.ref l0] = [some (.ref l0), none] := by
    show gent (gT 167).2.2.2.1 _ = _
    rw [m_167]; rfl
  exact fun r e => (congrArg (fun q => gRn K d 167 0 q [] G) h).trans (e_167_0 r e)
theorem q_168 {K : gK} (pc : Nat) : gP K 168 pc = ((gL_168 K).lookup pc).getD o_none := rfl
noncomputable def t_168_0_1 (K : gK) (d : Nat) (l2 : Int32) (G : gH) (v5 : Int32) : Option gO := if v5 = (104 : Int32) then (if l2 = (2 : Int32) then (if narrow .boolean (.int (1 : Int32)) = .int (1 : Int32) then some (.inl (some (.int (1 : Int32))), G) else none) else (if narrow .boolean (.int (0 : Int32)) = .int (0 : Int32) then some (.inl (some (.int (0 : Int32))), G) else none)) else (if narrow .boolean (.int (0 : Int32)) = .int (0 : Int32) then some (.inl (some (.int (0 : Int32))), G) else none)
noncomputable def t_168_0_2 (K : gK) (d : Nat) (G : gH) (l1 : Int32) (l2 : Int32) (a4 : Nat) : Option gO := xI G a4 2 l1 (t_168_0_1 K d l2 G)
noncomputable def t_168_0_3 (K : gK) (d : Nat) (G : gH) (l0 : Nat) (l1 : Int32) (l2 : Int32) (v3 : Int32) : Option gO := if v3 = (113 : Int32) then (if narrow .boolean (.int (1 : Int32)) = .int (1 : Int32) then some (.inl (some (.int (1 : Int32))), G) else none) else (rR G l0 3 8 (t_168_0_2 K d G l1 l2))
noncomputable def t_168_0_4 (K : gK) (d : Nat) (G : gH) (l1 : Int32) (l0 : Nat) (l2 : Int32) (a2 : Nat) : Option gO := xI G a2 2 l1 (t_168_0_3 K d G l0 l1 l2)
noncomputable def t_168_0_5 (K : gK) (d : Nat) (G : gH) (l0 : Nat) (l1 : Int32) (l2 : Int32) (v1 : Int32) : Option gO := if v1 = 0 then (rR G l0 3 8 (t_168_0_4 K d G l1 l0 l2)) else (if narrow .boolean (.int (0 : Int32)) = .int (0 : Int32) then some (.inl (some (.int (0 : Int32))), G) else none)
noncomputable def t_168_0 (K : gK) (d : Nat) (l0 : Nat) (l1 : Int32) (l2 : Int32) (G : gH) : Option gO := if l2 = 0 then (if narrow .boolean (.int (1 : Int32)) = .int (1 : Int32) then some (.inl (some (.int (1 : Int32))), G) else none) else (rI G l0 3 2 (t_168_0_5 K d G l0 l1 l2))
theorem e_168_0 {K : gK} {d : Nat} {l0 : Nat} {l1 : Int32} {l2 : Int32} {G : gH} : gle (t_168_0 K d l0 l1 l2 G) (gRn K d 168 0 [some (.ref l0), some (.int l1), some (.int l2)] [] G) := by
  unfold t_168_0
  refine g_iload ((q_168 _).trans rfl) rfl ?_
  refine g_ifeq ((q_168 _).trans rfl) (fun _ => ?_) (fun _ => ?_)
  · refine g_push ((q_168 _).trans rfl) ?_
    refine g_goto ((q_168 _).trans rfl) ?_
    exact g_zret ((q_168 _).trans rfl)
  · refine g_aload ((q_168 _).trans rfl) rfl ?_
    refine g_getI ((q_168 _).trans rfl) (fun v1 => ?_)
    refine g_ifne ((q_168 _).trans rfl) (fun _ => ?_) (fun _ => ?_)
    · refine g_aload ((q_168 _).trans rfl) rfl ?_
      refine g_getR ((q_168 _).trans rfl) (fun a2 => ?_)
      refine g_iload ((q_168 _).trans rfl) rfl ?_
      refine g_iald ((q_168 _).trans rfl) (fun v3 => ?_)
      refine g_push ((q_168 _).trans rfl) ?_
      refine g_cmpeq ((q_168 _).trans rfl) (fun _ => ?_) (fun _ => ?_)
      · refine g_push ((q_168 _).trans rfl) ?_
        refine g_goto ((q_168 _).trans rfl) ?_
        exact g_zret ((q_168 _).trans rfl)
      · refine g_aload ((q_168 _).trans rfl) rfl ?_
        refine g_getR ((q_168 _).trans rfl) (fun a4 => ?_)
        refine g_iload ((q_168 _).trans rfl) rfl ?_
        refine g_iald ((q_168 _).trans rfl) (fun v5 => ?_)
        refine g_push ((q_168 _).trans rfl) ?_
        refine g_cmpne ((q_168 _).trans rfl) (fun _ => ?_) (fun _ => ?_)
        · refine g_iload ((q_168 _).trans rfl) rfl ?_
          refine g_push ((q_168 _).trans rfl) ?_
          refine g_cmpne ((q_168 _).trans rfl) (fun _ => ?_) (fun _ => ?_)
          · refine g_push ((q_168 _).trans rfl) ?_
            refine g_goto ((q_168 _).trans rfl) ?_
            exact g_zret ((q_168 _).trans rfl)
          · refine g_push ((q_168 _).trans rfl) ?_
            exact g_zret ((q_168 _).trans rfl)
        · refine g_push ((q_168 _).trans rfl) ?_
          exact g_zret ((q_168 _).trans rfl)
    · refine g_push ((q_168 _).trans rfl) ?_
      exact g_zret ((q_168 _).trans rfl)
theorem c_168 {K : gK} {d : Nat} {l0 : Nat} {l1 : Int32} {l2 : Int32} {G : gH} : gle (t_168_0 K d l0 l1 l2 G) (gCa K (d + 1) 168 [.ref l0, .int l1, .int l2] G) := by
  have h : gent (gMx 168) [.ref l0, .int l1, .int l2] = [some (.ref l0), some (.int l1), some (.int l2)] := by
    show gent (gT 168).2.2.2.1 _ = _
    rw [m_168]; rfl
  exact fun r e => (congrArg (fun q => gRn K d 168 0 q [] G) h).trans (e_168_0 r e)
theorem q_169 {K : gK} (pc : Nat) : gP K 169 pc = ((gL_169 K).lookup pc).getD o_none := rfl
noncomputable def t_169_0_1 (K : gK) (d : Nat) (l0 : Nat) (l1 : Int32) (l2 : Int32) (l3 : Int32) (G1 : gH) : Option gO := gRn K d 169 14 [some (.ref l0), some (.int l1), some (.int l2), some (.int l3), some (.int (5 : Int32)), some (.int (5 : Int32)), some (.int (0 : Int32)), none] [] G1
noncomputable def t_169_0 (K : gK) (d : Nat) (l0 : Nat) (l1 : Int32) (l2 : Int32) (l3 : Int32) (G : gH) : Option gO := if narrow .int (.int (0 : Int32)) = .int (0 : Int32) ∧ fits .int (.int (0 : Int32)) = true then wF G l0 3 33 (.int (0 : Int32)) (t_169_0_1 K d l0 l1 l2 l3) else none
theorem e_169_0 {K : gK} {d : Nat} {l0 : Nat} {l1 : Int32} {l2 : Int32} {l3 : Int32} {G : gH} : gle (t_169_0 K d l0 l1 l2 l3 G) (gRn K d 169 0 [some (.ref l0), some (.int l1), some (.int l2), some (.int l3), none, none, none, none] [] G) := by
  unfold t_169_0
  refine g_push ((q_169 _).trans rfl) ?_
  refine g_istore ((q_169 _).trans rfl) ?_
  refine g_push ((q_169 _).trans rfl) ?_
  refine g_istore ((q_169 _).trans rfl) ?_
  refine g_aload ((q_169 _).trans rfl) rfl ?_
  refine g_push ((q_169 _).trans rfl) ?_
  refine g_putf ((q_169 _).trans rfl) (fun G1 => ?_)
  refine g_push ((q_169 _).trans rfl) ?_
  refine g_istore ((q_169 _).trans rfl) ?_
  exact gle.rf _
theorem c_169 {K : gK} {d : Nat} {l0 : Nat} {l1 : Int32} {l2 : Int32} {l3 : Int32} {G : gH} : gle (t_169_0 K d l0 l1 l2 l3 G) (gCa K (d + 1) 169 [.ref l0, .int l1, .int l2, .int l3] G) := by
  have h : gent (gMx 169) [.ref l0, .int l1, .int l2, .int l3] = [some (.ref l0), some (.int l1), some (.int l2), some (.int l3), none, none, none, none] := by
    show gent (gT 169).2.2.2.1 _ = _
    rw [m_169]; rfl
  exact fun r e => (congrArg (fun q => gRn K d 169 0 q [] G) h).trans (e_169_0 r e)
noncomputable def t_169_14_1 (K : gK) (d : Nat) (l0 : Nat) (l1 : Int32) (l2 : Int32) (l3 : Int32) (l4 : Int32) (l5 : Int32) (l6 : Int32) (G20 : gH) : Option gO := gRn K d 169 14 [some (.ref l0), some (.int l1), some (.int l2), some (.int l3), some (.int l4), some (.int l5), some (.int (l6 + 1)), some (.int (l6 - l6 / (5 : Int32) * (5 : Int32)))] [] G20
noncomputable def t_169_14_2 (K : gK) (d : Nat) (G12 : gH) (l0 : Nat) (l1 : Int32) (l2 : Int32) (l3 : Int32) (l4 : Int32) (l5 : Int32) (l6 : Int32) (v19 : Int32) : Option gO := if narrow .int (.int (v19 + (1 : Int32))) = .int (v19 + (1 : Int32)) ∧ fits .int (.int (v19 + (1 : Int32))) = true then wF G12 l0 3 33 (.int (v19 + (1 : Int32))) (t_169_14_1 K d l0 l1 l2 l3 l4 l5 l6) else none
noncomputable def t_169_14_3 (K : gK) (d : Nat) (l0 : Nat) (l1 : Int32) (l2 : Int32) (l3 : Int32) (l4 : Int32) (v23 : Int32) (l6 : Int32) (G25 : gH) : Option gO := gRn K d 169 14 [some (.ref l0), some (.int l1), some (.int l2), some (.int l3), some (.int l4), some (.int v23), some (.int (l6 + 1)), some (.int (l6 - l6 / (5 : Int32) * (5 : Int32)))] [] G25
noncomputable def t_169_14_4 (K : gK) (d : Nat) (G12 : gH) (l0 : Nat) (l1 : Int32) (l2 : Int32) (l3 : Int32) (l4 : Int32) (v23 : Int32) (l6 : Int32) (v24 : Int32) : Option gO := if narrow .int (.int (v24 + (1 : Int32))) = .int (v24 + (1 : Int32)) ∧ fits .int (.int (v24 + (1 : Int32))) = true then wF G12 l0 3 33 (.int (v24 + (1 : Int32))) (t_169_14_3 K d l0 l1 l2 l3 l4 v23 l6) else none
noncomputable def t_169_14_5 (K : gK) (d : Nat) (G12 : gH) (l0 : Nat) (l1 : Int32) (l2 : Int32) (l3 : Int32) (l4 : Int32) (l6 : Int32) (v23 : Int32) : Option gO := rI G12 l0 3 33 (t_169_14_4 K d G12 l0 l1 l2 l3 l4 v23 l6)
noncomputable def t_169_14_6 (K : gK) (d : Nat) (G12 : gH) (a21 : Nat) (l0 : Nat) (l1 : Int32) (l2 : Int32) (l3 : Int32) (l4 : Int32) (l6 : Int32) (v22 : Int32) : Option gO := xI G12 a21 0 v22 (t_169_14_5 K d G12 l0 l1 l2 l3 l4 l6)
noncomputable def t_169_14_7 (K : gK) (d : Nat) (G12 : gH) (l0 : Nat) (l1 : Int32) (l2 : Int32) (l3 : Int32) (l4 : Int32) (l6 : Int32) (a21 : Nat) : Option gO := rI G12 l0 3 33 (t_169_14_6 K d G12 a21 l0 l1 l2 l3 l4 l6)
noncomputable def t_169_14_8 (K : gK) (d : Nat) (l5 : Int32) (G12 : gH) (l0 : Nat) (l1 : Int32) (l2 : Int32) (l3 : Int32) (l4 : Int32) (l6 : Int32) (v18 : Int32) : Option gO := if l5 ≤ v18 then (rI G12 l0 3 33 (t_169_14_2 K d G12 l0 l1 l2 l3 l4 l5 l6)) else (rR G12 l0 3 35 (t_169_14_7 K d G12 l0 l1 l2 l3 l4 l6))
noncomputable def t_169_14_9 (K : gK) (d : Nat) (G12 : gH) (a16 : Nat) (l5 : Int32) (l0 : Nat) (l1 : Int32) (l2 : Int32) (l3 : Int32) (l4 : Int32) (l6 : Int32) (v17 : Int32) : Option gO := xI G12 a16 0 v17 (t_169_14_8 K d l5 G12 l0 l1 l2 l3 l4 l6)
noncomputable def t_169_14_10 (K : gK) (d : Nat) (G12 : gH) (l0 : Nat) (l5 : Int32) (l1 : Int32) (l2 : Int32) (l3 : Int32) (l4 : Int32) (l6 : Int32) (a16 : Nat) : Option gO := rI G12 l0 3 33 (t_169_14_9 K d G12 a16 l5 l0 l1 l2 l3 l4 l6)
noncomputable def t_169_14_11 (K : gK) (d : Nat) (l0 : Nat) (l1 : Int32) (l2 : Int32) (l3 : Int32) (v28 : Int32) (l5 : Int32) (l6 : Int32) (G33 : gH) : Option gO := gRn K d 169 14 [some (.ref l0), some (.int l1), some (.int l2), some (.int l3), some (.int v28), some (.int l5), some (.int (l6 + 1)), some (.int (l6 - l6 / (5 : Int32) * (5 : Int32)))] [] G33
noncomputable def t_169_14_12 (K : gK) (d : Nat) (G12 : gH) (l0 : Nat) (l1 : Int32) (l2 : Int32) (l3 : Int32) (v28 : Int32) (l5 : Int32) (l6 : Int32) (v32 : Int32) : Option gO := if narrow .int (.int (v32 + (1 : Int32))) = .int (v32 + (1 : Int32)) ∧ fits .int (.int (v32 + (1 : Int32))) = true then wF G12 l0 3 33 (.int (v32 + (1 : Int32))) (t_169_14_11 K d l0 l1 l2 l3 v28 l5 l6) else none
noncomputable def t_169_14_13 (K : gK) (d : Nat) (l0 : Nat) (l1 : Int32) (l2 : Int32) (l3 : Int32) (v28 : Int32) (v36 : Int32) (l6 : Int32) (G38 : gH) : Option gO := gRn K d 169 14 [some (.ref l0), some (.int l1), some (.int l2), some (.int l3), some (.int v28), some (.int v36), some (.int (l6 + 1)), some (.int (l6 - l6 / (5 : Int32) * (5 : Int32)))] [] G38
noncomputable def t_169_14_14 (K : gK) (d : Nat) (G12 : gH) (l0 : Nat) (l1 : Int32) (l2 : Int32) (l3 : Int32) (v28 : Int32) (v36 : Int32) (l6 : Int32) (v37 : Int32) : Option gO := if narrow .int (.int (v37 + (1 : Int32))) = .int (v37 + (1 : Int32)) ∧ fits .int (.int (v37 + (1 : Int32))) = true then wF G12 l0 3 33 (.int (v37 + (1 : Int32))) (t_169_14_13 K d l0 l1 l2 l3 v28 v36 l6) else none
noncomputable def t_169_14_15 (K : gK) (d : Nat) (G12 : gH) (l0 : Nat) (l1 : Int32) (l2 : Int32) (l3 : Int32) (v28 : Int32) (l6 : Int32) (v36 : Int32) : Option gO := rI G12 l0 3 33 (t_169_14_14 K d G12 l0 l1 l2 l3 v28 v36 l6)
noncomputable def t_169_14_16 (K : gK) (d : Nat) (G12 : gH) (a34 : Nat) (l0 : Nat) (l1 : Int32) (l2 : Int32) (l3 : Int32) (v28 : Int32) (l6 : Int32) (v35 : Int32) : Option gO := xI G12 a34 0 v35 (t_169_14_15 K d G12 l0 l1 l2 l3 v28 l6)
noncomputable def t_169_14_17 (K : gK) (d : Nat) (G12 : gH) (l0 : Nat) (l1 : Int32) (l2 : Int32) (l3 : Int32) (v28 : Int32) (l6 : Int32) (a34 : Nat) : Option gO := rI G12 l0 3 33 (t_169_14_16 K d G12 a34 l0 l1 l2 l3 v28 l6)
noncomputable def t_169_14_18 (K : gK) (d : Nat) (l5 : Int32) (G12 : gH) (l0 : Nat) (l1 : Int32) (l2 : Int32) (l3 : Int32) (v28 : Int32) (l6 : Int32) (v31 : Int32) : Option gO := if l5 ≤ v31 then (rI G12 l0 3 33 (t_169_14_12 K d G12 l0 l1 l2 l3 v28 l5 l6)) else (rR G12 l0 3 35 (t_169_14_17 K d G12 l0 l1 l2 l3 v28 l6))
noncomputable def t_169_14_19 (K : gK) (d : Nat) (G12 : gH) (a29 : Nat) (l5 : Int32) (l0 : Nat) (l1 : Int32) (l2 : Int32) (l3 : Int32) (v28 : Int32) (l6 : Int32) (v30 : Int32) : Option gO := xI G12 a29 0 v30 (t_169_14_18 K d l5 G12 l0 l1 l2 l3 v28 l6)
noncomputable def t_169_14_20 (K : gK) (d : Nat) (G12 : gH) (l0 : Nat) (l5 : Int32) (l1 : Int32) (l2 : Int32) (l3 : Int32) (v28 : Int32) (l6 : Int32) (a29 : Nat) : Option gO := rI G12 l0 3 33 (t_169_14_19 K d G12 a29 l5 l0 l1 l2 l3 v28 l6)
noncomputable def t_169_14_21 (K : gK) (d : Nat) (G12 : gH) (l0 : Nat) (l5 : Int32) (l1 : Int32) (l2 : Int32) (l3 : Int32) (l6 : Int32) (v28 : Int32) : Option gO := rR G12 l0 3 35 (t_169_14_20 K d G12 l0 l5 l1 l2 l3 v28 l6)
noncomputable def t_169_14_22 (K : gK) (d : Nat) (G12 : gH) (a26 : Nat) (l0 : Nat) (l5 : Int32) (l1 : Int32) (l2 : Int32) (l3 : Int32) (l6 : Int32) (v27 : Int32) : Option gO := xI G12 a26 0 v27 (t_169_14_21 K d G12 l0 l5 l1 l2 l3 l6)
noncomputable def t_169_14_23 (K : gK) (d : Nat) (G12 : gH) (l0 : Nat) (l5 : Int32) (l1 : Int32) (l2 : Int32) (l3 : Int32) (l6 : Int32) (a26 : Nat) : Option gO := rI G12 l0 3 33 (t_169_14_22 K d G12 a26 l0 l5 l1 l2 l3 l6)
noncomputable def t_169_14_24 (K : gK) (d : Nat) (l4 : Int32) (G12 : gH) (l0 : Nat) (l5 : Int32) (l1 : Int32) (l2 : Int32) (l3 : Int32) (l6 : Int32) (v15 : Int32) : Option gO := if l4 ≤ v15 then (rR G12 l0 3 35 (t_169_14_10 K d G12 l0 l5 l1 l2 l3 l4 l6)) else (rR G12 l0 3 34 (t_169_14_23 K d G12 l0 l5 l1 l2 l3 l6))
noncomputable def t_169_14_25 (K : gK) (d : Nat) (G12 : gH) (a13 : Nat) (l4 : Int32) (l0 : Nat) (l5 : Int32) (l1 : Int32) (l2 : Int32) (l3 : Int32) (l6 : Int32) (v14 : Int32) : Option gO := xI G12 a13 0 v14 (t_169_14_24 K d l4 G12 l0 l5 l1 l2 l3 l6)
noncomputable def t_169_14_26 (K : gK) (d : Nat) (G12 : gH) (l0 : Nat) (l4 : Int32) (l5 : Int32) (l1 : Int32) (l2 : Int32) (l3 : Int32) (l6 : Int32) (a13 : Nat) : Option gO := rI G12 l0 3 33 (t_169_14_25 K d G12 a13 l4 l0 l5 l1 l2 l3 l6)
noncomputable def t_169_14_27 (K : gK) (d : Nat) (l0 : Nat) (l4 : Int32) (l5 : Int32) (l1 : Int32) (l2 : Int32) (l3 : Int32) (l6 : Int32) (G12 : gH) : Option gO := rR G12 l0 3 34 (t_169_14_26 K d G12 l0 l4 l5 l1 l2 l3 l6)
noncomputable def t_169_14_28 (K : gK) (d : Nat) (a8 : Nat) (v9 : Int32) (l0 : Nat) (l4 : Int32) (l5 : Int32) (l1 : Int32) (l2 : Int32) (l3 : Int32) (l6 : Int32) (v11 : Int32) (G10 : gH) : Option gO := yI G10 a8 0 v9 v11 (t_169_14_27 K d l0 l4 l5 l1 l2 l3 l6)
noncomputable def t_169_14_29 (K : gK) (d : Nat) (l6 : Int32) (l2 : Int32) (G7 : gH) (a8 : Nat) (l0 : Nat) (l4 : Int32) (l5 : Int32) (l1 : Int32) (l3 : Int32) (v9 : Int32) : Option gO := if (5 : Int32) = 0 then none else (cI (gCa K d 210 [.int (l6 / (5 : Int32)), .int (l6 - l6 / (5 : Int32) * (5 : Int32)), .int l2] G7) (t_169_14_28 K d a8 v9 l0 l4 l5 l1 l2 l3 l6))
noncomputable def t_169_14_30 (K : gK) (d : Nat) (G7 : gH) (l0 : Nat) (l6 : Int32) (l2 : Int32) (l4 : Int32) (l5 : Int32) (l1 : Int32) (l3 : Int32) (a8 : Nat) : Option gO := rI G7 l0 3 33 (t_169_14_29 K d l6 l2 G7 a8 l0 l4 l5 l1 l3)
noncomputable def t_169_14_31 (K : gK) (d : Nat) (l0 : Nat) (l6 : Int32) (l2 : Int32) (l4 : Int32) (l5 : Int32) (l1 : Int32) (l3 : Int32) (G7 : gH) : Option gO := rR G7 l0 3 35 (t_169_14_30 K d G7 l0 l6 l2 l4 l5 l1 l3)
noncomputable def t_169_14_32 (K : gK) (d : Nat) (a3 : Nat) (v4 : Int32) (l0 : Nat) (l6 : Int32) (l2 : Int32) (l4 : Int32) (l5 : Int32) (l1 : Int32) (l3 : Int32) (v6 : Int32) (G5 : gH) : Option gO := yI G5 a3 0 v4 v6 (t_169_14_31 K d l0 l6 l2 l4 l5 l1 l3)
noncomputable def t_169_14_33 (K : gK) (d : Nat) (l6 : Int32) (l2 : Int32) (G : gH) (a3 : Nat) (l0 : Nat) (l4 : Int32) (l5 : Int32) (l1 : Int32) (l3 : Int32) (v4 : Int32) : Option gO := if (5 : Int32) = 0 then none else (cI (gCa K d 209 [.int (l6 / (5 : Int32)), .int (l6 - l6 / (5 : Int32) * (5 : Int32)), .int l2] G) (t_169_14_32 K d a3 v4 l0 l6 l2 l4 l5 l1 l3))
noncomputable def t_169_14_34 (K : gK) (d : Nat) (G : gH) (l0 : Nat) (l6 : Int32) (l2 : Int32) (l4 : Int32) (l5 : Int32) (l1 : Int32) (l3 : Int32) (a3 : Nat) : Option gO := rI G l0 3 33 (t_169_14_33 K d l6 l2 G a3 l0 l4 l5 l1 l3)
noncomputable def t_169_14_35 (K : gK) (d : Nat) (l0 : Nat) (l1 : Int32) (l2 : Int32) (l3 : Int32) (l4 : Int32) (l5 : Int32) (l6 : Int32) (G56 : gH) : Option gO := gRn K d 169 14 [some (.ref l0), some (.int l1), some (.int l2), some (.int l3), some (.int l4), some (.int l5), some (.int (l6 + 1)), some (.int ((4 : Int32) - (l6 - l6 / (5 : Int32) * (5 : Int32))))] [] G56
noncomputable def t_169_14_36 (K : gK) (d : Nat) (G48 : gH) (l0 : Nat) (l1 : Int32) (l2 : Int32) (l3 : Int32) (l4 : Int32) (l5 : Int32) (l6 : Int32) (v55 : Int32) : Option gO := if narrow .int (.int (v55 + (1 : Int32))) = .int (v55 + (1 : Int32)) ∧ fits .int (.int (v55 + (1 : Int32))) = true then wF G48 l0 3 33 (.int (v55 + (1 : Int32))) (t_169_14_35 K d l0 l1 l2 l3 l4 l5 l6) else none
noncomputable def t_169_14_37 (K : gK) (d : Nat) (l0 : Nat) (l1 : Int32) (l2 : Int32) (l3 : Int32) (l4 : Int32) (v59 : Int32) (l6 : Int32) (G61 : gH) : Option gO := gRn K d 169 14 [some (.ref l0), some (.int l1), some (.int l2), some (.int l3), some (.int l4), some (.int v59), some (.int (l6 + 1)), some (.int ((4 : Int32) - (l6 - l6 / (5 : Int32) * (5 : Int32))))] [] G61
noncomputable def t_169_14_38 (K : gK) (d : Nat) (G48 : gH) (l0 : Nat) (l1 : Int32) (l2 : Int32) (l3 : Int32) (l4 : Int32) (v59 : Int32) (l6 : Int32) (v60 : Int32) : Option gO := if narrow .int (.int (v60 + (1 : Int32))) = .int (v60 + (1 : Int32)) ∧ fits .int (.int (v60 + (1 : Int32))) = true then wF G48 l0 3 33 (.int (v60 + (1 : Int32))) (t_169_14_37 K d l0 l1 l2 l3 l4 v59 l6) else none
noncomputable def t_169_14_39 (K : gK) (d : Nat) (G48 : gH) (l0 : Nat) (l1 : Int32) (l2 : Int32) (l3 : Int32) (l4 : Int32) (l6 : Int32) (v59 : Int32) : Option gO := rI G48 l0 3 33 (t_169_14_38 K d G48 l0 l1 l2 l3 l4 v59 l6)
noncomputable def t_169_14_40 (K : gK) (d : Nat) (G48 : gH) (a57 : Nat) (l0 : Nat) (l1 : Int32) (l2 : Int32) (l3 : Int32) (l4 : Int32) (l6 : Int32) (v58 : Int32) : Option gO := xI G48 a57 0 v58 (t_169_14_39 K d G48 l0 l1 l2 l3 l4 l6)
noncomputable def t_169_14_41 (K : gK) (d : Nat) (G48 : gH) (l0 : Nat) (l1 : Int32) (l2 : Int32) (l3 : Int32) (l4 : Int32) (l6 : Int32) (a57 : Nat) : Option gO := rI G48 l0 3 33 (t_169_14_40 K d G48 a57 l0 l1 l2 l3 l4 l6)
noncomputable def t_169_14_42 (K : gK) (d : Nat) (l5 : Int32) (G48 : gH) (l0 : Nat) (l1 : Int32) (l2 : Int32) (l3 : Int32) (l4 : Int32) (l6 : Int32) (v54 : Int32) : Option gO := if l5 ≤ v54 then (rI G48 l0 3 33 (t_169_14_36 K d G48 l0 l1 l2 l3 l4 l5 l6)) else (rR G48 l0 3 35 (t_169_14_41 K d G48 l0 l1 l2 l3 l4 l6))
noncomputable def t_169_14_43 (K : gK) (d : Nat) (G48 : gH) (a52 : Nat) (l5 : Int32) (l0 : Nat) (l1 : Int32) (l2 : Int32) (l3 : Int32) (l4 : Int32) (l6 : Int32) (v53 : Int32) : Option gO := xI G48 a52 0 v53 (t_169_14_42 K d l5 G48 l0 l1 l2 l3 l4 l6)
noncomputable def t_169_14_44 (K : gK) (d : Nat) (G48 : gH) (l0 : Nat) (l5 : Int32) (l1 : Int32) (l2 : Int32) (l3 : Int32) (l4 : Int32) (l6 : Int32) (a52 : Nat) : Option gO := rI G48 l0 3 33 (t_169_14_43 K d G48 a52 l5 l0 l1 l2 l3 l4 l6)
noncomputable def t_169_14_45 (K : gK) (d : Nat) (l0 : Nat) (l1 : Int32) (l2 : Int32) (l3 : Int32) (v64 : Int32) (l5 : Int32) (l6 : Int32) (G69 : gH) : Option gO := gRn K d 169 14 [some (.ref l0), some (.int l1), some (.int l2), some (.int l3), some (.int v64), some (.int l5), some (.int (l6 + 1)), some (.int ((4 : Int32) - (l6 - l6 / (5 : Int32) * (5 : Int32))))] [] G69
noncomputable def t_169_14_46 (K : gK) (d : Nat) (G48 : gH) (l0 : Nat) (l1 : Int32) (l2 : Int32) (l3 : Int32) (v64 : Int32) (l5 : Int32) (l6 : Int32) (v68 : Int32) : Option gO := if narrow .int (.int (v68 + (1 : Int32))) = .int (v68 + (1 : Int32)) ∧ fits .int (.int (v68 + (1 : Int32))) = true then wF G48 l0 3 33 (.int (v68 + (1 : Int32))) (t_169_14_45 K d l0 l1 l2 l3 v64 l5 l6) else none
noncomputable def t_169_14_47 (K : gK) (d : Nat) (l0 : Nat) (l1 : Int32) (l2 : Int32) (l3 : Int32) (v64 : Int32) (v72 : Int32) (l6 : Int32) (G74 : gH) : Option gO := gRn K d 169 14 [some (.ref l0), some (.int l1), some (.int l2), some (.int l3), some (.int v64), some (.int v72), some (.int (l6 + 1)), some (.int ((4 : Int32) - (l6 - l6 / (5 : Int32) * (5 : Int32))))] [] G74
noncomputable def t_169_14_48 (K : gK) (d : Nat) (G48 : gH) (l0 : Nat) (l1 : Int32) (l2 : Int32) (l3 : Int32) (v64 : Int32) (v72 : Int32) (l6 : Int32) (v73 : Int32) : Option gO := if narrow .int (.int (v73 + (1 : Int32))) = .int (v73 + (1 : Int32)) ∧ fits .int (.int (v73 + (1 : Int32))) = true then wF G48 l0 3 33 (.int (v73 + (1 : Int32))) (t_169_14_47 K d l0 l1 l2 l3 v64 v72 l6) else none
noncomputable def t_169_14_49 (K : gK) (d : Nat) (G48 : gH) (l0 : Nat) (l1 : Int32) (l2 : Int32) (l3 : Int32) (v64 : Int32) (l6 : Int32) (v72 : Int32) : Option gO := rI G48 l0 3 33 (t_169_14_48 K d G48 l0 l1 l2 l3 v64 v72 l6)
noncomputable def t_169_14_50 (K : gK) (d : Nat) (G48 : gH) (a70 : Nat) (l0 : Nat) (l1 : Int32) (l2 : Int32) (l3 : Int32) (v64 : Int32) (l6 : Int32) (v71 : Int32) : Option gO := xI G48 a70 0 v71 (t_169_14_49 K d G48 l0 l1 l2 l3 v64 l6)
noncomputable def t_169_14_51 (K : gK) (d : Nat) (G48 : gH) (l0 : Nat) (l1 : Int32) (l2 : Int32) (l3 : Int32) (v64 : Int32) (l6 : Int32) (a70 : Nat) : Option gO := rI G48 l0 3 33 (t_169_14_50 K d G48 a70 l0 l1 l2 l3 v64 l6)
noncomputable def t_169_14_52 (K : gK) (d : Nat) (l5 : Int32) (G48 : gH) (l0 : Nat) (l1 : Int32) (l2 : Int32) (l3 : Int32) (v64 : Int32) (l6 : Int32) (v67 : Int32) : Option gO := if l5 ≤ v67 then (rI G48 l0 3 33 (t_169_14_46 K d G48 l0 l1 l2 l3 v64 l5 l6)) else (rR G48 l0 3 35 (t_169_14_51 K d G48 l0 l1 l2 l3 v64 l6))
noncomputable def t_169_14_53 (K : gK) (d : Nat) (G48 : gH) (a65 : Nat) (l5 : Int32) (l0 : Nat) (l1 : Int32) (l2 : Int32) (l3 : Int32) (v64 : Int32) (l6 : Int32) (v66 : Int32) : Option gO := xI G48 a65 0 v66 (t_169_14_52 K d l5 G48 l0 l1 l2 l3 v64 l6)
noncomputable def t_169_14_54 (K : gK) (d : Nat) (G48 : gH) (l0 : Nat) (l5 : Int32) (l1 : Int32) (l2 : Int32) (l3 : Int32) (v64 : Int32) (l6 : Int32) (a65 : Nat) : Option gO := rI G48 l0 3 33 (t_169_14_53 K d G48 a65 l5 l0 l1 l2 l3 v64 l6)
noncomputable def t_169_14_55 (K : gK) (d : Nat) (G48 : gH) (l0 : Nat) (l5 : Int32) (l1 : Int32) (l2 : Int32) (l3 : Int32) (l6 : Int32) (v64 : Int32) : Option gO := rR G48 l0 3 35 (t_169_14_54 K d G48 l0 l5 l1 l2 l3 v64 l6)
noncomputable def t_169_14_56 (K : gK) (d : Nat) (G48 : gH) (a62 : Nat) (l0 : Nat) (l5 : Int32) (l1 : Int32) (l2 : Int32) (l3 : Int32) (l6 : Int32) (v63 : Int32) : Option gO := xI G48 a62 0 v63 (t_169_14_55 K d G48 l0 l5 l1 l2 l3 l6)
noncomputable def t_169_14_57 (K : gK) (d : Nat) (G48 : gH) (l0 : Nat) (l5 : Int32) (l1 : Int32) (l2 : Int32) (l3 : Int32) (l6 : Int32) (a62 : Nat) : Option gO := rI G48 l0 3 33 (t_169_14_56 K d G48 a62 l0 l5 l1 l2 l3 l6)
noncomputable def t_169_14_58 (K : gK) (d : Nat) (l4 : Int32) (G48 : gH) (l0 : Nat) (l5 : Int32) (l1 : Int32) (l2 : Int32) (l3 : Int32) (l6 : Int32) (v51 : Int32) : Option gO := if l4 ≤ v51 then (rR G48 l0 3 35 (t_169_14_44 K d G48 l0 l5 l1 l2 l3 l4 l6)) else (rR G48 l0 3 34 (t_169_14_57 K d G48 l0 l5 l1 l2 l3 l6))
noncomputable def t_169_14_59 (K : gK) (d : Nat) (G48 : gH) (a49 : Nat) (l4 : Int32) (l0 : Nat) (l5 : Int32) (l1 : Int32) (l2 : Int32) (l3 : Int32) (l6 : Int32) (v50 : Int32) : Option gO := xI G48 a49 0 v50 (t_169_14_58 K d l4 G48 l0 l5 l1 l2 l3 l6)
noncomputable def t_169_14_60 (K : gK) (d : Nat) (G48 : gH) (l0 : Nat) (l4 : Int32) (l5 : Int32) (l1 : Int32) (l2 : Int32) (l3 : Int32) (l6 : Int32) (a49 : Nat) : Option gO := rI G48 l0 3 33 (t_169_14_59 K d G48 a49 l4 l0 l5 l1 l2 l3 l6)
noncomputable def t_169_14_61 (K : gK) (d : Nat) (l0 : Nat) (l4 : Int32) (l5 : Int32) (l1 : Int32) (l2 : Int32) (l3 : Int32) (l6 : Int32) (G48 : gH) : Option gO := rR G48 l0 3 34 (t_169_14_60 K d G48 l0 l4 l5 l1 l2 l3 l6)
noncomputable def t_169_14_62 (K : gK) (d : Nat) (a44 : Nat) (v45 : Int32) (l0 : Nat) (l4 : Int32) (l5 : Int32) (l1 : Int32) (l2 : Int32) (l3 : Int32) (l6 : Int32) (v47 : Int32) (G46 : gH) : Option gO := yI G46 a44 0 v45 v47 (t_169_14_61 K d l0 l4 l5 l1 l2 l3 l6)
noncomputable def t_169_14_63 (K : gK) (d : Nat) (l6 : Int32) (l2 : Int32) (G43 : gH) (a44 : Nat) (l0 : Nat) (l4 : Int32) (l5 : Int32) (l1 : Int32) (l3 : Int32) (v45 : Int32) : Option gO := if (5 : Int32) = 0 then none else (cI (gCa K d 210 [.int (l6 / (5 : Int32)), .int ((4 : Int32) - (l6 - l6 / (5 : Int32) * (5 : Int32))), .int l2] G43) (t_169_14_62 K d a44 v45 l0 l4 l5 l1 l2 l3 l6))
noncomputable def t_169_14_64 (K : gK) (d : Nat) (G43 : gH) (l0 : Nat) (l6 : Int32) (l2 : Int32) (l4 : Int32) (l5 : Int32) (l1 : Int32) (l3 : Int32) (a44 : Nat) : Option gO := rI G43 l0 3 33 (t_169_14_63 K d l6 l2 G43 a44 l0 l4 l5 l1 l3)
noncomputable def t_169_14_65 (K : gK) (d : Nat) (l0 : Nat) (l6 : Int32) (l2 : Int32) (l4 : Int32) (l5 : Int32) (l1 : Int32) (l3 : Int32) (G43 : gH) : Option gO := rR G43 l0 3 35 (t_169_14_64 K d G43 l0 l6 l2 l4 l5 l1 l3)
noncomputable def t_169_14_66 (K : gK) (d : Nat) (a39 : Nat) (v40 : Int32) (l0 : Nat) (l6 : Int32) (l2 : Int32) (l4 : Int32) (l5 : Int32) (l1 : Int32) (l3 : Int32) (v42 : Int32) (G41 : gH) : Option gO := yI G41 a39 0 v40 v42 (t_169_14_65 K d l0 l6 l2 l4 l5 l1 l3)
noncomputable def t_169_14_67 (K : gK) (d : Nat) (l6 : Int32) (l2 : Int32) (G : gH) (a39 : Nat) (l0 : Nat) (l4 : Int32) (l5 : Int32) (l1 : Int32) (l3 : Int32) (v40 : Int32) : Option gO := if (5 : Int32) = 0 then none else (cI (gCa K d 209 [.int (l6 / (5 : Int32)), .int ((4 : Int32) - (l6 - l6 / (5 : Int32) * (5 : Int32))), .int l2] G) (t_169_14_66 K d a39 v40 l0 l6 l2 l4 l5 l1 l3))
noncomputable def t_169_14_68 (K : gK) (d : Nat) (G : gH) (l0 : Nat) (l6 : Int32) (l2 : Int32) (l4 : Int32) (l5 : Int32) (l1 : Int32) (l3 : Int32) (a39 : Nat) : Option gO := rI G l0 3 33 (t_169_14_67 K d l6 l2 G a39 l0 l4 l5 l1 l3)
noncomputable def t_169_14_69 (K : gK) (d : Nat) (l0 : Nat) (l1 : Int32) (l2 : Int32) (l3 : Int32) (l4 : Int32) (l5 : Int32) (l6 : Int32) (o7 : Option Value) (G : gH) (v2 : Int32) : Option gO := if v2 = 0 then (gRn K d 169 14 [some (.ref l0), some (.int l1), some (.int l2), some (.int l3), some (.int l4), some (.int l5), some (.int (l6 + 1)), o7] [] G) else (if l3 = 0 then (if (5 : Int32) = 0 then none else (rR G l0 3 34 (t_169_14_34 K d G l0 l6 l2 l4 l5 l1 l3))) else (if (5 : Int32) = 0 then none else (rR G l0 3 34 (t_169_14_68 K d G l0 l6 l2 l4 l5 l1 l3))))
noncomputable def t_169_14_70 (K : gK) (d : Nat) (G : gH) (l1 : Int32) (l6 : Int32) (l0 : Nat) (l2 : Int32) (l3 : Int32) (l4 : Int32) (l5 : Int32) (o7 : Option Value) (a1 : Nat) : Option gO := xI G a1 1 (((25 : Int32) * l1) + l6) (t_169_14_69 K d l0 l1 l2 l3 l4 l5 l6 o7 G)
noncomputable def t_169_14 (K : gK) (d : Nat) (l0 : Nat) (l1 : Int32) (l2 : Int32) (l3 : Int32) (l4 : Int32) (l5 : Int32) (l6 : Int32) (o7 : Option Value) (G : gH) : Option gO := if (25 : Int32) ≤ l6 then (gRn K d 169 172 [some (.ref l0), some (.int l1), some (.int l2), some (.int l3), some (.int l4), some (.int l5), some (.int (0 : Int32)), o7] [] G) else (rR G l0 3 10 (t_169_14_70 K d G l1 l6 l0 l2 l3 l4 l5 o7))
theorem e_169_14 {K : gK} {d : Nat} {l0 : Nat} {l1 : Int32} {l2 : Int32} {l3 : Int32} {l4 : Int32} {l5 : Int32} {l6 : Int32} {o7 : Option Value} {G : gH} : gle (t_169_14 K d l0 l1 l2 l3 l4 l5 l6 o7 G) (gRn K d 169 14 [some (.ref l0), some (.int l1), some (.int l2), some (.int l3), some (.int l4), some (.int l5), some (.int l6), o7] [] G) := by
  unfold t_169_14
  refine g_iload ((q_169 _).trans rfl) rfl ?_
  refine g_push ((q_169 _).trans rfl) ?_
  refine g_cmpge ((q_169 _).trans rfl) (fun _ => ?_) (fun _ => ?_)
  · refine g_push ((q_169 _).trans rfl) ?_
    refine g_istore ((q_169 _).trans rfl) ?_
    exact gle.rf _
  · refine g_aload ((q_169 _).trans rfl) rfl ?_
    refine g_getR ((q_169 _).trans rfl) (fun a1 => ?_)
    refine g_push ((q_169 _).trans rfl) ?_
    refine g_iload ((q_169 _).trans rfl) rfl ?_
    refine g_imul ((q_169 _).trans rfl) ?_
    refine g_iload ((q_169 _).trans rfl) rfl ?_
    refine g_iadd ((q_169 _).trans rfl) ?_
    refine g_iald ((q_169 _).trans rfl) (fun v2 => ?_)
    refine g_ifeq ((q_169 _).trans rfl) (fun _ => ?_) (fun _ => ?_)
    · refine g_iinc ((q_169 _).trans rfl) rfl ?_
      refine g_goto ((q_169 _).trans rfl) ?_
      exact gle.rf _
    · refine g_iload ((q_169 _).trans rfl) rfl ?_
      refine g_ifeq ((q_169 _).trans rfl) (fun _ => ?_) (fun _ => ?_)
      · refine g_iload ((q_169 _).trans rfl) rfl ?_
        refine g_push ((q_169 _).trans rfl) ?_
        refine g_irem ((q_169 _).trans rfl) (fun _ => ?_)
        refine g_istore ((q_169 _).trans rfl) ?_
        refine g_aload ((q_169 _).trans rfl) rfl ?_
        refine g_getR ((q_169 _).trans rfl) (fun a3 => ?_)
        refine g_aload ((q_169 _).trans rfl) rfl ?_
        refine g_getI ((q_169 _).trans rfl) (fun v4 => ?_)
        refine g_iload ((q_169 _).trans rfl) rfl ?_
        refine g_push ((q_169 _).trans rfl) ?_
        refine g_idiv ((q_169 _).trans rfl) (fun _ => ?_)
        refine g_iload ((q_169 _).trans rfl) rfl ?_
        refine g_iload ((q_169 _).trans rfl) rfl ?_
        refine g_callS (kk := 3) ((q_169 _).trans rfl) (gHn m_169) (by exact ⟨Nat.le_of_ble_eq_true rfl, Nat.le_of_ble_eq_true rfl, rfl⟩) rfl (fun w G5 => gm_I (fun v6 hw => ?_))
        subst hw
        refine g_iast ((q_169 _).trans rfl) (fun G7 => ?_)
        refine g_aload ((q_169 _).trans rfl) rfl ?_
        refine g_getR ((q_169 _).trans rfl) (fun a8 => ?_)
        refine g_aload ((q_169 _).trans rfl) rfl ?_
        refine g_getI ((q_169 _).trans rfl) (fun v9 => ?_)
        refine g_iload ((q_169 _).trans rfl) rfl ?_
        refine g_push ((q_169 _).trans rfl) ?_
        refine g_idiv ((q_169 _).trans rfl) (fun _ => ?_)
        refine g_iload ((q_169 _).trans rfl) rfl ?_
        refine g_iload ((q_169 _).trans rfl) rfl ?_
        refine g_callS (kk := 3) ((q_169 _).trans rfl) (gHn m_169) (by exact ⟨Nat.le_of_ble_eq_true rfl, Nat.le_of_ble_eq_true rfl, rfl⟩) rfl (fun w G10 => gm_I (fun v11 hw => ?_))
        subst hw
        refine g_iast ((q_169 _).trans rfl) (fun G12 => ?_)
        refine g_aload ((q_169 _).trans rfl) rfl ?_
        refine g_getR ((q_169 _).trans rfl) (fun a13 => ?_)
        refine g_aload ((q_169 _).trans rfl) rfl ?_
        refine g_getI ((q_169 _).trans rfl) (fun v14 => ?_)
        refine g_iald ((q_169 _).trans rfl) (fun v15 => ?_)
        refine g_iload ((q_169 _).trans rfl) rfl ?_
        refine g_cmpge ((q_169 _).trans rfl) (fun _ => ?_) (fun _ => ?_)
        · refine g_iload ((q_169 _).trans rfl) rfl ?_
          refine g_istore ((q_169 _).trans rfl) ?_
          refine g_aload ((q_169 _).trans rfl) rfl ?_
          refine g_getR ((q_169 _).trans rfl) (fun a16 => ?_)
          refine g_aload ((q_169 _).trans rfl) rfl ?_
          refine g_getI ((q_169 _).trans rfl) (fun v17 => ?_)
          refine g_iald ((q_169 _).trans rfl) (fun v18 => ?_)
          refine g_iload ((q_169 _).trans rfl) rfl ?_
          refine g_cmpge ((q_169 _).trans rfl) (fun _ => ?_) (fun _ => ?_)
          · refine g_iload ((q_169 _).trans rfl) rfl ?_
            refine g_istore ((q_169 _).trans rfl) ?_
            refine g_aload ((q_169 _).trans rfl) rfl ?_
            refine g_dup_ref ((q_169 _).trans rfl) ?_
            refine g_getI ((q_169 _).trans rfl) (fun v19 => ?_)
            refine g_push ((q_169 _).trans rfl) ?_
            refine g_iadd ((q_169 _).trans rfl) ?_
            refine g_putf ((q_169 _).trans rfl) (fun G20 => ?_)
            refine g_iinc ((q_169 _).trans rfl) rfl ?_
            refine g_goto ((q_169 _).trans rfl) ?_
            exact gle.rf _
          · refine g_aload ((q_169 _).trans rfl) rfl ?_
            refine g_getR ((q_169 _).trans rfl) (fun a21 => ?_)
            refine g_aload ((q_169 _).trans rfl) rfl ?_
            refine g_getI ((q_169 _).trans rfl) (fun v22 => ?_)
            refine g_iald ((q_169 _).trans rfl) (fun v23 => ?_)
            refine g_goto ((q_169 _).trans rfl) ?_
            refine g_istore ((q_169 _).trans rfl) ?_
            refine g_aload ((q_169 _).trans rfl) rfl ?_
            refine g_dup_ref ((q_169 _).trans rfl) ?_
            refine g_getI ((q_169 _).trans rfl) (fun v24 => ?_)
            refine g_push ((q_169 _).trans rfl) ?_
            refine g_iadd ((q_169 _).trans rfl) ?_
            refine g_putf ((q_169 _).trans rfl) (fun G25 => ?_)
            refine g_iinc ((q_169 _).trans rfl) rfl ?_
            refine g_goto ((q_169 _).trans rfl) ?_
            exact gle.rf _
        · refine g_aload ((q_169 _).trans rfl) rfl ?_
          refine g_getR ((q_169 _).trans rfl) (fun a26 => ?_)
          refine g_aload ((q_169 _).trans rfl) rfl ?_
          refine g_getI ((q_169 _).trans rfl) (fun v27 => ?_)
          refine g_iald ((q_169 _).trans rfl) (fun v28 => ?_)
          refine g_goto ((q_169 _).trans rfl) ?_
          refine g_istore ((q_169 _).trans rfl) ?_
          refine g_aload ((q_169 _).trans rfl) rfl ?_
          refine g_getR ((q_169 _).trans rfl) (fun a29 => ?_)
          refine g_aload ((q_169 _).trans rfl) rfl ?_
          refine g_getI ((q_169 _).trans rfl) (fun v30 => ?_)
          refine g_iald ((q_169 _).trans rfl) (fun v31 => ?_)
          refine g_iload ((q_169 _).trans rfl) rfl ?_
          refine g_cmpge ((q_169 _).trans rfl) (fun _ => ?_) (fun _ => ?_)
          · refine g_iload ((q_169 _).trans rfl) rfl ?_
            refine g_istore ((q_169 _).trans rfl) ?_
            refine g_aload ((q_169 _).trans rfl) rfl ?_
            refine g_dup_ref ((q_169 _).trans rfl) ?_
            refine g_getI ((q_169 _).trans rfl) (fun v32 => ?_)
            refine g_push ((q_169 _).trans rfl) ?_
            refine g_iadd ((q_169 _).trans rfl) ?_
            refine g_putf ((q_169 _).trans rfl) (fun G33 => ?_)
            refine g_iinc ((q_169 _).trans rfl) rfl ?_
            refine g_goto ((q_169 _).trans rfl) ?_
            exact gle.rf _
          · refine g_aload ((q_169 _).trans rfl) rfl ?_
            refine g_getR ((q_169 _).trans rfl) (fun a34 => ?_)
            refine g_aload ((q_169 _).trans rfl) rfl ?_
            refine g_getI ((q_169 _).trans rfl) (fun v35 => ?_)
            refine g_iald ((q_169 _).trans rfl) (fun v36 => ?_)
            refine g_goto ((q_169 _).trans rfl) ?_
            refine g_istore ((q_169 _).trans rfl) ?_
            refine g_aload ((q_169 _).trans rfl) rfl ?_
            refine g_dup_ref ((q_169 _).trans rfl) ?_
            refine g_getI ((q_169 _).trans rfl) (fun v37 => ?_)
            refine g_push ((q_169 _).trans rfl) ?_
            refine g_iadd ((q_169 _).trans rfl) ?_
            refine g_putf ((q_169 _).trans rfl) (fun G38 => ?_)
            refine g_iinc ((q_169 _).trans rfl) rfl ?_
            refine g_goto ((q_169 _).trans rfl) ?_
            exact gle.rf _
      · refine g_push ((q_169 _).trans rfl) ?_
        refine g_iload ((q_169 _).trans rfl) rfl ?_
        refine g_push ((q_169 _).trans rfl) ?_
        refine g_irem ((q_169 _).trans rfl) (fun _ => ?_)
        refine g_isub ((q_169 _).trans rfl) ?_
        refine g_goto ((q_169 _).trans rfl) ?_
        refine g_istore ((q_169 _).trans rfl) ?_
        refine g_aload ((q_169 _).trans rfl) rfl ?_
        refine g_getR ((q_169 _).trans rfl) (fun a39 => ?_)
        refine g_aload ((q_169 _).trans rfl) rfl ?_
        refine g_getI ((q_169 _).trans rfl) (fun v40 => ?_)
        refine g_iload ((q_169 _).trans rfl) rfl ?_
        refine g_push ((q_169 _).trans rfl) ?_
        refine g_idiv ((q_169 _).trans rfl) (fun _ => ?_)
        refine g_iload ((q_169 _).trans rfl) rfl ?_
        refine g_iload ((q_169 _).trans rfl) rfl ?_
        refine g_callS (kk := 3) ((q_169 _).trans rfl) (gHn m_169) (by exact ⟨Nat.le_of_ble_eq_true rfl, Nat.le_of_ble_eq_true rfl, rfl⟩) rfl (fun w G41 => gm_I (fun v42 hw => ?_))
        subst hw
        refine g_iast ((q_169 _).trans rfl) (fun G43 => ?_)
        refine g_aload ((q_169 _).trans rfl) rfl ?_
        refine g_getR ((q_169 _).trans rfl) (fun a44 => ?_)
        refine g_aload ((q_169 _).trans rfl) rfl ?_
        refine g_getI ((q_169 _).trans rfl) (fun v45 => ?_)
        refine g_iload ((q_169 _).trans rfl) rfl ?_
        refine g_push ((q_169 _).trans rfl) ?_
        refine g_idiv ((q_169 _).trans rfl) (fun _ => ?_)
        refine g_iload ((q_169 _).trans rfl) rfl ?_
        refine g_iload ((q_169 _).trans rfl) rfl ?_
        refine g_callS (kk := 3) ((q_169 _).trans rfl) (gHn m_169) (by exact ⟨Nat.le_of_ble_eq_true rfl, Nat.le_of_ble_eq_true rfl, rfl⟩) rfl (fun w G46 => gm_I (fun v47 hw => ?_))
        subst hw
        refine g_iast ((q_169 _).trans rfl) (fun G48 => ?_)
        refine g_aload ((q_169 _).trans rfl) rfl ?_
        refine g_getR ((q_169 _).trans rfl) (fun a49 => ?_)
        refine g_aload ((q_169 _).trans rfl) rfl ?_
        refine g_getI ((q_169 _).trans rfl) (fun v50 => ?_)
        refine g_iald ((q_169 _).trans rfl) (fun v51 => ?_)
        refine g_iload ((q_169 _).trans rfl) rfl ?_
        refine g_cmpge ((q_169 _).trans rfl) (fun _ => ?_) (fun _ => ?_)
        · refine g_iload ((q_169 _).trans rfl) rfl ?_
          refine g_istore ((q_169 _).trans rfl) ?_
          refine g_aload ((q_169 _).trans rfl) rfl ?_
          refine g_getR ((q_169 _).trans rfl) (fun a52 => ?_)
          refine g_aload ((q_169 _).trans rfl) rfl ?_
          refine g_getI ((q_169 _).trans rfl) (fun v53 => ?_)
          refine g_iald ((q_169 _).trans rfl) (fun v54 => ?_)
          refine g_iload ((q_169 _).trans rfl) rfl ?_
          refine g_cmpge ((q_169 _).trans rfl) (fun _ => ?_) (fun _ => ?_)
          · refine g_iload ((q_169 _).trans rfl) rfl ?_
            refine g_istore ((q_169 _).trans rfl) ?_
            refine g_aload ((q_169 _).trans rfl) rfl ?_
            refine g_dup_ref ((q_169 _).trans rfl) ?_
            refine g_getI ((q_169 _).trans rfl) (fun v55 => ?_)
            refine g_push ((q_169 _).trans rfl) ?_
            refine g_iadd ((q_169 _).trans rfl) ?_
            refine g_putf ((q_169 _).trans rfl) (fun G56 => ?_)
            refine g_iinc ((q_169 _).trans rfl) rfl ?_
            refine g_goto ((q_169 _).trans rfl) ?_
            exact gle.rf _
          · refine g_aload ((q_169 _).trans rfl) rfl ?_
            refine g_getR ((q_169 _).trans rfl) (fun a57 => ?_)
            refine g_aload ((q_169 _).trans rfl) rfl ?_
            refine g_getI ((q_169 _).trans rfl) (fun v58 => ?_)
            refine g_iald ((q_169 _).trans rfl) (fun v59 => ?_)
            refine g_goto ((q_169 _).trans rfl) ?_
            refine g_istore ((q_169 _).trans rfl) ?_
            refine g_aload ((q_169 _).trans rfl) rfl ?_
            refine g_dup_ref ((q_169 _).trans rfl) ?_
            refine g_getI ((q_169 _).trans rfl) (fun v60 => ?_)
            refine g_push ((q_169 _).trans rfl) ?_
            refine g_iadd ((q_169 _).trans rfl) ?_
            refine g_putf ((q_169 _).trans rfl) (fun G61 => ?_)
            refine g_iinc ((q_169 _).trans rfl) rfl ?_
            refine g_goto ((q_169 _).trans rfl) ?_
            exact gle.rf _
        · refine g_aload ((q_169 _).trans rfl) rfl ?_
          refine g_getR ((q_169 _).trans rfl) (fun a62 => ?_)
          refine g_aload ((q_169 _).trans rfl) rfl ?_
          refine g_getI ((q_169 _).trans rfl) (fun v63 => ?_)
          refine g_iald ((q_169 _).trans rfl) (fun v64 => ?_)
          refine g_goto ((q_169 _).trans rfl) ?_
          refine g_istore ((q_169 _).trans rfl) ?_
          refine g_aload ((q_169 _).trans rfl) rfl ?_
          refine g_getR ((q_169 _).trans rfl) (fun a65 => ?_)
          refine g_aload ((q_169 _).trans rfl) rfl ?_
          refine g_getI ((q_169 _).trans rfl) (fun v66 => ?_)
          refine g_iald ((q_169 _).trans rfl) (fun v67 => ?_)
          refine g_iload ((q_169 _).trans rfl) rfl ?_
          refine g_cmpge ((q_169 _).trans rfl) (fun _ => ?_) (fun _ => ?_)
          · refine g_iload ((q_169 _).trans rfl) rfl ?_
            refine g_istore ((q_169 _).trans rfl) ?_
            refine g_aload ((q_169 _).trans rfl) rfl ?_
            refine g_dup_ref ((q_169 _).trans rfl) ?_
            refine g_getI ((q_169 _).trans rfl) (fun v68 => ?_)
            refine g_push ((q_169 _).trans rfl) ?_
            refine g_iadd ((q_169 _).trans rfl) ?_
            refine g_putf ((q_169 _).trans rfl) (fun G69 => ?_)
            refine g_iinc ((q_169 _).trans rfl) rfl ?_
            refine g_goto ((q_169 _).trans rfl) ?_
            exact gle.rf _
          · refine g_aload ((q_169 _).trans rfl) rfl ?_
            refine g_getR ((q_169 _).trans rfl) (fun a70 => ?_)
            refine g_aload ((q_169 _).trans rfl) rfl ?_
            refine g_getI ((q_169 _).trans rfl) (fun v71 => ?_)
            refine g_iald ((q_169 _).trans rfl) (fun v72 => ?_)
            refine g_goto ((q_169 _).trans rfl) ?_
            refine g_istore ((q_169 _).trans rfl) ?_
            refine g_aload ((q_169 _).trans rfl) rfl ?_
            refine g_dup_ref ((q_169 _).trans rfl) ?_
            refine g_getI ((q_169 _).trans rfl) (fun v73 => ?_)
            refine g_push ((q_169 _).trans rfl) ?_
            refine g_iadd ((q_169 _).trans rfl) ?_
            refine g_putf ((q_169 _).trans rfl) (fun G74 => ?_)
            refine g_iinc ((q_169 _).trans rfl) rfl ?_
            refine g_goto ((q_169 _).trans rfl) ?_
            exact gle.rf _
noncomputable def t_169_172_1 (K : gK) (d : Nat) (G8 : gH) : Option gO := some (.inl none, G8)
noncomputable def t_169_172_2 (K : gK) (d : Nat) (l4 : Int32) (l0 : Nat) (v7 : Int32) (G6 : gH) : Option gO := if narrow .int (.int (v7 - l4)) = .int (v7 - l4) ∧ fits .int (.int (v7 - l4)) = true then wF G6 l0 3 36 (.int (v7 - l4)) (t_169_172_1 K d) else none
noncomputable def t_169_172_3 (K : gK) (d : Nat) (v3 : Int32) (l2 : Int32) (G : gH) (l4 : Int32) (l0 : Nat) (v5 : Int32) : Option gO := cI (gCa K d 209 [.int v3, .int v5, .int l2] G) (t_169_172_2 K d l4 l0)
noncomputable def t_169_172_4 (K : gK) (d : Nat) (G : gH) (l1 : Int32) (v3 : Int32) (l2 : Int32) (l4 : Int32) (l0 : Nat) (a4 : Nat) : Option gO := xI G a4 0 l1 (t_169_172_3 K d v3 l2 G l4 l0)
noncomputable def t_169_172_5 (K : gK) (d : Nat) (G13 : gH) : Option gO := some (.inl none, G13)
noncomputable def t_169_172_6 (K : gK) (d : Nat) (l4 : Int32) (l0 : Nat) (v12 : Int32) (G11 : gH) : Option gO := if narrow .int (.int (v12 - l4)) = .int (v12 - l4) ∧ fits .int (.int (v12 - l4)) = true then wF G11 l0 3 36 (.int (v12 - l4)) (t_169_172_5 K d) else none
noncomputable def t_169_172_7 (K : gK) (d : Nat) (v3 : Int32) (l2 : Int32) (G : gH) (l4 : Int32) (l0 : Nat) (v10 : Int32) : Option gO := cI (gCa K d 209 [.int v3, .int ((4 : Int32) - v10), .int l2] G) (t_169_172_6 K d l4 l0)
noncomputable def t_169_172_8 (K : gK) (d : Nat) (G : gH) (l1 : Int32) (v3 : Int32) (l2 : Int32) (l4 : Int32) (l0 : Nat) (a9 : Nat) : Option gO := xI G a9 0 l1 (t_169_172_7 K d v3 l2 G l4 l0)
noncomputable def t_169_172_9 (K : gK) (d : Nat) (l3 : Int32) (G : gH) (l0 : Nat) (l1 : Int32) (l2 : Int32) (l4 : Int32) (v3 : Int32) : Option gO := if l3 = 0 then (rR G l0 3 14 (t_169_172_4 K d G l1 v3 l2 l4 l0)) else (rR G l0 3 14 (t_169_172_8 K d G l1 v3 l2 l4 l0))
noncomputable def t_169_172_10 (K : gK) (d : Nat) (G : gH) (l1 : Int32) (l3 : Int32) (l0 : Nat) (l2 : Int32) (l4 : Int32) (a2 : Nat) : Option gO := xI G a2 0 l1 (t_169_172_9 K d l3 G l0 l1 l2 l4)
noncomputable def t_169_172_11 (K : gK) (d : Nat) (l0 : Nat) (l1 : Int32) (l2 : Int32) (l3 : Int32) (l4 : Int32) (l5 : Int32) (l6 : Int32) (o7 : Option Value) (G19 : gH) : Option gO := gRn K d 169 172 [some (.ref l0), some (.int l1), some (.int l2), some (.int l3), some (.int l4), some (.int l5), some (.int (l6 + 1)), o7] [] G19
noncomputable def t_169_172_12 (K : gK) (d : Nat) (G16 : gH) (a17 : Nat) (l6 : Int32) (l5 : Int32) (l0 : Nat) (l1 : Int32) (l2 : Int32) (l3 : Int32) (l4 : Int32) (o7 : Option Value) (v18 : Int32) : Option gO := yI G16 a17 0 l6 (v18 - l5) (t_169_172_11 K d l0 l1 l2 l3 l4 l5 l6 o7)
noncomputable def t_169_172_13 (K : gK) (d : Nat) (G16 : gH) (l6 : Int32) (l5 : Int32) (l0 : Nat) (l1 : Int32) (l2 : Int32) (l3 : Int32) (l4 : Int32) (o7 : Option Value) (a17 : Nat) : Option gO := xI G16 a17 0 l6 (t_169_172_12 K d G16 a17 l6 l5 l0 l1 l2 l3 l4 o7)
noncomputable def t_169_172_14 (K : gK) (d : Nat) (l0 : Nat) (l6 : Int32) (l5 : Int32) (l1 : Int32) (l2 : Int32) (l3 : Int32) (l4 : Int32) (o7 : Option Value) (G16 : gH) : Option gO := rR G16 l0 3 35 (t_169_172_13 K d G16 l6 l5 l0 l1 l2 l3 l4 o7)
noncomputable def t_169_172_15 (K : gK) (d : Nat) (G : gH) (a14 : Nat) (l6 : Int32) (l4 : Int32) (l0 : Nat) (l5 : Int32) (l1 : Int32) (l2 : Int32) (l3 : Int32) (o7 : Option Value) (v15 : Int32) : Option gO := yI G a14 0 l6 (v15 - l4) (t_169_172_14 K d l0 l6 l5 l1 l2 l3 l4 o7)
noncomputable def t_169_172_16 (K : gK) (d : Nat) (G : gH) (l6 : Int32) (l4 : Int32) (l0 : Nat) (l5 : Int32) (l1 : Int32) (l2 : Int32) (l3 : Int32) (o7 : Option Value) (a14 : Nat) : Option gO := xI G a14 0 l6 (t_169_172_15 K d G a14 l6 l4 l0 l5 l1 l2 l3 o7)
noncomputable def t_169_172_17 (K : gK) (d : Nat) (l6 : Int32) (G : gH) (l0 : Nat) (l1 : Int32) (l3 : Int32) (l2 : Int32) (l4 : Int32) (l5 : Int32) (o7 : Option Value) (v1 : Int32) : Option gO := if v1 ≤ l6 then (rR G l0 3 13 (t_169_172_10 K d G l1 l3 l0 l2 l4)) else (rR G l0 3 34 (t_169_172_16 K d G l6 l4 l0 l5 l1 l2 l3 o7))
noncomputable def t_169_172 (K : gK) (d : Nat) (l0 : Nat) (l1 : Int32) (l2 : Int32) (l3 : Int32) (l4 : Int32) (l5 : Int32) (l6 : Int32) (o7 : Option Value) (G : gH) : Option gO := rI G l0 3 33 (t_169_172_17 K d l6 G l0 l1 l3 l2 l4 l5 o7)
theorem e_169_172 {K : gK} {d : Nat} {l0 : Nat} {l1 : Int32} {l2 : Int32} {l3 : Int32} {l4 : Int32} {l5 : Int32} {l6 : Int32} {o7 : Option Value} {G : gH} : gle (t_169_172 K d l0 l1 l2 l3 l4 l5 l6 o7 G) (gRn K d 169 172 [some (.ref l0), some (.int l1), some (.int l2), some (.int l3), some (.int l4), some (.int l5), some (.int l6), o7] [] G) := by
  unfold t_169_172
  refine g_iload ((q_169 _).trans rfl) rfl ?_
  refine g_aload ((q_169 _).trans rfl) rfl ?_
  refine g_getI ((q_169 _).trans rfl) (fun v1 => ?_)
  refine g_cmpge ((q_169 _).trans rfl) (fun _ => ?_) (fun _ => ?_)
  · refine g_aload ((q_169 _).trans rfl) rfl ?_
    refine g_aload ((q_169 _).trans rfl) rfl ?_
    refine g_getR ((q_169 _).trans rfl) (fun a2 => ?_)
    refine g_iload ((q_169 _).trans rfl) rfl ?_
    refine g_iald ((q_169 _).trans rfl) (fun v3 => ?_)
    refine g_iload ((q_169 _).trans rfl) rfl ?_
    refine g_ifeq ((q_169 _).trans rfl) (fun _ => ?_) (fun _ => ?_)
    · refine g_aload ((q_169 _).trans rfl) rfl ?_
      refine g_getR ((q_169 _).trans rfl) (fun a4 => ?_)
      refine g_iload ((q_169 _).trans rfl) rfl ?_
      refine g_iald ((q_169 _).trans rfl) (fun v5 => ?_)
      refine g_iload ((q_169 _).trans rfl) rfl ?_
      refine g_callS (kk := 3) ((q_169 _).trans rfl) (gHn m_169) (by exact ⟨Nat.le_of_ble_eq_true rfl, Nat.le_of_ble_eq_true rfl, rfl⟩) rfl (fun w G6 => gm_I (fun v7 hw => ?_))
      subst hw
      refine g_iload ((q_169 _).trans rfl) rfl ?_
      refine g_isub ((q_169 _).trans rfl) ?_
      refine g_putf ((q_169 _).trans rfl) (fun G8 => ?_)
      exact g_vret ((q_169 _).trans rfl)
    · refine g_push ((q_169 _).trans rfl) ?_
      refine g_aload ((q_169 _).trans rfl) rfl ?_
      refine g_getR ((q_169 _).trans rfl) (fun a9 => ?_)
      refine g_iload ((q_169 _).trans rfl) rfl ?_
      refine g_iald ((q_169 _).trans rfl) (fun v10 => ?_)
      refine g_isub ((q_169 _).trans rfl) ?_
      refine g_goto ((q_169 _).trans rfl) ?_
      refine g_iload ((q_169 _).trans rfl) rfl ?_
      refine g_callS (kk := 3) ((q_169 _).trans rfl) (gHn m_169) (by exact ⟨Nat.le_of_ble_eq_true rfl, Nat.le_of_ble_eq_true rfl, rfl⟩) rfl (fun w G11 => gm_I (fun v12 hw => ?_))
      subst hw
      refine g_iload ((q_169 _).trans rfl) rfl ?_
      refine g_isub ((q_169 _).trans rfl) ?_
      refine g_putf ((q_169 _).trans rfl) (fun G13 => ?_)
      exact g_vret ((q_169 _).trans rfl)
  · refine g_aload ((q_169 _).trans rfl) rfl ?_
    refine g_getR ((q_169 _).trans rfl) (fun a14 => ?_)
    refine g_iload ((q_169 _).trans rfl) rfl ?_
    refine g_dup2 ((q_169 _).trans rfl) ?_
    refine g_iald ((q_169 _).trans rfl) (fun v15 => ?_)
    refine g_iload ((q_169 _).trans rfl) rfl ?_
    refine g_isub ((q_169 _).trans rfl) ?_
    refine g_iast ((q_169 _).trans rfl) (fun G16 => ?_)
    refine g_aload ((q_169 _).trans rfl) rfl ?_
    refine g_getR ((q_169 _).trans rfl) (fun a17 => ?_)
    refine g_iload ((q_169 _).trans rfl) rfl ?_
    refine g_dup2 ((q_169 _).trans rfl) ?_
    refine g_iald ((q_169 _).trans rfl) (fun v18 => ?_)
    refine g_iload ((q_169 _).trans rfl) rfl ?_
    refine g_isub ((q_169 _).trans rfl) ?_
    refine g_iast ((q_169 _).trans rfl) (fun G19 => ?_)
    refine g_iinc ((q_169 _).trans rfl) rfl ?_
    refine g_goto ((q_169 _).trans rfl) ?_
    exact gle.rf _
theorem q_170 {K : gK} (pc : Nat) : gP K 170 pc = ((gL_170 K).lookup pc).getD o_none := rfl
noncomputable def t_170_0_1 (K : gK) (d : Nat) (l0 : Nat) (l1 : Int32) (l2 : Int32) (v6 : Int32) (G5 : gH) : Option gO := if v6 = 0 then (some (.inl (some (.int (3 : Int32))), G5)) else (gRn K d 170 31 [some (.ref l0), some (.int l1), some (.int l2), some (.int (0 : Int32)), some (.int (0 : Int32)), none, none, none] [] G5)
noncomputable def t_170_0_2 (K : gK) (d : Nat) (l2 : Int32) (l0 : Nat) (l1 : Int32) (v4 : Int32) (G3 : gH) : Option gO := cI (gCa K d 89 [.int l2, .int (0 : Int32), .int (v4 - (1 : Int32))] G3) (t_170_0_1 K d l0 l1 l2)
noncomputable def t_170_0_3 (K : gK) (d : Nat) (l0 : Nat) (l2 : Int32) (l1 : Int32) (v2 : Int32) (G1 : gH) : Option gO := if v2 = 0 then (some (.inl (some (.int (3 : Int32))), G1)) else (if g_cls G1 l0 = some 3 then (cI (gCa K d 143 [.ref l0] G1) (t_170_0_2 K d l2 l0 l1)) else none)
noncomputable def t_170_0 (K : gK) (d : Nat) (l0 : Nat) (l1 : Int32) (l2 : Int32) (G : gH) : Option gO := cI (gCa K d 89 [.int l1, .int (0 : Int32), .int (59 : Int32)] G) (t_170_0_3 K d l0 l2 l1)
theorem e_170_0 {K : gK} {d : Nat} {l0 : Nat} {l1 : Int32} {l2 : Int32} {G : gH} : gle (t_170_0 K d l0 l1 l2 G) (gRn K d 170 0 [some (.ref l0), some (.int l1), some (.int l2), none, none, none, none, none] [] G) := by
  unfold t_170_0
  refine g_iload ((q_170 _).trans rfl) rfl ?_
  refine g_push ((q_170 _).trans rfl) ?_
  refine g_push ((q_170 _).trans rfl) ?_
  refine g_callS (kk := 3) ((q_170 _).trans rfl) (gHn m_170) (by exact ⟨Nat.le_of_ble_eq_true rfl, Nat.le_of_ble_eq_true rfl, rfl⟩) rfl (fun w G1 => gm_I (fun v2 hw => ?_))
  subst hw
  refine g_ifeq ((q_170 _).trans rfl) (fun _ => ?_) (fun _ => ?_)
  · refine g_push ((q_170 _).trans rfl) ?_
    exact g_iret ((q_170 _).trans rfl)
  · refine g_iload ((q_170 _).trans rfl) rfl ?_
    refine g_push ((q_170 _).trans rfl) ?_
    refine g_aload ((q_170 _).trans rfl) rfl ?_
    refine g_callV (kk := 0) ((q_170 _).trans rfl) (gHn m_170) rfl (by exact ⟨Nat.le_of_ble_eq_true rfl, rfl⟩) rfl (fun w G3 => gm_I (fun v4 hw => ?_))
    subst hw
    refine g_push ((q_170 _).trans rfl) ?_
    refine g_isub ((q_170 _).trans rfl) ?_
    refine g_callS (kk := 3) ((q_170 _).trans rfl) (gHn m_170) (by exact ⟨Nat.le_of_ble_eq_true rfl, Nat.le_of_ble_eq_true rfl, rfl⟩) rfl (fun w G5 => gm_I (fun v6 hw => ?_))
    subst hw
    refine g_ifne ((q_170 _).trans rfl) (fun _ => ?_) (fun _ => ?_)
    · refine g_push ((q_170 _).trans rfl) ?_
      exact g_iret ((q_170 _).trans rfl)
    · refine g_push ((q_170 _).trans rfl) ?_
      refine g_istore ((q_170 _).trans rfl) ?_
      refine g_push ((q_170 _).trans rfl) ?_
      refine g_istore ((q_170 _).trans rfl) ?_
      exact gle.rf _
theorem c_170 {K : gK} {d : Nat} {l0 : Nat} {l1 : Int32} {l2 : Int32} {G : gH} : gle (t_170_0 K d l0 l1 l2 G) (gCa K (d + 1) 170 [.ref l0, .int l1, .int l2] G) := by
  have h : gent (gMx 170) [.ref l0, .int l1, .int l2] = [some (.ref l0), some (.int l1), some (.int l2), none, none, none, none, none] := by
    show gent (gT 170).2.2.2.1 _ = _
    rw [m_170]; rfl
  exact fun r e => (congrArg (fun q => gRn K d 170 0 q [] G) h).trans (e_170_0 r e)
noncomputable def t_170_31_1 (K : gK) (d : Nat) (l3 : Int32) (l0 : Nat) (l1 : Int32) (l2 : Int32) (l4 : Int32) (v3 : Int32) (v5 : Int32) (G8 : gH) (v11 : Int32) : Option gO := if v11 = ((-1) : Int32) then (if (0 : Int32) ≤ l3 then (gRn K d 170 31 [some (.ref l0), some (.int l1), some (.int l2), some (.int l3), some (.int (l4 + 1)), some (.int (l1 + v3)), some (.int (l2 + v5)), some (.int (0 : Int32))] [] G8) else (gRn K d 170 31 [some (.ref l0), some (.int l1), some (.int l2), some (.int (0 : Int32)), some (.int (l4 + 1)), some (.int (l1 + v3)), some (.int (l2 + v5)), some (.int (0 : Int32))] [] G8)) else (if (1 : Int32) ≤ l3 then (gRn K d 170 31 [some (.ref l0), some (.int l1), some (.int l2), some (.int l3), some (.int (l4 + 1)), some (.int (l1 + v3)), some (.int (l2 + v5)), some (.int (1 : Int32))] [] G8) else (gRn K d 170 31 [some (.ref l0), some (.int l1), some (.int l2), some (.int (1 : Int32)), some (.int (l4 + 1)), some (.int (l1 + v3)), some (.int (l2 + v5)), some (.int (1 : Int32))] [] G8))
noncomputable def t_170_31_2 (K : gK) (d : Nat) (G8 : gH) (l1 : Int32) (v3 : Int32) (l2 : Int32) (v5 : Int32) (l3 : Int32) (l0 : Nat) (l4 : Int32) (a10 : Nat) : Option gO := xI G8 a10 0 (((12 : Int32) * (l1 + v3)) + (l2 + v5)) (t_170_31_1 K d l3 l0 l1 l2 l4 v3 v5 G8)
noncomputable def t_170_31_3 (K : gK) (d : Nat) (l0 : Nat) (l1 : Int32) (v3 : Int32) (l2 : Int32) (v5 : Int32) (l3 : Int32) (l4 : Int32) (v9 : Int32) (G8 : gH) : Option gO := if v9 = 0 then (rR G8 l0 3 25 (t_170_31_2 K d G8 l1 v3 l2 v5 l3 l0 l4)) else (if (2 : Int32) ≤ l3 then (gRn K d 170 31 [some (.ref l0), some (.int l1), some (.int l2), some (.int l3), some (.int (l4 + 1)), some (.int (l1 + v3)), some (.int (l2 + v5)), some (.int (2 : Int32))] [] G8) else (gRn K d 170 31 [some (.ref l0), some (.int l1), some (.int l2), some (.int (2 : Int32)), some (.int (l4 + 1)), some (.int (l1 + v3)), some (.int (l2 + v5)), some (.int (2 : Int32))] [] G8))
noncomputable def t_170_31_4 (K : gK) (d : Nat) (l2 : Int32) (v5 : Int32) (l0 : Nat) (l1 : Int32) (v3 : Int32) (l3 : Int32) (l4 : Int32) (v7 : Int32) (G6 : gH) : Option gO := if (l2 + v5) < v7 then (if g_cls G6 l0 = some 3 then (cI (gCa K d 211 [.ref l0, .int (l1 + v3), .int (l2 + v5)] G6) (t_170_31_3 K d l0 l1 v3 l2 v5 l3 l4)) else none) else (if (3 : Int32) ≤ l3 then (gRn K d 170 31 [some (.ref l0), some (.int l1), some (.int l2), some (.int l3), some (.int (l4 + 1)), some (.int (l1 + v3)), some (.int (l2 + v5)), some (.int (3 : Int32))] [] G6) else (gRn K d 170 31 [some (.ref l0), some (.int l1), some (.int l2), some (.int (3 : Int32)), some (.int (l4 + 1)), some (.int (l1 + v3)), some (.int (l2 + v5)), some (.int (3 : Int32))] [] G6))
noncomputable def t_170_31_5 (K : gK) (d : Nat) (l1 : Int32) (v3 : Int32) (l3 : Int32) (l0 : Nat) (l2 : Int32) (l4 : Int32) (G : gH) (v5 : Int32) : Option gO := if (60 : Int32) ≤ (l1 + v3) then (if (3 : Int32) ≤ l3 then (gRn K d 170 31 [some (.ref l0), some (.int l1), some (.int l2), some (.int l3), some (.int (l4 + 1)), some (.int (l1 + v3)), some (.int (l2 + v5)), some (.int (3 : Int32))] [] G) else (gRn K d 170 31 [some (.ref l0), some (.int l1), some (.int l2), some (.int (3 : Int32)), some (.int (l4 + 1)), some (.int (l1 + v3)), some (.int (l2 + v5)), some (.int (3 : Int32))] [] G)) else (if g_cls G l0 = some 3 then (cI (gCa K d 143 [.ref l0] G) (t_170_31_4 K d l2 v5 l0 l1 v3 l3 l4)) else none)
noncomputable def t_170_31_6 (K : gK) (d : Nat) (G : gH) (l4 : Int32) (l1 : Int32) (v3 : Int32) (l3 : Int32) (l0 : Nat) (l2 : Int32) (a4 : Nat) : Option gO := xI G a4 0 l4 (t_170_31_5 K d l1 v3 l3 l0 l2 l4 G)
noncomputable def t_170_31_7 (K : gK) (d : Nat) (G : gH) (l0 : Nat) (l4 : Int32) (l1 : Int32) (l3 : Int32) (l2 : Int32) (v3 : Int32) : Option gO := rR G l0 3 35 (t_170_31_6 K d G l4 l1 v3 l3 l0 l2)
noncomputable def t_170_31_8 (K : gK) (d : Nat) (G : gH) (l4 : Int32) (l0 : Nat) (l1 : Int32) (l3 : Int32) (l2 : Int32) (a2 : Nat) : Option gO := xI G a2 0 l4 (t_170_31_7 K d G l0 l4 l1 l3 l2)
noncomputable def t_170_31_9 (K : gK) (d : Nat) (l4 : Int32) (l3 : Int32) (G : gH) (l0 : Nat) (l1 : Int32) (l2 : Int32) (v1 : Int32) : Option gO := if v1 ≤ l4 then (some (.inl (some (.int l3)), G)) else (rR G l0 3 34 (t_170_31_8 K d G l4 l0 l1 l3 l2))
noncomputable def t_170_31 (K : gK) (d : Nat) (l0 : Nat) (l1 : Int32) (l2 : Int32) (l3 : Int32) (l4 : Int32) (o5 : Option Value) (o6 : Option Value) (o7 : Option Value) (G : gH) : Option gO := rI G l0 3 33 (t_170_31_9 K d l4 l3 G l0 l1 l2)
theorem e_170_31 {K : gK} {d : Nat} {l0 : Nat} {l1 : Int32} {l2 : Int32} {l3 : Int32} {l4 : Int32} {o5 : Option Value} {o6 : Option Value} {o7 : Option Value} {G : gH} : gle (t_170_31 K d l0 l1 l2 l3 l4 o5 o6 o7 G) (gRn K d 170 31 [some (.ref l0), some (.int l1), some (.int l2), some (.int l3), some (.int l4), o5, o6, o7] [] G) := by
  unfold t_170_31
  refine g_iload ((q_170 _).trans rfl) rfl ?_
  refine g_aload ((q_170 _).trans rfl) rfl ?_
  refine g_getI ((q_170 _).trans rfl) (fun v1 => ?_)
  refine g_cmpge ((q_170 _).trans rfl) (fun _ => ?_) (fun _ => ?_)
  · refine g_iload ((q_170 _).trans rfl) rfl ?_
    exact g_iret ((q_170 _).trans rfl)
  · refine g_iload ((q_170 _).trans rfl) rfl ?_
    refine g_aload ((q_170 _).trans rfl) rfl ?_
    refine g_getR ((q_170 _).trans rfl) (fun a2 => ?_)
    refine g_iload ((q_170 _).trans rfl) rfl ?_
    refine g_iald ((q_170 _).trans rfl) (fun v3 => ?_)
    refine g_iadd ((q_170 _).trans rfl) ?_
    refine g_istore ((q_170 _).trans rfl) ?_
    refine g_iload ((q_170 _).trans rfl) rfl ?_
    refine g_aload ((q_170 _).trans rfl) rfl ?_
    refine g_getR ((q_170 _).trans rfl) (fun a4 => ?_)
    refine g_iload ((q_170 _).trans rfl) rfl ?_
    refine g_iald ((q_170 _).trans rfl) (fun v5 => ?_)
    refine g_iadd ((q_170 _).trans rfl) ?_
    refine g_istore ((q_170 _).trans rfl) ?_
    refine g_iload ((q_170 _).trans rfl) rfl ?_
    refine g_push ((q_170 _).trans rfl) ?_
    refine g_cmpge ((q_170 _).trans rfl) (fun _ => ?_) (fun _ => ?_)
    · refine g_push ((q_170 _).trans rfl) ?_
      refine g_goto ((q_170 _).trans rfl) ?_
      refine g_istore ((q_170 _).trans rfl) ?_
      refine g_iload ((q_170 _).trans rfl) rfl ?_
      refine g_iload ((q_170 _).trans rfl) rfl ?_
      refine g_cmple ((q_170 _).trans rfl) (fun _ => ?_) (fun _ => ?_)
      · refine g_iload ((q_170 _).trans rfl) rfl ?_
        refine g_istore ((q_170 _).trans rfl) ?_
        refine g_iinc ((q_170 _).trans rfl) rfl ?_
        refine g_goto ((q_170 _).trans rfl) ?_
        exact gle.rf _
      · refine g_iload ((q_170 _).trans rfl) rfl ?_
        refine g_goto ((q_170 _).trans rfl) ?_
        refine g_istore ((q_170 _).trans rfl) ?_
        refine g_iinc ((q_170 _).trans rfl) rfl ?_
        refine g_goto ((q_170 _).trans rfl) ?_
        exact gle.rf _
    · refine g_iload ((q_170 _).trans rfl) rfl ?_
      refine g_aload ((q_170 _).trans rfl) rfl ?_
      refine g_callV (kk := 0) ((q_170 _).trans rfl) (gHn m_170) rfl (by exact ⟨Nat.le_of_ble_eq_true rfl, rfl⟩) rfl (fun w G6 => gm_I (fun v7 hw => ?_))
      subst hw
      refine g_cmplt ((q_170 _).trans rfl) (fun _ => ?_) (fun _ => ?_)
      · refine g_aload ((q_170 _).trans rfl) rfl ?_
        refine g_iload ((q_170 _).trans rfl) rfl ?_
        refine g_iload ((q_170 _).trans rfl) rfl ?_
        refine g_callV (kk := 2) ((q_170 _).trans rfl) (gHn m_170) rfl (by exact ⟨Nat.le_of_ble_eq_true rfl, rfl⟩) rfl (fun w G8 => gm_I (fun v9 hw => ?_))
        subst hw
        refine g_ifeq ((q_170 _).trans rfl) (fun _ => ?_) (fun _ => ?_)
        · refine g_aload ((q_170 _).trans rfl) rfl ?_
          refine g_getR ((q_170 _).trans rfl) (fun a10 => ?_)
          refine g_push ((q_170 _).trans rfl) ?_
          refine g_iload ((q_170 _).trans rfl) rfl ?_
          refine g_imul ((q_170 _).trans rfl) ?_
          refine g_iload ((q_170 _).trans rfl) rfl ?_
          refine g_iadd ((q_170 _).trans rfl) ?_
          refine g_iald ((q_170 _).trans rfl) (fun v11 => ?_)
          refine g_push ((q_170 _).trans rfl) ?_
          refine g_cmpeq ((q_170 _).trans rfl) (fun _ => ?_) (fun _ => ?_)
          · refine g_push ((q_170 _).trans rfl) ?_
            refine g_istore ((q_170 _).trans rfl) ?_
            refine g_iload ((q_170 _).trans rfl) rfl ?_
            refine g_iload ((q_170 _).trans rfl) rfl ?_
            refine g_cmple ((q_170 _).trans rfl) (fun _ => ?_) (fun _ => ?_)
            · refine g_iload ((q_170 _).trans rfl) rfl ?_
              refine g_istore ((q_170 _).trans rfl) ?_
              refine g_iinc ((q_170 _).trans rfl) rfl ?_
              refine g_goto ((q_170 _).trans rfl) ?_
              exact gle.rf _
            · refine g_iload ((q_170 _).trans rfl) rfl ?_
              refine g_goto ((q_170 _).trans rfl) ?_
              refine g_istore ((q_170 _).trans rfl) ?_
              refine g_iinc ((q_170 _).trans rfl) rfl ?_
              refine g_goto ((q_170 _).trans rfl) ?_
              exact gle.rf _
          · refine g_push ((q_170 _).trans rfl) ?_
            refine g_goto ((q_170 _).trans rfl) ?_
            refine g_istore ((q_170 _).trans rfl) ?_
            refine g_iload ((q_170 _).trans rfl) rfl ?_
            refine g_iload ((q_170 _).trans rfl) rfl ?_
            refine g_cmple ((q_170 _).trans rfl) (fun _ => ?_) (fun _ => ?_)
            · refine g_iload ((q_170 _).trans rfl) rfl ?_
              refine g_istore ((q_170 _).trans rfl) ?_
              refine g_iinc ((q_170 _).trans rfl) rfl ?_
              refine g_goto ((q_170 _).trans rfl) ?_
              exact gle.rf _
            · refine g_iload ((q_170 _).trans rfl) rfl ?_
              refine g_goto ((q_170 _).trans rfl) ?_
              refine g_istore ((q_170 _).trans rfl) ?_
              refine g_iinc ((q_170 _).trans rfl) rfl ?_
              refine g_goto ((q_170 _).trans rfl) ?_
              exact gle.rf _
        · refine g_push ((q_170 _).trans rfl) ?_
          refine g_goto ((q_170 _).trans rfl) ?_
          refine g_istore ((q_170 _).trans rfl) ?_
          refine g_iload ((q_170 _).trans rfl) rfl ?_
          refine g_iload ((q_170 _).trans rfl) rfl ?_
          refine g_cmple ((q_170 _).trans rfl) (fun _ => ?_) (fun _ => ?_)
          · refine g_iload ((q_170 _).trans rfl) rfl ?_
            refine g_istore ((q_170 _).trans rfl) ?_
            refine g_iinc ((q_170 _).trans rfl) rfl ?_
            refine g_goto ((q_170 _).trans rfl) ?_
            exact gle.rf _
          · refine g_iload ((q_170 _).trans rfl) rfl ?_
            refine g_goto ((q_170 _).trans rfl) ?_
            refine g_istore ((q_170 _).trans rfl) ?_
            refine g_iinc ((q_170 _).trans rfl) rfl ?_
            refine g_goto ((q_170 _).trans rfl) ?_
            exact gle.rf _
      · refine g_push ((q_170 _).trans rfl) ?_
        refine g_goto ((q_170 _).trans rfl) ?_
        refine g_istore ((q_170 _).trans rfl) ?_
        refine g_iload ((q_170 _).trans rfl) rfl ?_
        refine g_iload ((q_170 _).trans rfl) rfl ?_
        refine g_cmple ((q_170 _).trans rfl) (fun _ => ?_) (fun _ => ?_)
        · refine g_iload ((q_170 _).trans rfl) rfl ?_
          refine g_istore ((q_170 _).trans rfl) ?_
          refine g_iinc ((q_170 _).trans rfl) rfl ?_
          refine g_goto ((q_170 _).trans rfl) ?_
          exact gle.rf _
        · refine g_iload ((q_170 _).trans rfl) rfl ?_
          refine g_goto ((q_170 _).trans rfl) ?_
          refine g_istore ((q_170 _).trans rfl) ?_
          refine g_iinc ((q_170 _).trans rfl) rfl ?_
          refine g_goto ((q_170 _).trans rfl) ?_
          exact gle.rf _
theorem q_171 {K : gK} (pc : Nat) : gP K 171 pc = ((gL_171 K).lookup pc).getD o_none := rfl
noncomputable def t_171_0_1 (K : gK) (d : Nat) (G : gH) (v3 : Int32) : Option gO := if v3 ≤ (1 : Int32) then (if narrow .boolean (.int (0 : Int32)) = .int (0 : Int32) then some (.inl (some (.int (0 : Int32))), G) else none) else (if narrow .boolean (.int (1 : Int32)) = .int (1 : Int32) then some (.inl (some (.int (1 : Int32))), G) else none)
noncomputable def t_171_0_2 (K : gK) (d : Nat) (G : gH) (l0 : Nat) (v2 : Int32) : Option gO := if v2 = ((-1) : Int32) then (if narrow .boolean (.int (0 : Int32)) = .int (0 : Int32) then some (.inl (some (.int (0 : Int32))), G) else none) else (rI G l0 3 4 (t_171_0_1 K d G))
noncomputable def t_171_0_3 (K : gK) (d : Nat) (G : gH) (l1 : Int32) (l0 : Nat) (a1 : Nat) : Option gO := xI G a1 0 l1 (t_171_0_2 K d G l0)
noncomputable def t_171_0 (K : gK) (d : Nat) (l0 : Nat) (l1 : Int32) (G : gH) : Option gO := rR G l0 3 12 (t_171_0_3 K d G l1 l0)
theorem e_171_0 {K : gK} {d : Nat} {l0 : Nat} {l1 : Int32} {G : gH} : gle (t_171_0 K d l0 l1 G) (gRn K d 171 0 [some (.ref l0), some (.int l1)] [] G) := by
  unfold t_171_0
  refine g_aload ((q_171 _).trans rfl) rfl ?_
  refine g_getR ((q_171 _).trans rfl) (fun a1 => ?_)
  refine g_iload ((q_171 _).trans rfl) rfl ?_
  refine g_iald ((q_171 _).trans rfl) (fun v2 => ?_)
  refine g_push ((q_171 _).trans rfl) ?_
  refine g_cmpeq ((q_171 _).trans rfl) (fun _ => ?_) (fun _ => ?_)
  · refine g_push ((q_171 _).trans rfl) ?_
    exact g_zret ((q_171 _).trans rfl)
  · refine g_aload ((q_171 _).trans rfl) rfl ?_
    refine g_getI ((q_171 _).trans rfl) (fun v3 => ?_)
    refine g_push ((q_171 _).trans rfl) ?_
    refine g_cmple ((q_171 _).trans rfl) (fun _ => ?_) (fun _ => ?_)
    · refine g_push ((q_171 _).trans rfl) ?_
      exact g_zret ((q_171 _).trans rfl)
    · refine g_push ((q_171 _).trans rfl) ?_
      refine g_goto ((q_171 _).trans rfl) ?_
      exact g_zret ((q_171 _).trans rfl)
theorem c_171 {K : gK} {d : Nat} {l0 : Nat} {l1 : Int32} {G : gH} : gle (t_171_0 K d l0 l1 G) (gCa K (d + 1) 171 [.ref l0, .int l1] G) := by
  have h : gent (gMx 171) [.ref l0, .int l1] = [some (.ref l0), some (.int l1)] := by
    show gent (gT 171).2.2.2.1 _ = _
    rw [m_171]; rfl
  exact fun r e => (congrArg (fun q => gRn K d 171 0 q [] G) h).trans (e_171_0 r e)
theorem q_172 {K : gK} (pc : Nat) : gP K 172 pc = ((gL_172 K).lookup pc).getD o_none := rfl
noncomputable def t_172_0_1 (K : gK) (d : Nat) (l1 : Int32) (v1 : Int32) (v2 : Int32) (G : gH) (v3 : Int32) : Option gO := some (.inl (some (.int (((l1 + v1) - (l1 + v1) / v2 * v2) + v3))), G)
noncomputable def t_172_0_2 (K : gK) (d : Nat) (l1 : Int32) (v1 : Int32) (G : gH) (l0 : Nat) (v2 : Int32) : Option gO := if v2 = 0 then none else (if 0 ≤ ((l1 + v1) - (l1 + v1) / v2 * v2) then (some (.inl (some (.int ((l1 + v1) - (l1 + v1) / v2 * v2))), G)) else (rI G l0 3 4 (t_172_0_1 K d l1 v1 v2 G)))
noncomputable def t_172_0_3 (K : gK) (d : Nat) (G : gH) (l0 : Nat) (l1 : Int32) (v1 : Int32) : Option gO := rI G l0 3 4 (t_172_0_2 K d l1 v1 G l0)
noncomputable def t_172_0 (K : gK) (d : Nat) (l0 : Nat) (l1 : Int32) (G : gH) : Option gO := rI G l0 3 36 (t_172_0_3 K d G l0 l1)
theorem e_172_0 {K : gK} {d : Nat} {l0 : Nat} {l1 : Int32} {G : gH} : gle (t_172_0 K d l0 l1 G) (gRn K d 172 0 [some (.ref l0), some (.int l1), none] [] G) := by
  unfold t_172_0
  refine g_iload ((q_172 _).trans rfl) rfl ?_
  refine g_aload ((q_172 _).trans rfl) rfl ?_
  refine g_getI ((q_172 _).trans rfl) (fun v1 => ?_)
  refine g_iadd ((q_172 _).trans rfl) ?_
  refine g_aload ((q_172 _).trans rfl) rfl ?_
  refine g_getI ((q_172 _).trans rfl) (fun v2 => ?_)
  refine g_irem ((q_172 _).trans rfl) (fun _ => ?_)
  refine g_istore ((q_172 _).trans rfl) ?_
  refine g_iload ((q_172 _).trans rfl) rfl ?_
  refine g_ifge ((q_172 _).trans rfl) (fun _ => ?_) (fun _ => ?_)
  · refine g_iload ((q_172 _).trans rfl) rfl ?_
    exact g_iret ((q_172 _).trans rfl)
  · refine g_iload ((q_172 _).trans rfl) rfl ?_
    refine g_aload ((q_172 _).trans rfl) rfl ?_
    refine g_getI ((q_172 _).trans rfl) (fun v3 => ?_)
    refine g_iadd ((q_172 _).trans rfl) ?_
    refine g_goto ((q_172 _).trans rfl) ?_
    exact g_iret ((q_172 _).trans rfl)
theorem c_172 {K : gK} {d : Nat} {l0 : Nat} {l1 : Int32} {G : gH} : gle (t_172_0 K d l0 l1 G) (gCa K (d + 1) 172 [.ref l0, .int l1] G) := by
  have h : gent (gMx 172) [.ref l0, .int l1] = [some (.ref l0), some (.int l1), none] := by
    show gent (gT 172).2.2.2.1 _ = _
    rw [m_172]; rfl
  exact fun r e => (congrArg (fun q => gRn K d 172 0 q [] G) h).trans (e_172_0 r e)
theorem q_173 {K : gK} (pc : Nat) : gP K 173 pc = ((gL_173 K).lookup pc).getD o_none := rfl
noncomputable def t_173_0 (K : gK) (d : Nat) (l0 : Nat) (l1 : Nat) (G : gH) : Option gO := gRn K d 173 2 [some (.ref l0), some (.ref l1), some (.int (0 : Int32)), none, none] [] G
theorem e_173_0 {K : gK} {d : Nat} {l0 : Nat} {l1 : Nat} {G : gH} : gle (t_173_0 K d l0 l1 G) (gRn K d 173 0 [some (.ref l0), some (.ref l1), none, none, none] [] G) := by
  unfold t_173_0
  refine g_push ((q_173 _).trans rfl) ?_
  refine g_istore ((q_173 _).trans rfl) ?_
  exact gle.rf _
theorem c_173 {K : gK} {d : Nat} {l0 : Nat} {l1 : Nat} {G : gH} : gle (t_173_0 K d l0 l1 G) (gCa K (d + 1) 173 [.ref l0, .ref l1] G) := by
  have h : gent (gMx 173) [.ref l0, .ref l1] = [some (.ref l0), some (.ref l1), none, none, none] := by
    show gent (gT 173).2.2.2.1 _ = _
    rw [m_173]; rfl
  exact fun r e => (congrArg (fun q => gRn K d 173 0 q [] G) h).trans (e_173_0 r e)
noncomputable def t_173_2 (K : gK) (d : Nat) (l0 : Nat) (l1 : Nat) (l2 : Int32) (o3 : Option Value) (o4 : Option Value) (G : gH) : Option gO := if (60 : Int32) ≤ l2 then (if narrow .boolean (.int (0 : Int32)) = .int (0 : Int32) then some (.inl (some (.int (0 : Int32))), G) else none) else (gRn K d 173 10 [some (.ref l0), some (.ref l1), some (.int l2), some (.int (0 : Int32)), o4] [] G)
theorem e_173_2 {K : gK} {d : Nat} {l0 : Nat} {l1 : Nat} {l2 : Int32} {o3 : Option Value} {o4 : Option Value} {G : gH} : gle (t_173_2 K d l0 l1 l2 o3 o4 G) (gRn K d 173 2 [some (.ref l0), some (.ref l1), some (.int l2), o3, o4] [] G) := by
  unfold t_173_2
  refine g_iload ((q_173 _).trans rfl) rfl ?_
  refine g_push ((q_173 _).trans rfl) ?_
  refine g_cmpge ((q_173 _).trans rfl) (fun _ => ?_) (fun _ => ?_)
  · refine g_push ((q_173 _).trans rfl) ?_
    exact g_zret ((q_173 _).trans rfl)
  · refine g_push ((q_173 _).trans rfl) ?_
    refine g_istore ((q_173 _).trans rfl) ?_
    exact gle.rf _
noncomputable def t_173_10_1 (K : gK) (d : Nat) (l3 : Int32) (l0 : Nat) (l1 : Nat) (l2 : Int32) (o4 : Option Value) (v2 : Int32) (G1 : gH) : Option gO := if v2 ≤ l3 then (gRn K d 173 2 [some (.ref l0), some (.ref l1), some (.int (l2 + 1)), some (.int l3), o4] [] G1) else (gRn K d 173 21 [some (.ref l0), some (.ref l1), some (.int l2), some (.int l3), some (.int (0 : Int32))] [] G1)
noncomputable def t_173_10 (K : gK) (d : Nat) (l0 : Nat) (l1 : Nat) (l2 : Int32) (l3 : Int32) (o4 : Option Value) (G : gH) : Option gO := if g_cls G l0 = some 0 then (cI (gCa K d 194 [.ref l0] G) (t_173_10_1 K d l3 l0 l1 l2 o4)) else none
theorem e_173_10 {K : gK} {d : Nat} {l0 : Nat} {l1 : Nat} {l2 : Int32} {l3 : Int32} {o4 : Option Value} {G : gH} : gle (t_173_10 K d l0 l1 l2 l3 o4 G) (gRn K d 173 10 [some (.ref l0), some (.ref l1), some (.int l2), some (.int l3), o4] [] G) := by
  unfold t_173_10
  refine g_iload ((q_173 _).trans rfl) rfl ?_
  refine g_aload ((q_173 _).trans rfl) rfl ?_
  refine g_callV (kk := 0) ((q_173 _).trans rfl) (gHn m_173) rfl (by exact ⟨Nat.le_of_ble_eq_true rfl, rfl⟩) rfl (fun w G1 => gm_I (fun v2 hw => ?_))
  subst hw
  refine g_cmpge ((q_173 _).trans rfl) (fun _ => ?_) (fun _ => ?_)
  · refine g_iinc ((q_173 _).trans rfl) rfl ?_
    refine g_goto ((q_173 _).trans rfl) ?_
    exact gle.rf _
  · refine g_push ((q_173 _).trans rfl) ?_
    refine g_istore ((q_173 _).trans rfl) ?_
    exact gle.rf _
noncomputable def t_173_21_1 (K : gK) (d : Nat) (l0 : Nat) (l1 : Nat) (l2 : Int32) (l3 : Int32) (l4 : Int32) (v5 : Int32) (G4 : gH) : Option gO := if v5 = (45 : Int32) then (if narrow .boolean (.int (1 : Int32)) = .int (1 : Int32) then some (.inl (some (.int (1 : Int32))), G4) else none) else (gRn K d 173 21 [some (.ref l0), some (.ref l1), some (.int l2), some (.int l3), some (.int (l4 + 1))] [] G4)
noncomputable def t_173_21_2 (K : gK) (d : Nat) (l0 : Nat) (l1 : Nat) (l2 : Int32) (l3 : Int32) (l4 : Int32) (G2 : gH) : Option gO := if g_cls G2 l0 = some 0 then (cI (gCa K d 166 [.ref l0, .ref l1] G2) (t_173_21_1 K d l0 l1 l2 l3 l4)) else none
noncomputable def t_173_21_3 (K : gK) (d : Nat) (G : gH) (l4 : Int32) (l2 : Int32) (l3 : Int32) (l0 : Nat) (l1 : Nat) (a1 : Nat) : Option gO := if g_cls G a1 = some 1 then (cV (gCa K d 165 [.ref a1, .int l4, .int l2, .int l3] G) (t_173_21_2 K d l0 l1 l2 l3 l4)) else none
noncomputable def t_173_21 (K : gK) (d : Nat) (l0 : Nat) (l1 : Nat) (l2 : Int32) (l3 : Int32) (l4 : Int32) (G : gH) : Option gO := if (4 : Int32) ≤ l4 then (gRn K d 173 10 [some (.ref l0), some (.ref l1), some (.int l2), some (.int (l3 + 1)), some (.int l4)] [] G) else (rR G l0 0 5 (t_173_21_3 K d G l4 l2 l3 l0 l1))
theorem e_173_21 {K : gK} {d : Nat} {l0 : Nat} {l1 : Nat} {l2 : Int32} {l3 : Int32} {l4 : Int32} {G : gH} : gle (t_173_21 K d l0 l1 l2 l3 l4 G) (gRn K d 173 21 [some (.ref l0), some (.ref l1), some (.int l2), some (.int l3), some (.int l4)] [] G) := by
  unfold t_173_21
  refine g_iload ((q_173 _).trans rfl) rfl ?_
  refine g_push ((q_173 _).trans rfl) ?_
  refine g_cmpge ((q_173 _).trans rfl) (fun _ => ?_) (fun _ => ?_)
  · refine g_iinc ((q_173 _).trans rfl) rfl ?_
    refine g_goto ((q_173 _).trans rfl) ?_
    exact gle.rf _
  · refine g_aload ((q_173 _).trans rfl) rfl ?_
    refine g_getR ((q_173 _).trans rfl) (fun a1 => ?_)
    refine g_iload ((q_173 _).trans rfl) rfl ?_
    refine g_iload ((q_173 _).trans rfl) rfl ?_
    refine g_iload ((q_173 _).trans rfl) rfl ?_
    refine g_callV (kk := 3) ((q_173 _).trans rfl) (gHn m_173) rfl (by exact ⟨Nat.le_of_ble_eq_true rfl, rfl⟩) rfl (fun w G2 => gm_V (fun hw => ?_))
    subst hw
    refine g_aload ((q_173 _).trans rfl) rfl ?_
    refine g_aload ((q_173 _).trans rfl) rfl ?_
    refine g_callV (kk := 1) ((q_173 _).trans rfl) (gHn m_173) rfl (by exact ⟨Nat.le_of_ble_eq_true rfl, rfl⟩) rfl (fun w G4 => gm_I (fun v5 hw => ?_))
    subst hw
    refine g_push ((q_173 _).trans rfl) ?_
    refine g_cmpne ((q_173 _).trans rfl) (fun _ => ?_) (fun _ => ?_)
    · refine g_push ((q_173 _).trans rfl) ?_
      exact g_zret ((q_173 _).trans rfl)
    · refine g_iinc ((q_173 _).trans rfl) rfl ?_
      refine g_goto ((q_173 _).trans rfl) ?_
      exact gle.rf _
theorem q_174 {K : gK} (pc : Nat) : gP K 174 pc = ((gL_174 K).lookup pc).getD o_none := rfl
noncomputable def t_174_0 (K : gK) (d : Nat) (l0 : Nat) (l1 : Int32) (G : gH) : Option gO := gRn K d 174 2 [some (.ref l0), some (.int l1), some (.int (0 : Int32)), none] [] G
theorem e_174_0 {K : gK} {d : Nat} {l0 : Nat} {l1 : Int32} {G : gH} : gle (t_174_0 K d l0 l1 G) (gRn K d 174 0 [some (.ref l0), some (.int l1), none, none] [] G) := by
  unfold t_174_0
  refine g_push ((q_174 _).trans rfl) ?_
  refine g_istore ((q_174 _).trans rfl) ?_
  exact gle.rf _
theorem c_174 {K : gK} {d : Nat} {l0 : Nat} {l1 : Int32} {G : gH} : gle (t_174_0 K d l0 l1 G) (gCa K (d + 1) 174 [.ref l0, .int l1] G) := by
  have h : gent (gMx 174) [.ref l0, .int l1] = [some (.ref l0), some (.int l1), none, none] := by
    show gent (gT 174).2.2.2.1 _ = _
    rw [m_174]; rfl
  exact fun r e => (congrArg (fun q => gRn K d 174 0 q [] G) h).trans (e_174_0 r e)
noncomputable def t_174_2_1 (K : gK) (d : Nat) (l1 : Int32) (a6 : Nat) (G5 : gH) (l0 : Nat) (l2 : Int32) (v7 : Int32) : Option gO := if v7 = l1 then (some (.inl (some (.ref a6)), G5)) else (gRn K d 174 2 [some (.ref l0), some (.int l1), some (.int (l2 + 1)), some (.ref a6)] [] G5)
noncomputable def t_174_2_2 (K : gK) (d : Nat) (l1 : Int32) (l0 : Nat) (l2 : Int32) (a6 : Nat) (G5 : gH) : Option gO := if g_cls G5 a6 = some 7 then (rI G5 a6 7 0 (t_174_2_1 K d l1 a6 G5 l0 l2)) else none
noncomputable def t_174_2_3 (K : gK) (d : Nat) (G2 : gH) (l2 : Int32) (l1 : Int32) (l0 : Nat) (a4 : Nat) : Option gO := if g_cls G2 a4 = some 12 then (cR (gCa K d 178 [.ref a4, .int l2] G2) (t_174_2_2 K d l1 l0 l2)) else none
noncomputable def t_174_2_4 (K : gK) (d : Nat) (l2 : Int32) (l0 : Nat) (l1 : Int32) (v3 : Int32) (G2 : gH) : Option gO := if v3 ≤ l2 then (some (.inr 4, gjunk G2 6)) else (rR G2 l0 0 2 (t_174_2_3 K d G2 l2 l1 l0))
noncomputable def t_174_2_5 (K : gK) (d : Nat) (G : gH) (l2 : Int32) (l0 : Nat) (l1 : Int32) (a1 : Nat) : Option gO := if g_cls G a1 = some 12 then (cI (gCa K d 110 [.ref a1] G) (t_174_2_4 K d l2 l0 l1)) else none
noncomputable def t_174_2 (K : gK) (d : Nat) (l0 : Nat) (l1 : Int32) (l2 : Int32) (o3 : Option Value) (G : gH) : Option gO := rR G l0 0 2 (t_174_2_5 K d G l2 l0 l1)
theorem e_174_2 {K : gK} {d : Nat} {l0 : Nat} {l1 : Int32} {l2 : Int32} {o3 : Option Value} {G : gH} : gle (t_174_2 K d l0 l1 l2 o3 G) (gRn K d 174 2 [some (.ref l0), some (.int l1), some (.int l2), o3] [] G) := by
  unfold t_174_2
  refine g_iload ((q_174 _).trans rfl) rfl ?_
  refine g_aload ((q_174 _).trans rfl) rfl ?_
  refine g_getR ((q_174 _).trans rfl) (fun a1 => ?_)
  refine g_callV (kk := 0) ((q_174 _).trans rfl) (gHn m_174) rfl (by exact ⟨Nat.le_of_ble_eq_true rfl, rfl⟩) rfl (fun w G2 => gm_I (fun v3 hw => ?_))
  subst hw
  refine g_cmpge ((q_174 _).trans rfl) (fun _ => ?_) (fun _ => ?_)
  · exact gle.tr (gle.eq (if_pos (Nat.le_of_ble_eq_true rfl)).symm) (g_throw ((q_174 _).trans rfl))
  · refine g_aload ((q_174 _).trans rfl) rfl ?_
    refine g_getR ((q_174 _).trans rfl) (fun a4 => ?_)
    refine g_iload ((q_174 _).trans rfl) rfl ?_
    refine g_callV (kk := 1) ((q_174 _).trans rfl) (gHn m_174) rfl (by exact ⟨Nat.le_of_ble_eq_true rfl, rfl⟩) rfl (fun w G5 => gm_R (fun a6 hw => ?_))
    subst hw
    refine g_ccast ((q_174 _).trans rfl) ?_
    refine g_astore ((q_174 _).trans rfl) ?_
    refine g_aload ((q_174 _).trans rfl) rfl ?_
    refine g_getI ((q_174 _).trans rfl) (fun v7 => ?_)
    refine g_iload ((q_174 _).trans rfl) rfl ?_
    refine g_cmpne ((q_174 _).trans rfl) (fun _ => ?_) (fun _ => ?_)
    · refine g_aload ((q_174 _).trans rfl) rfl ?_
      exact g_aret ((q_174 _).trans rfl)
    · refine g_iinc ((q_174 _).trans rfl) rfl ?_
      refine g_goto ((q_174 _).trans rfl) ?_
      exact gle.rf _
theorem q_175 {K : gK} (pc : Nat) : gP K 175 pc = ((gL_175 K).lookup pc).getD o_none := rfl
noncomputable def t_175_0_1 (K : gK) (d : Nat) (l0 : Nat) (l1 : Nat) (a1 : Nat) (G : gH) (v2 : Int32) : Option gO := gRn K d 175 39 [some (.ref l0), some (.ref l1), some (.ref a1), some (.int v2), some (.int (0 : Int32))] [] G
noncomputable def t_175_0_2 (K : gK) (d : Nat) (G : gH) (l0 : Nat) (l1 : Nat) (a1 : Nat) : Option gO := rI G l0 12 2 (t_175_0_1 K d l0 l1 a1 G)
noncomputable def t_175_0 (K : gK) (d : Nat) (l0 : Nat) (l1 : Nat) (G : gH) : Option gO := rR G l0 12 1 (t_175_0_2 K d G l0 l1)
theorem e_175_0 {K : gK} {d : Nat} {l0 : Nat} {l1 : Nat} {G : gH} : gle (t_175_0 K d l0 l1 G) (gRn K d 175 0 [some (.ref l0), some (.ref l1), none, none, none] [] G) := by
  unfold t_175_0
  refine g_aload ((q_175 _).trans rfl) rfl ?_
  refine g_getR ((q_175 _).trans rfl) (fun a1 => ?_)
  refine g_astore ((q_175 _).trans rfl) ?_
  refine g_aload ((q_175 _).trans rfl) rfl ?_
  refine g_getI ((q_175 _).trans rfl) (fun v2 => ?_)
  refine g_istore ((q_175 _).trans rfl) ?_
  refine g_push ((q_175 _).trans rfl) ?_
  refine g_istore ((q_175 _).trans rfl) ?_
  refine g_aload ((q_175 _).trans rfl) rfl ?_
  refine g_ifnonnull ((q_175 _).trans rfl) ?_
  exact gle.rf _
theorem c_175 {K : gK} {d : Nat} {l0 : Nat} {l1 : Nat} {G : gH} : gle (t_175_0 K d l0 l1 G) (gCa K (d + 1) 175 [.ref l0, .ref l1] G) := by
  have h : gent (gMx 175) [.ref l0, .ref l1] = [some (.ref l0), some (.ref l1), none, none, none] := by
    show gent (gT 175).2.2.2.1 _ = _
    rw [m_175]; rfl
  exact fun r e => (congrArg (fun q => gRn K d 175 0 q [] G) h).trans (e_175_0 r e)
noncomputable def t_175_39_1 (K : gK) (d : Nat) (G4 : gH) : Option gO := if narrow .boolean (.int (1 : Int32)) = .int (1 : Int32) then some (.inl (some (.int (1 : Int32))), G4) else none
noncomputable def t_175_39_2 (K : gK) (d : Nat) (l0 : Nat) (l1 : Nat) (l2 : Nat) (l3 : Int32) (l4 : Int32) (v3 : Int32) (G2 : gH) : Option gO := if v3 = 0 then (gRn K d 175 39 [some (.ref l0), some (.ref l1), some (.ref l2), some (.int l3), some (.int (l4 + 1))] [] G2) else (if g_cls G2 l0 = some 12 then (cV (gCa K d 213 [.ref l0, .ref l2, .int l4] G2) (t_175_39_1 K d)) else none)
noncomputable def t_175_39_3 (K : gK) (d : Nat) (G : gH) (l1 : Nat) (l0 : Nat) (l2 : Nat) (l3 : Int32) (l4 : Int32) (a1 : Nat) : Option gO := if g_cls G l1 = some 7 then (cI (gCa K d 212 [.ref l1, .ref a1] G) (t_175_39_2 K d l0 l1 l2 l3 l4)) else none
noncomputable def t_175_39 (K : gK) (d : Nat) (l0 : Nat) (l1 : Nat) (l2 : Nat) (l3 : Int32) (l4 : Int32) (G : gH) : Option gO := if l3 ≤ l4 then (if narrow .boolean (.int (0 : Int32)) = .int (0 : Int32) then some (.inl (some (.int (0 : Int32))), G) else none) else (xQ G l2 5 l4 (t_175_39_3 K d G l1 l0 l2 l3 l4))
theorem e_175_39 {K : gK} {d : Nat} {l0 : Nat} {l1 : Nat} {l2 : Nat} {l3 : Int32} {l4 : Int32} {G : gH} : gle (t_175_39 K d l0 l1 l2 l3 l4 G) (gRn K d 175 39 [some (.ref l0), some (.ref l1), some (.ref l2), some (.int l3), some (.int l4)] [] G) := by
  unfold t_175_39
  refine g_iload ((q_175 _).trans rfl) rfl ?_
  refine g_iload ((q_175 _).trans rfl) rfl ?_
  refine g_cmpge ((q_175 _).trans rfl) (fun _ => ?_) (fun _ => ?_)
  · refine g_push ((q_175 _).trans rfl) ?_
    exact g_zret ((q_175 _).trans rfl)
  · refine g_aload ((q_175 _).trans rfl) rfl ?_
    refine g_aload ((q_175 _).trans rfl) rfl ?_
    refine g_iload ((q_175 _).trans rfl) rfl ?_
    refine g_aald ((q_175 _).trans rfl) (fun a1 => ?_)
    refine g_callV (kk := 1) ((q_175 _).trans rfl) (gHn m_175) rfl (by exact ⟨Nat.le_of_ble_eq_true rfl, rfl⟩) rfl (fun w G2 => gm_I (fun v3 hw => ?_))
    subst hw
    refine g_ifeq ((q_175 _).trans rfl) (fun _ => ?_) (fun _ => ?_)
    · refine g_iinc ((q_175 _).trans rfl) rfl ?_
      refine g_goto ((q_175 _).trans rfl) ?_
      exact gle.rf _
    · refine g_goto ((q_175 _).trans rfl) ?_
      refine g_aload ((q_175 _).trans rfl) rfl ?_
      refine g_aload ((q_175 _).trans rfl) rfl ?_
      refine g_iload ((q_175 _).trans rfl) rfl ?_
      refine g_callV (kk := 2) ((q_175 _).trans rfl) (gHn m_175) rfl (by exact ⟨Nat.le_of_ble_eq_true rfl, rfl⟩) rfl (fun w G4 => gm_V (fun hw => ?_))
      subst hw
      refine g_push ((q_175 _).trans rfl) ?_
      exact g_zret ((q_175 _).trans rfl)
theorem q_176 {K : gK} (pc : Nat) : gP K 176 pc = ((gL_176 K).lookup pc).getD o_none := rfl
noncomputable def t_176_0_1 (K : gK) (d : Nat) (l0 : Nat) (G2 : gH) : Option gO := gRn K d 176 9 [some (.ref l0), some (.int (0 : Int32)), none] [] G2
noncomputable def t_176_0_2 (K : gK) (d : Nat) (G : gH) (l0 : Nat) (a1 : Nat) : Option gO := if g_cls G a1 = some 2 then (cV (gCa K d 112 [.ref a1] G) (t_176_0_1 K d l0)) else none
noncomputable def t_176_0 (K : gK) (d : Nat) (l0 : Nat) (G : gH) : Option gO := rR G l0 0 6 (t_176_0_2 K d G l0)
theorem e_176_0 {K : gK} {d : Nat} {l0 : Nat} {G : gH} : gle (t_176_0 K d l0 G) (gRn K d 176 0 [some (.ref l0), none, none] [] G) := by
  unfold t_176_0
  refine g_aload ((q_176 _).trans rfl) rfl ?_
  refine g_getR ((q_176 _).trans rfl) (fun a1 => ?_)
  refine g_callV (kk := 0) ((q_176 _).trans rfl) (gHn m_176) rfl (by exact ⟨Nat.le_of_ble_eq_true rfl, rfl⟩) rfl (fun w G2 => gm_V (fun hw => ?_))
  subst hw
  refine g_push ((q_176 _).trans rfl) ?_
  refine g_istore ((q_176 _).trans rfl) ?_
  exact gle.rf _
theorem c_176 {K : gK} {d : Nat} {l0 : Nat} {G : gH} : gle (t_176_0 K d l0 G) (gCa K (d + 1) 176 [.ref l0] G) := by
  have h : gent (gMx 176) [.ref l0] = [some (.ref l0), none, none] := by
    show gent (gT 176).2.2.2.1 _ = _
    rw [m_176]; rfl
  exact fun r e => (congrArg (fun q => gRn K d 176 0 q [] G) h).trans (e_176_0 r e)
noncomputable def t_176_9_1 (K : gK) (d : Nat) (l0 : Nat) (l1 : Int32) (a6 : Nat) (G12 : gH) : Option gO := gRn K d 176 9 [some (.ref l0), some (.int (l1 + 1)), some (.ref a6)] [] G12
noncomputable def t_176_9_2 (K : gK) (d : Nat) (G8 : gH) (a10 : Nat) (l0 : Nat) (l1 : Int32) (a6 : Nat) (v11 : Int32) : Option gO := if g_cls G8 a10 = some 2 then (cV (gCa K d 208 [.ref a10, .int v11] G8) (t_176_9_1 K d l0 l1 a6)) else none
noncomputable def t_176_9_3 (K : gK) (d : Nat) (G8 : gH) (a6 : Nat) (l0 : Nat) (l1 : Int32) (a10 : Nat) : Option gO := rI G8 a6 7 0 (t_176_9_2 K d G8 a10 l0 l1 a6)
noncomputable def t_176_9_4 (K : gK) (d : Nat) (l0 : Nat) (a6 : Nat) (l1 : Int32) (G8 : gH) : Option gO := rR G8 l0 0 6 (t_176_9_3 K d G8 a6 l0 l1)
noncomputable def t_176_9_5 (K : gK) (d : Nat) (G5 : gH) (a6 : Nat) (l0 : Nat) (l1 : Int32) (a7 : Nat) : Option gO := if g_cls G5 a7 = some 1 then (cV (gCa K d 214 [.ref a7, .ref a6] G5) (t_176_9_4 K d l0 a6 l1)) else none
noncomputable def t_176_9_6 (K : gK) (d : Nat) (l0 : Nat) (l1 : Int32) (a6 : Nat) (G5 : gH) : Option gO := if g_cls G5 a6 = some 7 then (rR G5 l0 0 5 (t_176_9_5 K d G5 a6 l0 l1)) else none
noncomputable def t_176_9_7 (K : gK) (d : Nat) (G2 : gH) (l1 : Int32) (l0 : Nat) (a4 : Nat) : Option gO := if g_cls G2 a4 = some 12 then (cR (gCa K d 178 [.ref a4, .int l1] G2) (t_176_9_6 K d l0 l1)) else none
noncomputable def t_176_9_8 (K : gK) (d : Nat) (l1 : Int32) (l0 : Nat) (v3 : Int32) (G2 : gH) : Option gO := if v3 ≤ l1 then (some (.inl none, G2)) else (rR G2 l0 0 2 (t_176_9_7 K d G2 l1 l0))
noncomputable def t_176_9_9 (K : gK) (d : Nat) (G : gH) (l1 : Int32) (l0 : Nat) (a1 : Nat) : Option gO := if g_cls G a1 = some 12 then (cI (gCa K d 110 [.ref a1] G) (t_176_9_8 K d l1 l0)) else none
noncomputable def t_176_9 (K : gK) (d : Nat) (l0 : Nat) (l1 : Int32) (o2 : Option Value) (G : gH) : Option gO := rR G l0 0 2 (t_176_9_9 K d G l1 l0)
theorem e_176_9 {K : gK} {d : Nat} {l0 : Nat} {l1 : Int32} {o2 : Option Value} {G : gH} : gle (t_176_9 K d l0 l1 o2 G) (gRn K d 176 9 [some (.ref l0), some (.int l1), o2] [] G) := by
  unfold t_176_9
  refine g_iload ((q_176 _).trans rfl) rfl ?_
  refine g_aload ((q_176 _).trans rfl) rfl ?_
  refine g_getR ((q_176 _).trans rfl) (fun a1 => ?_)
  refine g_callV (kk := 0) ((q_176 _).trans rfl) (gHn m_176) rfl (by exact ⟨Nat.le_of_ble_eq_true rfl, rfl⟩) rfl (fun w G2 => gm_I (fun v3 hw => ?_))
  subst hw
  refine g_cmpge ((q_176 _).trans rfl) (fun _ => ?_) (fun _ => ?_)
  · exact g_vret ((q_176 _).trans rfl)
  · refine g_aload ((q_176 _).trans rfl) rfl ?_
    refine g_getR ((q_176 _).trans rfl) (fun a4 => ?_)
    refine g_iload ((q_176 _).trans rfl) rfl ?_
    refine g_callV (kk := 1) ((q_176 _).trans rfl) (gHn m_176) rfl (by exact ⟨Nat.le_of_ble_eq_true rfl, rfl⟩) rfl (fun w G5 => gm_R (fun a6 hw => ?_))
    subst hw
    refine g_ccast ((q_176 _).trans rfl) ?_
    refine g_astore ((q_176 _).trans rfl) ?_
    refine g_aload ((q_176 _).trans rfl) rfl ?_
    refine g_getR ((q_176 _).trans rfl) (fun a7 => ?_)
    refine g_aload ((q_176 _).trans rfl) rfl ?_
    refine g_callV (kk := 1) ((q_176 _).trans rfl) (gHn m_176) rfl (by exact ⟨Nat.le_of_ble_eq_true rfl, rfl⟩) rfl (fun w G8 => gm_V (fun hw => ?_))
    subst hw
    refine g_aload ((q_176 _).trans rfl) rfl ?_
    refine g_getR ((q_176 _).trans rfl) (fun a10 => ?_)
    refine g_aload ((q_176 _).trans rfl) rfl ?_
    refine g_getI ((q_176 _).trans rfl) (fun v11 => ?_)
    refine g_callV (kk := 1) ((q_176 _).trans rfl) (gHn m_176) rfl (by exact ⟨Nat.le_of_ble_eq_true rfl, rfl⟩) rfl (fun w G12 => gm_V (fun hw => ?_))
    subst hw
    refine g_iinc ((q_176 _).trans rfl) rfl ?_
    refine g_goto ((q_176 _).trans rfl) ?_
    exact gle.rf _
theorem q_177 {K : gK} (pc : Nat) : gP K 177 pc = ((gL_177 K).lookup pc).getD o_none := rfl
noncomputable def t_177_0_1 (K : gK) (d : Nat) (G3 : gH) : Option gO := some (.inl none, G3)
noncomputable def t_177_0_2 (K : gK) (d : Nat) (G7 : gH) : Option gO := some (.inl none, G7)
noncomputable def t_177_0_3 (K : gK) (d : Nat) (G9 : gH) : Option gO := some (.inl none, G9)
noncomputable def t_177_0_4 (K : gK) (d : Nat) (v6 : Int32) (G5 : gH) : Option gO := if v6 = 0 then (cV (gCa K d 149 [.int (0 : Int32)] G5) (t_177_0_2 K d)) else (cV (gCa K d 149 [.int (1 : Int32)] G5) (t_177_0_3 K d))
noncomputable def t_177_0_5 (K : gK) (d : Nat) (l1 : Int32) (v2 : Int32) (G1 : gH) : Option gO := if v2 = 0 then (cV (gCa K d 149 [.int (0 : Int32)] G1) (t_177_0_1 K d)) else (cI (gCa K d 148 [.int l1, .int (0 : Int32), .int (11 : Int32)] G1) (t_177_0_4 K d))
noncomputable def t_177_0 (K : gK) (d : Nat) (l0 : Int32) (l1 : Int32) (G : gH) : Option gO := cI (gCa K d 148 [.int l0, .int (0 : Int32), .int (59 : Int32)] G) (t_177_0_5 K d l1)
theorem e_177_0 {K : gK} {d : Nat} {l0 : Int32} {l1 : Int32} {G : gH} : gle (t_177_0 K d l0 l1 G) (gRn K d 177 0 [some (.int l0), some (.int l1)] [] G) := by
  unfold t_177_0
  refine g_iload ((q_177 _).trans rfl) rfl ?_
  refine g_push ((q_177 _).trans rfl) ?_
  refine g_push ((q_177 _).trans rfl) ?_
  refine g_callS (kk := 3) ((q_177 _).trans rfl) (gHn m_177) (by exact ⟨Nat.le_of_ble_eq_true rfl, Nat.le_of_ble_eq_true rfl, rfl⟩) rfl (fun w G1 => gm_I (fun v2 hw => ?_))
  subst hw
  refine g_ifeq ((q_177 _).trans rfl) (fun _ => ?_) (fun _ => ?_)
  · refine g_push ((q_177 _).trans rfl) ?_
    refine g_callS (kk := 1) ((q_177 _).trans rfl) (gHn m_177) (by exact ⟨Nat.le_of_ble_eq_true rfl, Nat.le_of_ble_eq_true rfl, rfl⟩) rfl (fun w G3 => gm_V (fun hw => ?_))
    subst hw
    exact g_vret ((q_177 _).trans rfl)
  · refine g_iload ((q_177 _).trans rfl) rfl ?_
    refine g_push ((q_177 _).trans rfl) ?_
    refine g_push ((q_177 _).trans rfl) ?_
    refine g_callS (kk := 3) ((q_177 _).trans rfl) (gHn m_177) (by exact ⟨Nat.le_of_ble_eq_true rfl, Nat.le_of_ble_eq_true rfl, rfl⟩) rfl (fun w G5 => gm_I (fun v6 hw => ?_))
    subst hw
    refine g_ifeq ((q_177 _).trans rfl) (fun _ => ?_) (fun _ => ?_)
    · refine g_push ((q_177 _).trans rfl) ?_
      refine g_callS (kk := 1) ((q_177 _).trans rfl) (gHn m_177) (by exact ⟨Nat.le_of_ble_eq_true rfl, Nat.le_of_ble_eq_true rfl, rfl⟩) rfl (fun w G7 => gm_V (fun hw => ?_))
      subst hw
      exact g_vret ((q_177 _).trans rfl)
    · refine g_push ((q_177 _).trans rfl) ?_
      refine g_goto ((q_177 _).trans rfl) ?_
      refine g_callS (kk := 1) ((q_177 _).trans rfl) (gHn m_177) (by exact ⟨Nat.le_of_ble_eq_true rfl, Nat.le_of_ble_eq_true rfl, rfl⟩) rfl (fun w G9 => gm_V (fun hw => ?_))
      subst hw
      exact g_vret ((q_177 _).trans rfl)
theorem c_177 {K : gK} {d : Nat} {l0 : Int32} {l1 : Int32} {G : gH} : gle (t_177_0 K d l0 l1 G) (gCa K (d + 1) 177 [.int l0, .int l1] G) := by
  have h : gent (gMx 177) [.int l0, .int l1] = [some (.int l0), some (.int l1)] := by
    show gent (gT 177).2.2.2.1 _ = _
    rw [m_177]; rfl
  exact fun r e => (congrArg (fun q => gRn K d 177 0 q [] G) h).trans (e_177_0 r e)
theorem q_178 {K : gK} (pc : Nat) : gP K 178 pc = ((gL_178 K).lookup pc).getD o_none := rfl
noncomputable def t_178_0_1 (K : gK) (d : Nat) (a5 : Nat) (G4 : gH) : Option gO := some (.inl (some (.ref a5)), G4)
noncomputable def t_178_0_2 (K : gK) (d : Nat) (l0 : Nat) (l1 : Int32) (v3 : Int32) (G2 : gH) : Option gO := if g_cls G2 l0 = some 12 then (cR (gCa K d 216 [.ref l0, .int l1] G2) (t_178_0_1 K d)) else none
noncomputable def t_178_0_3 (K : gK) (d : Nat) (l1 : Int32) (G : gH) (l0 : Nat) (v1 : Int32) : Option gO := cI (gCa K d 215 [.int l1, .int v1] G) (t_178_0_2 K d l0 l1)
noncomputable def t_178_0 (K : gK) (d : Nat) (l0 : Nat) (l1 : Int32) (G : gH) : Option gO := rI G l0 12 2 (t_178_0_3 K d l1 G l0)
theorem e_178_0 {K : gK} {d : Nat} {l0 : Nat} {l1 : Int32} {G : gH} : gle (t_178_0 K d l0 l1 G) (gRn K d 178 0 [some (.ref l0), some (.int l1)] [] G) := by
  unfold t_178_0
  refine g_iload ((q_178 _).trans rfl) rfl ?_
  refine g_aload ((q_178 _).trans rfl) rfl ?_
  refine g_getI ((q_178 _).trans rfl) (fun v1 => ?_)
  refine g_callS (kk := 2) ((q_178 _).trans rfl) (gHn m_178) (by exact ⟨Nat.le_of_ble_eq_true rfl, Nat.le_of_ble_eq_true rfl, rfl⟩) rfl (fun w G2 => gm_I (fun v3 hw => ?_))
  subst hw
  refine g_pop_int ((q_178 _).trans rfl) ?_
  refine g_aload ((q_178 _).trans rfl) rfl ?_
  refine g_iload ((q_178 _).trans rfl) rfl ?_
  refine g_callV (kk := 1) ((q_178 _).trans rfl) (gHn m_178) rfl (by exact ⟨Nat.le_of_ble_eq_true rfl, rfl⟩) rfl (fun w G4 => gm_R (fun a5 hw => ?_))
  subst hw
  exact g_aret ((q_178 _).trans rfl)
theorem c_178 {K : gK} {d : Nat} {l0 : Nat} {l1 : Int32} {G : gH} : gle (t_178_0 K d l0 l1 G) (gCa K (d + 1) 178 [.ref l0, .int l1] G) := by
  have h : gent (gMx 178) [.ref l0, .int l1] = [some (.ref l0), some (.int l1)] := by
    show gent (gT 178).2.2.2.1 _ = _
    rw [m_178]; rfl
  exact fun r e => (congrArg (fun q => gRn K d 178 0 q [] G) h).trans (e_178_0 r e)
theorem q_179 {K : gK} (pc : Nat) : gP K 179 pc = ((gL_179 K).lookup pc).getD o_none := rfl
noncomputable def t_179_0_1 (K : gK) (d : Nat) (v9 : Int32) (G8 : gH) : Option gO := if narrow .boolean (.int v9) = .int v9 then some (.inl (some (.int v9)), G8) else none
noncomputable def t_179_0_2 (K : gK) (d : Nat) (G4 : gH) (a5 : Nat) (l1 : Int32) (v6 : Int32) (l2 : Int32) (v7 : Int32) : Option gO := if g_cls G4 a5 = some 6 then (cI (gCa K d 218 [.ref a5, .int (l1 - v6), .int (l2 - v7)] G4) (t_179_0_1 K d)) else none
noncomputable def t_179_0_3 (K : gK) (d : Nat) (G4 : gH) (l0 : Nat) (a5 : Nat) (l1 : Int32) (l2 : Int32) (v6 : Int32) : Option gO := rI G4 l0 7 5 (t_179_0_2 K d G4 a5 l1 v6 l2)
noncomputable def t_179_0_4 (K : gK) (d : Nat) (l0 : Nat) (l1 : Int32) (l2 : Int32) (a5 : Nat) (G4 : gH) : Option gO := rI G4 l0 7 4 (t_179_0_3 K d G4 l0 a5 l1 l2)
noncomputable def t_179_0_5 (K : gK) (d : Nat) (G : gH) (a1 : Nat) (v2 : Int32) (l0 : Nat) (l1 : Int32) (l2 : Int32) (v3 : Int32) : Option gO := if g_cls G a1 = some 4 then (cR (gCa K d 217 [.ref a1, .int v2, .int v3] G) (t_179_0_4 K d l0 l1 l2)) else none
noncomputable def t_179_0_6 (K : gK) (d : Nat) (G : gH) (l0 : Nat) (a1 : Nat) (l1 : Int32) (l2 : Int32) (v2 : Int32) : Option gO := rI G l0 7 2 (t_179_0_5 K d G a1 v2 l0 l1 l2)
noncomputable def t_179_0_7 (K : gK) (d : Nat) (G : gH) (l0 : Nat) (l1 : Int32) (l2 : Int32) (a1 : Nat) : Option gO := rI G l0 7 3 (t_179_0_6 K d G l0 a1 l1 l2)
noncomputable def t_179_0 (K : gK) (d : Nat) (l0 : Nat) (l1 : Int32) (l2 : Int32) (G : gH) : Option gO := rR G l0 7 1 (t_179_0_7 K d G l0 l1 l2)
theorem e_179_0 {K : gK} {d : Nat} {l0 : Nat} {l1 : Int32} {l2 : Int32} {G : gH} : gle (t_179_0 K d l0 l1 l2 G) (gRn K d 179 0 [some (.ref l0), some (.int l1), some (.int l2)] [] G) := by
  unfold t_179_0
  refine g_aload ((q_179 _).trans rfl) rfl ?_
  refine g_getR ((q_179 _).trans rfl) (fun a1 => ?_)
  refine g_aload ((q_179 _).trans rfl) rfl ?_
  refine g_getI ((q_179 _).trans rfl) (fun v2 => ?_)
  refine g_aload ((q_179 _).trans rfl) rfl ?_
  refine g_getI ((q_179 _).trans rfl) (fun v3 => ?_)
  refine g_callV (kk := 2) ((q_179 _).trans rfl) (gHn m_179) rfl (by exact ⟨Nat.le_of_ble_eq_true rfl, rfl⟩) rfl (fun w G4 => gm_R (fun a5 hw => ?_))
  subst hw
  refine g_iload ((q_179 _).trans rfl) rfl ?_
  refine g_aload ((q_179 _).trans rfl) rfl ?_
  refine g_getI ((q_179 _).trans rfl) (fun v6 => ?_)
  refine g_isub ((q_179 _).trans rfl) ?_
  refine g_iload ((q_179 _).trans rfl) rfl ?_
  refine g_aload ((q_179 _).trans rfl) rfl ?_
  refine g_getI ((q_179 _).trans rfl) (fun v7 => ?_)
  refine g_isub ((q_179 _).trans rfl) ?_
  refine g_callV (kk := 2) ((q_179 _).trans rfl) (gHn m_179) rfl (by exact ⟨Nat.le_of_ble_eq_true rfl, rfl⟩) rfl (fun w G8 => gm_I (fun v9 hw => ?_))
  subst hw
  exact g_zret ((q_179 _).trans rfl)
theorem c_179 {K : gK} {d : Nat} {l0 : Nat} {l1 : Int32} {l2 : Int32} {G : gH} : gle (t_179_0 K d l0 l1 l2 G) (gCa K (d + 1) 179 [.ref l0, .int l1, .int l2] G) := by
  have h : gent (gMx 179) [.ref l0, .int l1, .int l2] = [some (.ref l0), some (.int l1), some (.int l2)] := by
    show gent (gT 179).2.2.2.1 _ = _
    rw [m_179]; rfl
  exact fun r e => (congrArg (fun q => gRn K d 179 0 q [] G) h).trans (e_179_0 r e)
theorem q_180 {K : gK} (pc : Nat) : gP K 180 pc = ((gL_180 K).lookup pc).getD o_none := rfl
noncomputable def t_180_0_1 (K : gK) (d : Nat) (G3 : gH) : Option gO := some (.inl none, G3)
noncomputable def t_180_0_2 (K : gK) (d : Nat) (G : gH) (l0 : Nat) (G1 : gH) : Option gO := if narrow (.object "java/util/List") (.ref (G.2.1)) = .ref (G.2.1) ∧ fits (.object "java/util/List") (.ref (G.2.1)) = true then wF G1 l0 8 0 (.ref (G.2.1)) (t_180_0_1 K d) else none
noncomputable def t_180_0 (K : gK) (d : Nat) (l0 : Nat) (G : gH) : Option gO := cV (gCa K d 84 [.ref (G.2.1)] (gnew G (.inr (12, [.int 0, .null, .int 0])) 3)) (t_180_0_2 K d G l0)
theorem e_180_0 {K : gK} {d : Nat} {l0 : Nat} {G : gH} : gle (t_180_0 K d l0 G) (gRn K d 180 0 [some (.ref l0)] [] G) := by
  unfold t_180_0
  refine g_aload ((q_180 _).trans rfl) rfl ?_
  refine g_objinit ((q_180 _).trans rfl) (Nat.le_of_ble_eq_true rfl) ?_
  refine g_aload ((q_180 _).trans rfl) rfl ?_
  refine g_new ((q_180 _).trans rfl) ?_
  refine g_dup_ref ((q_180 _).trans rfl) ?_
  refine g_callI (kk := 0) ((q_180 _).trans rfl) (gHn m_180) rfl (by exact ⟨Nat.le_of_ble_eq_true rfl, rfl⟩) rfl (fun w G1 => gm_V (fun hw => ?_))
  subst hw
  refine g_putf ((q_180 _).trans rfl) (fun G3 => ?_)
  exact g_vret ((q_180 _).trans rfl)
theorem c_180 {K : gK} {d : Nat} {l0 : Nat} {G : gH} : gle (t_180_0 K d l0 G) (gCa K (d + 1) 180 [.ref l0] G) := by
  have h : gent (gMx 180) [.ref l0] = [some (.ref l0)] := by
    show gent (gT 180).2.2.2.1 _ = _
    rw [m_180]; rfl
  exact fun r e => (congrArg (fun q => gRn K d 180 0 q [] G) h).trans (e_180_0 r e)
theorem q_181 {K : gK} (pc : Nat) : gP K 181 pc = ((gL_181 K).lookup pc).getD o_none := rfl
noncomputable def t_181_0_1 (K : gK) (d : Nat) (a3 : Nat) (G2 : gH) : Option gO := if g_cls G2 a3 = some 8 then (some (.inl (some (.ref a3)), G2)) else none
noncomputable def t_181_0_2 (K : gK) (d : Nat) (l1 : Int32) (G : gH) (a1 : Nat) : Option gO := cR (gCa K d 197 [.ref a1, .int l1] G) (t_181_0_1 K d)
noncomputable def t_181_0 (K : gK) (d : Nat) (l0 : Nat) (l1 : Int32) (G : gH) : Option gO := rR G l0 0 1 (t_181_0_2 K d l1 G)
theorem e_181_0 {K : gK} {d : Nat} {l0 : Nat} {l1 : Int32} {G : gH} : gle (t_181_0 K d l0 l1 G) (gRn K d 181 0 [some (.ref l0), some (.int l1)] [] G) := by
  unfold t_181_0
  refine g_aload ((q_181 _).trans rfl) rfl ?_
  refine g_getR ((q_181 _).trans rfl) (fun a1 => ?_)
  refine g_iload ((q_181 _).trans rfl) rfl ?_
  refine g_callS (kk := 2) ((q_181 _).trans rfl) (gHn m_181) (by exact ⟨Nat.le_of_ble_eq_true rfl, Nat.le_of_ble_eq_true rfl, rfl⟩) rfl (fun w G2 => gm_R (fun a3 hw => ?_))
  subst hw
  refine g_ccast ((q_181 _).trans rfl) ?_
  exact g_aret ((q_181 _).trans rfl)
theorem c_181 {K : gK} {d : Nat} {l0 : Nat} {l1 : Int32} {G : gH} : gle (t_181_0 K d l0 l1 G) (gCa K (d + 1) 181 [.ref l0, .int l1] G) := by
  have h : gent (gMx 181) [.ref l0, .int l1] = [some (.ref l0), some (.int l1)] := by
    show gent (gT 181).2.2.2.1 _ = _
    rw [m_181]; rfl
  exact fun r e => (congrArg (fun q => gRn K d 181 0 q [] G) h).trans (e_181_0 r e)
theorem q_182 {K : gK} (pc : Nat) : gP K 182 pc = ((gL_182 K).lookup pc).getD o_none := rfl
noncomputable def t_182_0 (K : gK) (d : Nat) (l0 : Nat) (l1 : Nat) (G : gH) : Option gO := gRn K d 182 2 [some (.ref l0), some (.ref l1), some (.int (0 : Int32)), none] [] G
theorem e_182_0 {K : gK} {d : Nat} {l0 : Nat} {l1 : Nat} {G : gH} : gle (t_182_0 K d l0 l1 G) (gRn K d 182 0 [some (.ref l0), some (.ref l1), none, none] [] G) := by
  unfold t_182_0
  refine g_push ((q_182 _).trans rfl) ?_
  refine g_istore ((q_182 _).trans rfl) ?_
  exact gle.rf _
theorem c_182 {K : gK} {d : Nat} {l0 : Nat} {l1 : Nat} {G : gH} : gle (t_182_0 K d l0 l1 G) (gCa K (d + 1) 182 [.ref l0, .ref l1] G) := by
  have h : gent (gMx 182) [.ref l0, .ref l1] = [some (.ref l0), some (.ref l1), none, none] := by
    show gent (gT 182).2.2.2.1 _ = _
    rw [m_182]; rfl
  exact fun r e => (congrArg (fun q => gRn K d 182 0 q [] G) h).trans (e_182_0 r e)
noncomputable def t_182_2_1 (K : gK) (d : Nat) (l1 : Nat) (G5 : gH) (l0 : Nat) (l2 : Int32) (a6 : Nat) (a7 : Nat) : Option gO := if a7 = l1 then (if narrow .boolean (.int (1 : Int32)) = .int (1 : Int32) then some (.inl (some (.int (1 : Int32))), G5) else none) else (gRn K d 182 2 [some (.ref l0), some (.ref l1), some (.int (l2 + 1)), some (.ref a6)] [] G5)
noncomputable def t_182_2_2 (K : gK) (d : Nat) (l1 : Nat) (l0 : Nat) (l2 : Int32) (a6 : Nat) (G5 : gH) : Option gO := if g_cls G5 a6 = some 9 then (rR G5 a6 9 0 (t_182_2_1 K d l1 G5 l0 l2 a6)) else none
noncomputable def t_182_2_3 (K : gK) (d : Nat) (G2 : gH) (l2 : Int32) (l1 : Nat) (l0 : Nat) (a4 : Nat) : Option gO := if g_cls G2 a4 = some 12 then (cR (gCa K d 178 [.ref a4, .int l2] G2) (t_182_2_2 K d l1 l0 l2)) else none
noncomputable def t_182_2_4 (K : gK) (d : Nat) (l2 : Int32) (l0 : Nat) (l1 : Nat) (v3 : Int32) (G2 : gH) : Option gO := if v3 ≤ l2 then (if narrow .boolean (.int (0 : Int32)) = .int (0 : Int32) then some (.inl (some (.int (0 : Int32))), G2) else none) else (rR G2 l0 8 0 (t_182_2_3 K d G2 l2 l1 l0))
noncomputable def t_182_2_5 (K : gK) (d : Nat) (G : gH) (l2 : Int32) (l0 : Nat) (l1 : Nat) (a1 : Nat) : Option gO := if g_cls G a1 = some 12 then (cI (gCa K d 110 [.ref a1] G) (t_182_2_4 K d l2 l0 l1)) else none
noncomputable def t_182_2 (K : gK) (d : Nat) (l0 : Nat) (l1 : Nat) (l2 : Int32) (o3 : Option Value) (G : gH) : Option gO := rR G l0 8 0 (t_182_2_5 K d G l2 l0 l1)
theorem e_182_2 {K : gK} {d : Nat} {l0 : Nat} {l1 : Nat} {l2 : Int32} {o3 : Option Value} {G : gH} : gle (t_182_2 K d l0 l1 l2 o3 G) (gRn K d 182 2 [some (.ref l0), some (.ref l1), some (.int l2), o3] [] G) := by
  unfold t_182_2
  refine g_iload ((q_182 _).trans rfl) rfl ?_
  refine g_aload ((q_182 _).trans rfl) rfl ?_
  refine g_getR ((q_182 _).trans rfl) (fun a1 => ?_)
  refine g_callV (kk := 0) ((q_182 _).trans rfl) (gHn m_182) rfl (by exact ⟨Nat.le_of_ble_eq_true rfl, rfl⟩) rfl (fun w G2 => gm_I (fun v3 hw => ?_))
  subst hw
  refine g_cmpge ((q_182 _).trans rfl) (fun _ => ?_) (fun _ => ?_)
  · refine g_push ((q_182 _).trans rfl) ?_
    exact g_zret ((q_182 _).trans rfl)
  · refine g_aload ((q_182 _).trans rfl) rfl ?_
    refine g_getR ((q_182 _).trans rfl) (fun a4 => ?_)
    refine g_iload ((q_182 _).trans rfl) rfl ?_
    refine g_callV (kk := 1) ((q_182 _).trans rfl) (gHn m_182) rfl (by exact ⟨Nat.le_of_ble_eq_true rfl, rfl⟩) rfl (fun w G5 => gm_R (fun a6 hw => ?_))
    subst hw
    refine g_ccast ((q_182 _).trans rfl) ?_
    refine g_astore ((q_182 _).trans rfl) ?_
    refine g_aload ((q_182 _).trans rfl) rfl ?_
    refine g_getR ((q_182 _).trans rfl) (fun a7 => ?_)
    refine g_aload ((q_182 _).trans rfl) rfl ?_
    refine g_acmpne ((q_182 _).trans rfl) (fun _ => ?_) (fun _ => ?_)
    · refine g_push ((q_182 _).trans rfl) ?_
      exact g_zret ((q_182 _).trans rfl)
    · refine g_iinc ((q_182 _).trans rfl) rfl ?_
      refine g_goto ((q_182 _).trans rfl) ?_
      exact gle.rf _
theorem q_183 {K : gK} (pc : Nat) : gP K 183 pc = ((gL_183 K).lookup pc).getD o_none := rfl
noncomputable def t_183_0_1 (K : gK) (d : Nat) (G2 : gH) : Option gO := some (.inl none, G2)
noncomputable def t_183_0_2 (K : gK) (d : Nat) (l2 : Int32) (l0 : Nat) (G1 : gH) : Option gO := if narrow .int (.int l2) = .int l2 ∧ fits .int (.int l2) = true then wF G1 l0 9 1 (.int l2) (t_183_0_1 K d) else none
noncomputable def t_183_0 (K : gK) (d : Nat) (l0 : Nat) (l1 : Nat) (l2 : Int32) (G : gH) : Option gO := if narrow (.object "CuttingRoom$Shape") (.ref l1) = .ref l1 ∧ fits (.object "CuttingRoom$Shape") (.ref l1) = true then wF G l0 9 0 (.ref l1) (t_183_0_2 K d l2 l0) else none
theorem e_183_0 {K : gK} {d : Nat} {l0 : Nat} {l1 : Nat} {l2 : Int32} {G : gH} : gle (t_183_0 K d l0 l1 l2 G) (gRn K d 183 0 [some (.ref l0), some (.ref l1), some (.int l2)] [] G) := by
  unfold t_183_0
  refine g_aload ((q_183 _).trans rfl) rfl ?_
  refine g_objinit ((q_183 _).trans rfl) (Nat.le_of_ble_eq_true rfl) ?_
  refine g_aload ((q_183 _).trans rfl) rfl ?_
  refine g_aload ((q_183 _).trans rfl) rfl ?_
  refine g_putf ((q_183 _).trans rfl) (fun G1 => ?_)
  refine g_aload ((q_183 _).trans rfl) rfl ?_
  refine g_iload ((q_183 _).trans rfl) rfl ?_
  refine g_putf ((q_183 _).trans rfl) (fun G2 => ?_)
  exact g_vret ((q_183 _).trans rfl)
theorem c_183 {K : gK} {d : Nat} {l0 : Nat} {l1 : Nat} {l2 : Int32} {G : gH} : gle (t_183_0 K d l0 l1 l2 G) (gCa K (d + 1) 183 [.ref l0, .ref l1, .int l2] G) := by
  have h : gent (gMx 183) [.ref l0, .ref l1, .int l2] = [some (.ref l0), some (.ref l1), some (.int l2)] := by
    show gent (gT 183).2.2.2.1 _ = _
    rw [m_183]; rfl
  exact fun r e => (congrArg (fun q => gRn K d 183 0 q [] G) h).trans (e_183_0 r e)
theorem q_184 {K : gK} (pc : Nat) : gP K 184 pc = ((gL_184 K).lookup pc).getD o_none := rfl
noncomputable def t_184_0 (K : gK) (d : Nat) (l0 : Nat) (G : gH) : Option gO := gRn K d 184 4 [some (.ref l0), some (.int (0 : Int32)), some (.int (0 : Int32)), none] [] G
theorem e_184_0 {K : gK} {d : Nat} {l0 : Nat} {G : gH} : gle (t_184_0 K d l0 G) (gRn K d 184 0 [some (.ref l0), none, none, none] [] G) := by
  unfold t_184_0
  refine g_push ((q_184 _).trans rfl) ?_
  refine g_istore ((q_184 _).trans rfl) ?_
  refine g_push ((q_184 _).trans rfl) ?_
  refine g_istore ((q_184 _).trans rfl) ?_
  exact gle.rf _
theorem c_184 {K : gK} {d : Nat} {l0 : Nat} {G : gH} : gle (t_184_0 K d l0 G) (gCa K (d + 1) 184 [.ref l0] G) := by
  have h : gent (gMx 184) [.ref l0] = [some (.ref l0), none, none, none] := by
    show gent (gT 184).2.2.2.1 _ = _
    rw [m_184]; rfl
  exact fun r e => (congrArg (fun q => gRn K d 184 0 q [] G) h).trans (e_184_0 r e)
noncomputable def t_184_4_1 (K : gK) (d : Nat) (l0 : Nat) (l1 : Int32) (l2 : Int32) (a6 : Nat) (v8 : Int32) (G7 : gH) : Option gO := gRn K d 184 4 [some (.ref l0), some (.int (l1 + v8)), some (.int (l2 + 1)), some (.ref a6)] [] G7
noncomputable def t_184_4_2 (K : gK) (d : Nat) (l0 : Nat) (l1 : Int32) (l2 : Int32) (a6 : Nat) (G5 : gH) : Option gO := if g_cls G5 a6 = some 9 then (if g_cls G5 a6 = some 9 then (cI (gCa K d 219 [.ref a6] G5) (t_184_4_1 K d l0 l1 l2 a6)) else none) else none
noncomputable def t_184_4_3 (K : gK) (d : Nat) (G2 : gH) (l2 : Int32) (l0 : Nat) (l1 : Int32) (a4 : Nat) : Option gO := if g_cls G2 a4 = some 12 then (cR (gCa K d 178 [.ref a4, .int l2] G2) (t_184_4_2 K d l0 l1 l2)) else none
noncomputable def t_184_4_4 (K : gK) (d : Nat) (l2 : Int32) (l1 : Int32) (l0 : Nat) (v3 : Int32) (G2 : gH) : Option gO := if v3 ≤ l2 then (some (.inl (some (.int l1)), G2)) else (rR G2 l0 8 0 (t_184_4_3 K d G2 l2 l0 l1))
noncomputable def t_184_4_5 (K : gK) (d : Nat) (G : gH) (l2 : Int32) (l1 : Int32) (l0 : Nat) (a1 : Nat) : Option gO := if g_cls G a1 = some 12 then (cI (gCa K d 110 [.ref a1] G) (t_184_4_4 K d l2 l1 l0)) else none
noncomputable def t_184_4 (K : gK) (d : Nat) (l0 : Nat) (l1 : Int32) (l2 : Int32) (o3 : Option Value) (G : gH) : Option gO := rR G l0 8 0 (t_184_4_5 K d G l2 l1 l0)
theorem e_184_4 {K : gK} {d : Nat} {l0 : Nat} {l1 : Int32} {l2 : Int32} {o3 : Option Value} {G : gH} : gle (t_184_4 K d l0 l1 l2 o3 G) (gRn K d 184 4 [some (.ref l0), some (.int l1), some (.int l2), o3] [] G) := by
  unfold t_184_4
  refine g_iload ((q_184 _).trans rfl) rfl ?_
  refine g_aload ((q_184 _).trans rfl) rfl ?_
  refine g_getR ((q_184 _).trans rfl) (fun a1 => ?_)
  refine g_callV (kk := 0) ((q_184 _).trans rfl) (gHn m_184) rfl (by exact ⟨Nat.le_of_ble_eq_true rfl, rfl⟩) rfl (fun w G2 => gm_I (fun v3 hw => ?_))
  subst hw
  refine g_cmpge ((q_184 _).trans rfl) (fun _ => ?_) (fun _ => ?_)
  · refine g_iload ((q_184 _).trans rfl) rfl ?_
    exact g_iret ((q_184 _).trans rfl)
  · refine g_aload ((q_184 _).trans rfl) rfl ?_
    refine g_getR ((q_184 _).trans rfl) (fun a4 => ?_)
    refine g_iload ((q_184 _).trans rfl) rfl ?_
    refine g_callV (kk := 1) ((q_184 _).trans rfl) (gHn m_184) rfl (by exact ⟨Nat.le_of_ble_eq_true rfl, rfl⟩) rfl (fun w G5 => gm_R (fun a6 hw => ?_))
    subst hw
    refine g_ccast ((q_184 _).trans rfl) ?_
    refine g_astore ((q_184 _).trans rfl) ?_
    refine g_iload ((q_184 _).trans rfl) rfl ?_
    refine g_aload ((q_184 _).trans rfl) rfl ?_
    refine g_callV (kk := 0) ((q_184 _).trans rfl) (gHn m_184) rfl (by exact ⟨Nat.le_of_ble_eq_true rfl, rfl⟩) rfl (fun w G7 => gm_I (fun v8 hw => ?_))
    subst hw
    refine g_iadd ((q_184 _).trans rfl) ?_
    refine g_istore ((q_184 _).trans rfl) ?_
    refine g_iinc ((q_184 _).trans rfl) rfl ?_
    refine g_goto ((q_184 _).trans rfl) ?_
    exact gle.rf _
theorem q_185 {K : gK} (pc : Nat) : gP K 185 pc = ((gL_185 K).lookup pc).getD o_none := rfl
noncomputable def t_185_0_1 (K : gK) (d : Nat) (G16 : gH) (v18 : Int32) : Option gO := some (.inl (some (.int v18)), G16)
noncomputable def t_185_0_2 (K : gK) (d : Nat) (G9 : gH) (G16 : gH) : Option gO := rI G16 G9.2.1 11 3 (t_185_0_1 K d G16)
noncomputable def t_185_0_3 (K : gK) (d : Nat) (G19 : gH) (v21 : Int32) : Option gO := some (.inl (some (.int v21)), G19)
noncomputable def t_185_0_4 (K : gK) (d : Nat) (G9 : gH) (G19 : gH) : Option gO := rI G19 G9.2.1 11 3 (t_185_0_3 K d G19)
noncomputable def t_185_0_5 (K : gK) (d : Nat) (G13 : gH) (G9 : gH) (v15 : Int32) : Option gO := if (61 : Int32) ≤ v15 then (cV (gCa K d 151 [.int (0 : Int32)] G13) (t_185_0_2 K d G9)) else (cV (gCa K d 151 [.int (1 : Int32)] G13) (t_185_0_4 K d G9))
noncomputable def t_185_0_6 (K : gK) (d : Nat) (G9 : gH) (G13 : gH) : Option gO := rI G13 G9.2.1 11 3 (t_185_0_5 K d G13 G9)
noncomputable def t_185_0_7 (K : gK) (d : Nat) (G9 : gH) (G11 : gH) : Option gO := if g_cls G11 G9.2.1 = some 11 then (cV (gCa K d 222 [.ref (G9.2.1), .int (0 : Int32)] G11) (t_185_0_6 K d G9)) else none
noncomputable def t_185_0_8 (K : gK) (d : Nat) (l0 : Nat) (a4 : Nat) (l2 : Int32) (G9 : gH) : Option gO := cV (gCa K d 221 [.ref (G9.2.1), .ref l0, .ref a4, .int l2] (gnew G9 (.inr (11, [.null, .int 0, .null, .int 0, .null])) 5)) (t_185_0_7 K d G9)
noncomputable def t_185_0_9 (K : gK) (d : Nat) (l0 : Nat) (a4 : Nat) (l2 : Int32) (v8 : Int32) (G7 : gH) : Option gO := cV (gCa K d 153 [.int v8] G7) (t_185_0_8 K d l0 a4 l2)
noncomputable def t_185_0_10 (K : gK) (d : Nat) (l0 : Nat) (a4 : Nat) (l2 : Int32) (v6 : Int32) (G5 : gH) : Option gO := cI (gCa K d 148 [.int v6, .int (1 : Int32), .int (4 : Int32)] G5) (t_185_0_9 K d l0 a4 l2)
noncomputable def t_185_0_11 (K : gK) (d : Nat) (l0 : Nat) (l2 : Int32) (a4 : Nat) (G3 : gH) : Option gO := if g_cls G3 a4 = some 12 then (cI (gCa K d 110 [.ref a4] G3) (t_185_0_10 K d l0 a4 l2)) else none
noncomputable def t_185_0_12 (K : gK) (d : Nat) (l0 : Nat) (l2 : Int32) (a2 : Nat) (G1 : gH) : Option gO := if g_cls G1 l0 = some 0 then (cR (gCa K d 220 [.ref l0, .ref a2] G1) (t_185_0_11 K d l0 l2)) else none
noncomputable def t_185_0 (K : gK) (d : Nat) (l0 : Nat) (l1 : Int32) (l2 : Int32) (G : gH) : Option gO := if g_cls G l0 = some 0 then (cR (gCa K d 181 [.ref l0, .int l1] G) (t_185_0_12 K d l0 l2)) else none
theorem e_185_0 {K : gK} {d : Nat} {l0 : Nat} {l1 : Int32} {l2 : Int32} {G : gH} : gle (t_185_0 K d l0 l1 l2 G) (gRn K d 185 0 [some (.ref l0), some (.int l1), some (.int l2), none, none] [] G) := by
  unfold t_185_0
  refine g_aload ((q_185 _).trans rfl) rfl ?_
  refine g_aload ((q_185 _).trans rfl) rfl ?_
  refine g_iload ((q_185 _).trans rfl) rfl ?_
  refine g_callV (kk := 1) ((q_185 _).trans rfl) (gHn m_185) rfl (by exact ⟨Nat.le_of_ble_eq_true rfl, rfl⟩) rfl (fun w G1 => gm_R (fun a2 hw => ?_))
  subst hw
  refine g_callV (kk := 1) ((q_185 _).trans rfl) (gHn m_185) rfl (by exact ⟨Nat.le_of_ble_eq_true rfl, rfl⟩) rfl (fun w G3 => gm_R (fun a4 hw => ?_))
  subst hw
  refine g_astore ((q_185 _).trans rfl) ?_
  refine g_aload ((q_185 _).trans rfl) rfl ?_
  refine g_callV (kk := 0) ((q_185 _).trans rfl) (gHn m_185) rfl (by exact ⟨Nat.le_of_ble_eq_true rfl, rfl⟩) rfl (fun w G5 => gm_I (fun v6 hw => ?_))
  subst hw
  refine g_push ((q_185 _).trans rfl) ?_
  refine g_push ((q_185 _).trans rfl) ?_
  refine g_callS (kk := 3) ((q_185 _).trans rfl) (gHn m_185) (by exact ⟨Nat.le_of_ble_eq_true rfl, Nat.le_of_ble_eq_true rfl, rfl⟩) rfl (fun w G7 => gm_I (fun v8 hw => ?_))
  subst hw
  refine g_callS (kk := 1) ((q_185 _).trans rfl) (gHn m_185) (by exact ⟨Nat.le_of_ble_eq_true rfl, Nat.le_of_ble_eq_true rfl, rfl⟩) rfl (fun w G9 => gm_V (fun hw => ?_))
  subst hw
  refine g_new ((q_185 _).trans rfl) ?_
  refine g_dup_ref ((q_185 _).trans rfl) ?_
  refine g_aload ((q_185 _).trans rfl) rfl ?_
  refine g_aload ((q_185 _).trans rfl) rfl ?_
  refine g_iload ((q_185 _).trans rfl) rfl ?_
  refine g_callI (kk := 3) ((q_185 _).trans rfl) (gHn m_185) rfl (by exact ⟨Nat.le_of_ble_eq_true rfl, rfl⟩) rfl (fun w G11 => gm_V (fun hw => ?_))
  subst hw
  refine g_astore ((q_185 _).trans rfl) ?_
  refine g_aload ((q_185 _).trans rfl) rfl ?_
  refine g_push ((q_185 _).trans rfl) ?_
  refine g_callV (kk := 1) ((q_185 _).trans rfl) (gHn m_185) rfl (by exact ⟨Nat.le_of_ble_eq_true rfl, rfl⟩) rfl (fun w G13 => gm_V (fun hw => ?_))
  subst hw
  refine g_aload ((q_185 _).trans rfl) rfl ?_
  refine g_getI ((q_185 _).trans rfl) (fun v15 => ?_)
  refine g_push ((q_185 _).trans rfl) ?_
  refine g_cmpge ((q_185 _).trans rfl) (fun _ => ?_) (fun _ => ?_)
  · refine g_push ((q_185 _).trans rfl) ?_
    refine g_callS (kk := 1) ((q_185 _).trans rfl) (gHn m_185) (by exact ⟨Nat.le_of_ble_eq_true rfl, Nat.le_of_ble_eq_true rfl, rfl⟩) rfl (fun w G16 => gm_V (fun hw => ?_))
    subst hw
    refine g_aload ((q_185 _).trans rfl) rfl ?_
    refine g_getI ((q_185 _).trans rfl) (fun v18 => ?_)
    exact g_iret ((q_185 _).trans rfl)
  · refine g_push ((q_185 _).trans rfl) ?_
    refine g_goto ((q_185 _).trans rfl) ?_
    refine g_callS (kk := 1) ((q_185 _).trans rfl) (gHn m_185) (by exact ⟨Nat.le_of_ble_eq_true rfl, Nat.le_of_ble_eq_true rfl, rfl⟩) rfl (fun w G19 => gm_V (fun hw => ?_))
    subst hw
    refine g_aload ((q_185 _).trans rfl) rfl ?_
    refine g_getI ((q_185 _).trans rfl) (fun v21 => ?_)
    exact g_iret ((q_185 _).trans rfl)
theorem c_185 {K : gK} {d : Nat} {l0 : Nat} {l1 : Int32} {l2 : Int32} {G : gH} : gle (t_185_0 K d l0 l1 l2 G) (gCa K (d + 1) 185 [.ref l0, .int l1, .int l2] G) := by
  have h : gent (gMx 185) [.ref l0, .int l1, .int l2] = [some (.ref l0), some (.int l1), some (.int l2), none, none] := by
    show gent (gT 185).2.2.2.1 _ = _
    rw [m_185]; rfl
  exact fun r e => (congrArg (fun q => gRn K d 185 0 q [] G) h).trans (e_185_0 r e)
theorem q_186 {K : gK} (pc : Nat) : gP K 186 pc = ((gL_186 K).lookup pc).getD o_none := rfl
noncomputable def t_186_0_1 (K : gK) (d : Nat) (G5 : gH) : Option gO := some (.inl none, G5)
noncomputable def t_186_0_2 (K : gK) (d : Nat) (G1 : gH) (l0 : Nat) (v4 : Int32) : Option gO := if narrow .int (.int v4) = .int v4 ∧ fits .int (.int v4) = true then wF G1 l0 3 48 (.int v4) (t_186_0_1 K d) else none
noncomputable def t_186_0_3 (K : gK) (d : Nat) (G6 : gH) : Option gO := some (.inl none, G6)
noncomputable def t_186_0_4 (K : gK) (d : Nat) (v2 : Int32) (G1 : gH) (l0 : Nat) (v3 : Int32) : Option gO := if v3 ≤ v2 then (rI G1 l0 3 48 (t_186_0_2 K d G1 l0)) else (if narrow .int (.int v2) = .int v2 ∧ fits .int (.int v2) = true then wF G1 l0 3 48 (.int v2) (t_186_0_3 K d) else none)
noncomputable def t_186_0_5 (K : gK) (d : Nat) (l0 : Nat) (v2 : Int32) (G1 : gH) : Option gO := rI G1 l0 3 48 (t_186_0_4 K d v2 G1 l0)
noncomputable def t_186_0 (K : gK) (d : Nat) (l0 : Nat) (l1 : Int32) (G : gH) : Option gO := if l1 = 0 then (if g_cls G l0 = some 3 then (cI (gCa K d 109 [.ref l0] G) (t_186_0_5 K d l0)) else none) else (gRn K d 186 32 [some (.ref l0), some (.int l1), some (.int (0 : Int32)), none] [] G)
theorem e_186_0 {K : gK} {d : Nat} {l0 : Nat} {l1 : Int32} {G : gH} : gle (t_186_0 K d l0 l1 G) (gRn K d 186 0 [some (.ref l0), some (.int l1), none, none] [] G) := by
  unfold t_186_0
  refine g_iload ((q_186 _).trans rfl) rfl ?_
  refine g_ifne ((q_186 _).trans rfl) (fun _ => ?_) (fun _ => ?_)
  · refine g_aload ((q_186 _).trans rfl) rfl ?_
    refine g_callV (kk := 0) ((q_186 _).trans rfl) (gHn m_186) rfl (by exact ⟨Nat.le_of_ble_eq_true rfl, rfl⟩) rfl (fun w G1 => gm_I (fun v2 hw => ?_))
    subst hw
    refine g_istore ((q_186 _).trans rfl) ?_
    refine g_aload ((q_186 _).trans rfl) rfl ?_
    refine g_iload ((q_186 _).trans rfl) rfl ?_
    refine g_aload ((q_186 _).trans rfl) rfl ?_
    refine g_getI ((q_186 _).trans rfl) (fun v3 => ?_)
    refine g_cmpge ((q_186 _).trans rfl) (fun _ => ?_) (fun _ => ?_)
    · refine g_aload ((q_186 _).trans rfl) rfl ?_
      refine g_getI ((q_186 _).trans rfl) (fun v4 => ?_)
      refine g_putf ((q_186 _).trans rfl) (fun G5 => ?_)
      exact g_vret ((q_186 _).trans rfl)
    · refine g_iload ((q_186 _).trans rfl) rfl ?_
      refine g_goto ((q_186 _).trans rfl) ?_
      refine g_putf ((q_186 _).trans rfl) (fun G6 => ?_)
      exact g_vret ((q_186 _).trans rfl)
  · refine g_push ((q_186 _).trans rfl) ?_
    refine g_istore ((q_186 _).trans rfl) ?_
    exact gle.rf _
theorem c_186 {K : gK} {d : Nat} {l0 : Nat} {l1 : Int32} {G : gH} : gle (t_186_0 K d l0 l1 G) (gCa K (d + 1) 186 [.ref l0, .int l1] G) := by
  have h : gent (gMx 186) [.ref l0, .int l1] = [some (.ref l0), some (.int l1), none, none] := by
    show gent (gT 186).2.2.2.1 _ = _
    rw [m_186]; rfl
  exact fun r e => (congrArg (fun q => gRn K d 186 0 q [] G) h).trans (e_186_0 r e)
noncomputable def t_186_32_1 (K : gK) (d : Nat) (l0 : Nat) (l1 : Int32) (l2 : Int32) (v16 : Int32) (G23 : gH) : Option gO := gRn K d 186 32 [some (.ref l0), some (.int l1), some (.int (l2 + 1)), some (.int v16)] [] G23
noncomputable def t_186_32_2 (K : gK) (d : Nat) (G20 : gH) (l0 : Nat) (l1 : Int32) (l2 : Int32) (v16 : Int32) (v22 : Int32) : Option gO := if narrow .int (.int (v22 - (1 : Int32))) = .int (v22 - (1 : Int32)) ∧ fits .int (.int (v22 - (1 : Int32))) = true then wF G20 l0 3 18 (.int (v22 - (1 : Int32))) (t_186_32_1 K d l0 l1 l2 v16) else none
noncomputable def t_186_32_3 (K : gK) (d : Nat) (l0 : Nat) (l1 : Int32) (l2 : Int32) (v16 : Int32) (G20 : gH) : Option gO := rI G20 l0 3 18 (t_186_32_2 K d G20 l0 l1 l2 v16)
noncomputable def t_186_32_4 (K : gK) (d : Nat) (G17 : gH) (l0 : Nat) (l1 : Int32) (l2 : Int32) (v16 : Int32) (v19 : Int32) : Option gO := if g_cls G17 l0 = some 3 then (cV (gCa K d 108 [.ref l0, .int (v19 - (1 : Int32))] G17) (t_186_32_3 K d l0 l1 l2 v16)) else none
noncomputable def t_186_32_5 (K : gK) (d : Nat) (l0 : Nat) (l1 : Int32) (l2 : Int32) (v16 : Int32) (G17 : gH) : Option gO := rI G17 l0 3 17 (t_186_32_4 K d G17 l0 l1 l2 v16)
noncomputable def t_186_32_6 (K : gK) (d : Nat) (l0 : Nat) (l1 : Int32) (l2 : Int32) (v16 : Int32) (G15 : gH) : Option gO := if g_cls G15 l0 = some 3 then (cV (gCa K d 186 [.ref l0, .int (l1 &&& (((1 : Int32) <<< (l2 &&& 31)) ^^^ ((-1) : Int32)))] G15) (t_186_32_5 K d l0 l1 l2 v16)) else none
noncomputable def t_186_32_7 (K : gK) (d : Nat) (l0 : Nat) (l1 : Int32) (l2 : Int32) (v25 : Int32) (G32 : gH) : Option gO := gRn K d 186 32 [some (.ref l0), some (.int l1), some (.int (l2 + 1)), some (.int v25)] [] G32
noncomputable def t_186_32_8 (K : gK) (d : Nat) (G29 : gH) (l0 : Nat) (l1 : Int32) (l2 : Int32) (v25 : Int32) (v31 : Int32) : Option gO := if narrow .int (.int (v31 - (1 : Int32))) = .int (v31 - (1 : Int32)) ∧ fits .int (.int (v31 - (1 : Int32))) = true then wF G29 l0 3 18 (.int (v31 - (1 : Int32))) (t_186_32_7 K d l0 l1 l2 v25) else none
noncomputable def t_186_32_9 (K : gK) (d : Nat) (l0 : Nat) (l1 : Int32) (l2 : Int32) (v25 : Int32) (G29 : gH) : Option gO := rI G29 l0 3 18 (t_186_32_8 K d G29 l0 l1 l2 v25)
noncomputable def t_186_32_10 (K : gK) (d : Nat) (G26 : gH) (l0 : Nat) (l1 : Int32) (l2 : Int32) (v25 : Int32) (v28 : Int32) : Option gO := if g_cls G26 l0 = some 3 then (cV (gCa K d 108 [.ref l0, .int (v28 - (1 : Int32))] G26) (t_186_32_9 K d l0 l1 l2 v25)) else none
noncomputable def t_186_32_11 (K : gK) (d : Nat) (l0 : Nat) (l1 : Int32) (l2 : Int32) (v25 : Int32) (G26 : gH) : Option gO := rI G26 l0 3 17 (t_186_32_10 K d G26 l0 l1 l2 v25)
noncomputable def t_186_32_12 (K : gK) (d : Nat) (l0 : Nat) (l1 : Int32) (l2 : Int32) (v25 : Int32) (G24 : gH) : Option gO := if g_cls G24 l0 = some 3 then (cV (gCa K d 186 [.ref l0, .int (l1 &&& (((1 : Int32) <<< (l2 &&& 31)) ^^^ ((-1) : Int32)))] G24) (t_186_32_11 K d l0 l1 l2 v25)) else none
noncomputable def t_186_32_13 (K : gK) (d : Nat) (G6 : gH) (l0 : Nat) (v9 : Int32) (v10 : Int32) (v11 : Int32) (v12 : Int32) (l1 : Int32) (l2 : Int32) (v14 : Int32) : Option gO := if v14 < (8 : Int32) then (if g_cls G6 l0 = some 3 then (cI (gCa K d 102 [.ref l0, .int (v9 - v9 / (8 : Int32) * (8 : Int32)), .int v10, .int v11, .int v12, .int (0 : Int32)] G6) (t_186_32_6 K d l0 l1 l2)) else none) else (if g_cls G6 l0 = some 3 then (cI (gCa K d 102 [.ref l0, .int (v9 - v9 / (8 : Int32) * (8 : Int32)), .int v10, .int v11, .int v12, .int (1 : Int32)] G6) (t_186_32_12 K d l0 l1 l2)) else none)
noncomputable def t_186_32_14 (K : gK) (d : Nat) (G6 : gH) (l2 : Int32) (l0 : Nat) (v9 : Int32) (v10 : Int32) (v11 : Int32) (v12 : Int32) (l1 : Int32) (a13 : Nat) : Option gO := xI G6 a13 0 l2 (t_186_32_13 K d G6 l0 v9 v10 v11 v12 l1 l2)
noncomputable def t_186_32_15 (K : gK) (d : Nat) (G6 : gH) (l0 : Nat) (l2 : Int32) (v9 : Int32) (v10 : Int32) (v11 : Int32) (l1 : Int32) (v12 : Int32) : Option gO := rR G6 l0 3 40 (t_186_32_14 K d G6 l2 l0 v9 v10 v11 v12 l1)
noncomputable def t_186_32_16 (K : gK) (d : Nat) (G6 : gH) (l0 : Nat) (l2 : Int32) (v9 : Int32) (v10 : Int32) (l1 : Int32) (v11 : Int32) : Option gO := rI G6 l0 3 38 (t_186_32_15 K d G6 l0 l2 v9 v10 v11 l1)
noncomputable def t_186_32_17 (K : gK) (d : Nat) (G6 : gH) (l0 : Nat) (l2 : Int32) (v9 : Int32) (l1 : Int32) (v10 : Int32) : Option gO := rI G6 l0 3 37 (t_186_32_16 K d G6 l0 l2 v9 v10 l1)
noncomputable def t_186_32_18 (K : gK) (d : Nat) (G6 : gH) (l0 : Nat) (l2 : Int32) (l1 : Int32) (v9 : Int32) : Option gO := if (8 : Int32) = 0 then none else (rI G6 l0 3 39 (t_186_32_17 K d G6 l0 l2 v9 l1))
noncomputable def t_186_32_19 (K : gK) (d : Nat) (G6 : gH) (l2 : Int32) (l0 : Nat) (l1 : Int32) (a8 : Nat) : Option gO := xI G6 a8 0 l2 (t_186_32_18 K d G6 l0 l2 l1)
noncomputable def t_186_32_20 (K : gK) (d : Nat) (l0 : Nat) (l1 : Int32) (l2 : Int32) (o3 : Option Value) (v7 : Int32) (G6 : gH) : Option gO := if v7 = 0 then (gRn K d 186 32 [some (.ref l0), some (.int l1), some (.int (l2 + 1)), o3] [] G6) else (rR G6 l0 3 40 (t_186_32_19 K d G6 l2 l0 l1))
noncomputable def t_186_32_21 (K : gK) (d : Nat) (l0 : Nat) (l1 : Int32) (l2 : Int32) (v43 : Int32) (G50 : gH) : Option gO := gRn K d 186 32 [some (.ref l0), some (.int l1), some (.int (l2 + 1)), some (.int v43)] [] G50
noncomputable def t_186_32_22 (K : gK) (d : Nat) (G47 : gH) (l0 : Nat) (l1 : Int32) (l2 : Int32) (v43 : Int32) (v49 : Int32) : Option gO := if narrow .int (.int (v49 - (1 : Int32))) = .int (v49 - (1 : Int32)) ∧ fits .int (.int (v49 - (1 : Int32))) = true then wF G47 l0 3 18 (.int (v49 - (1 : Int32))) (t_186_32_21 K d l0 l1 l2 v43) else none
noncomputable def t_186_32_23 (K : gK) (d : Nat) (l0 : Nat) (l1 : Int32) (l2 : Int32) (v43 : Int32) (G47 : gH) : Option gO := rI G47 l0 3 18 (t_186_32_22 K d G47 l0 l1 l2 v43)
noncomputable def t_186_32_24 (K : gK) (d : Nat) (G44 : gH) (l0 : Nat) (l1 : Int32) (l2 : Int32) (v43 : Int32) (v46 : Int32) : Option gO := if g_cls G44 l0 = some 3 then (cV (gCa K d 108 [.ref l0, .int (v46 - (1 : Int32))] G44) (t_186_32_23 K d l0 l1 l2 v43)) else none
noncomputable def t_186_32_25 (K : gK) (d : Nat) (l0 : Nat) (l1 : Int32) (l2 : Int32) (v43 : Int32) (G44 : gH) : Option gO := rI G44 l0 3 17 (t_186_32_24 K d G44 l0 l1 l2 v43)
noncomputable def t_186_32_26 (K : gK) (d : Nat) (l0 : Nat) (l1 : Int32) (l2 : Int32) (v43 : Int32) (G42 : gH) : Option gO := if g_cls G42 l0 = some 3 then (cV (gCa K d 186 [.ref l0, .int (l1 &&& (((1 : Int32) <<< (l2 &&& 31)) ^^^ ((-1) : Int32)))] G42) (t_186_32_25 K d l0 l1 l2 v43)) else none
noncomputable def t_186_32_27 (K : gK) (d : Nat) (l0 : Nat) (l1 : Int32) (l2 : Int32) (v52 : Int32) (G59 : gH) : Option gO := gRn K d 186 32 [some (.ref l0), some (.int l1), some (.int (l2 + 1)), some (.int v52)] [] G59
noncomputable def t_186_32_28 (K : gK) (d : Nat) (G56 : gH) (l0 : Nat) (l1 : Int32) (l2 : Int32) (v52 : Int32) (v58 : Int32) : Option gO := if narrow .int (.int (v58 - (1 : Int32))) = .int (v58 - (1 : Int32)) ∧ fits .int (.int (v58 - (1 : Int32))) = true then wF G56 l0 3 18 (.int (v58 - (1 : Int32))) (t_186_32_27 K d l0 l1 l2 v52) else none
noncomputable def t_186_32_29 (K : gK) (d : Nat) (l0 : Nat) (l1 : Int32) (l2 : Int32) (v52 : Int32) (G56 : gH) : Option gO := rI G56 l0 3 18 (t_186_32_28 K d G56 l0 l1 l2 v52)
noncomputable def t_186_32_30 (K : gK) (d : Nat) (G53 : gH) (l0 : Nat) (l1 : Int32) (l2 : Int32) (v52 : Int32) (v55 : Int32) : Option gO := if g_cls G53 l0 = some 3 then (cV (gCa K d 108 [.ref l0, .int (v55 - (1 : Int32))] G53) (t_186_32_29 K d l0 l1 l2 v52)) else none
noncomputable def t_186_32_31 (K : gK) (d : Nat) (l0 : Nat) (l1 : Int32) (l2 : Int32) (v52 : Int32) (G53 : gH) : Option gO := rI G53 l0 3 17 (t_186_32_30 K d G53 l0 l1 l2 v52)
noncomputable def t_186_32_32 (K : gK) (d : Nat) (l0 : Nat) (l1 : Int32) (l2 : Int32) (v52 : Int32) (G51 : gH) : Option gO := if g_cls G51 l0 = some 3 then (cV (gCa K d 186 [.ref l0, .int (l1 &&& (((1 : Int32) <<< (l2 &&& 31)) ^^^ ((-1) : Int32)))] G51) (t_186_32_31 K d l0 l1 l2 v52)) else none
noncomputable def t_186_32_33 (K : gK) (d : Nat) (G33 : gH) (l0 : Nat) (v36 : Int32) (v37 : Int32) (v38 : Int32) (v39 : Int32) (l1 : Int32) (l2 : Int32) (v41 : Int32) : Option gO := if v41 < (8 : Int32) then (if g_cls G33 l0 = some 3 then (cI (gCa K d 102 [.ref l0, .int (v36 - v36 / (8 : Int32) * (8 : Int32)), .int v37, .int v38, .int v39, .int (0 : Int32)] G33) (t_186_32_26 K d l0 l1 l2)) else none) else (if g_cls G33 l0 = some 3 then (cI (gCa K d 102 [.ref l0, .int (v36 - v36 / (8 : Int32) * (8 : Int32)), .int v37, .int v38, .int v39, .int (1 : Int32)] G33) (t_186_32_32 K d l0 l1 l2)) else none)
noncomputable def t_186_32_34 (K : gK) (d : Nat) (G33 : gH) (l2 : Int32) (l0 : Nat) (v36 : Int32) (v37 : Int32) (v38 : Int32) (v39 : Int32) (l1 : Int32) (a40 : Nat) : Option gO := xI G33 a40 0 l2 (t_186_32_33 K d G33 l0 v36 v37 v38 v39 l1 l2)
noncomputable def t_186_32_35 (K : gK) (d : Nat) (G33 : gH) (l0 : Nat) (l2 : Int32) (v36 : Int32) (v37 : Int32) (v38 : Int32) (l1 : Int32) (v39 : Int32) : Option gO := rR G33 l0 3 40 (t_186_32_34 K d G33 l2 l0 v36 v37 v38 v39 l1)
noncomputable def t_186_32_36 (K : gK) (d : Nat) (G33 : gH) (l0 : Nat) (l2 : Int32) (v36 : Int32) (v37 : Int32) (l1 : Int32) (v38 : Int32) : Option gO := rI G33 l0 3 38 (t_186_32_35 K d G33 l0 l2 v36 v37 v38 l1)
noncomputable def t_186_32_37 (K : gK) (d : Nat) (G33 : gH) (l0 : Nat) (l2 : Int32) (v36 : Int32) (l1 : Int32) (v37 : Int32) : Option gO := rI G33 l0 3 37 (t_186_32_36 K d G33 l0 l2 v36 v37 l1)
noncomputable def t_186_32_38 (K : gK) (d : Nat) (G33 : gH) (l0 : Nat) (l2 : Int32) (l1 : Int32) (v36 : Int32) : Option gO := if (8 : Int32) = 0 then none else (rI G33 l0 3 39 (t_186_32_37 K d G33 l0 l2 v36 l1))
noncomputable def t_186_32_39 (K : gK) (d : Nat) (G33 : gH) (l2 : Int32) (l0 : Nat) (l1 : Int32) (a35 : Nat) : Option gO := xI G33 a35 0 l2 (t_186_32_38 K d G33 l0 l2 l1)
noncomputable def t_186_32_40 (K : gK) (d : Nat) (l0 : Nat) (l1 : Int32) (l2 : Int32) (o3 : Option Value) (v34 : Int32) (G33 : gH) : Option gO := if v34 = 0 then (gRn K d 186 32 [some (.ref l0), some (.int l1), some (.int (l2 + 1)), o3] [] G33) else (rR G33 l0 3 40 (t_186_32_39 K d G33 l2 l0 l1))
noncomputable def t_186_32_41 (K : gK) (d : Nat) (G : gH) (l0 : Nat) (v3 : Int32) (l1 : Int32) (l2 : Int32) (o3 : Option Value) (v5 : Int32) : Option gO := if v5 < (8 : Int32) then (if g_cls G l0 = some 3 then (cI (gCa K d 105 [.ref l0, .int (v3 - v3 / (8 : Int32) * (8 : Int32)), .int (0 : Int32)] G) (t_186_32_20 K d l0 l1 l2 o3)) else none) else (if g_cls G l0 = some 3 then (cI (gCa K d 105 [.ref l0, .int (v3 - v3 / (8 : Int32) * (8 : Int32)), .int (1 : Int32)] G) (t_186_32_40 K d l0 l1 l2 o3)) else none)
noncomputable def t_186_32_42 (K : gK) (d : Nat) (G : gH) (l2 : Int32) (l0 : Nat) (v3 : Int32) (l1 : Int32) (o3 : Option Value) (a4 : Nat) : Option gO := xI G a4 0 l2 (t_186_32_41 K d G l0 v3 l1 l2 o3)
noncomputable def t_186_32_43 (K : gK) (d : Nat) (G : gH) (l0 : Nat) (l2 : Int32) (l1 : Int32) (o3 : Option Value) (v3 : Int32) : Option gO := if (8 : Int32) = 0 then none else (rR G l0 3 40 (t_186_32_42 K d G l2 l0 v3 l1 o3))
noncomputable def t_186_32_44 (K : gK) (d : Nat) (G : gH) (l2 : Int32) (l0 : Nat) (l1 : Int32) (o3 : Option Value) (a2 : Nat) : Option gO := xI G a2 0 l2 (t_186_32_43 K d G l0 l2 l1 o3)
noncomputable def t_186_32_45 (K : gK) (d : Nat) (l2 : Int32) (G : gH) (l1 : Int32) (l0 : Nat) (o3 : Option Value) (v1 : Int32) : Option gO := if v1 ≤ l2 then (some (.inl none, G)) else (if ((l1 >>> (l2 &&& 31)) &&& (1 : Int32)) = (1 : Int32) then (rR G l0 3 40 (t_186_32_44 K d G l2 l0 l1 o3)) else (gRn K d 186 32 [some (.ref l0), some (.int l1), some (.int (l2 + 1)), o3] [] G))
noncomputable def t_186_32 (K : gK) (d : Nat) (l0 : Nat) (l1 : Int32) (l2 : Int32) (o3 : Option Value) (G : gH) : Option gO := rI G l0 3 41 (t_186_32_45 K d l2 G l1 l0 o3)
theorem e_186_32 {K : gK} {d : Nat} {l0 : Nat} {l1 : Int32} {l2 : Int32} {o3 : Option Value} {G : gH} : gle (t_186_32 K d l0 l1 l2 o3 G) (gRn K d 186 32 [some (.ref l0), some (.int l1), some (.int l2), o3] [] G) := by
  unfold t_186_32
  refine g_iload ((q_186 _).trans rfl) rfl ?_
  refine g_aload ((q_186 _).trans rfl) rfl ?_
  refine g_getI ((q_186 _).trans rfl) (fun v1 => ?_)
  refine g_cmpge ((q_186 _).trans rfl) (fun _ => ?_) (fun _ => ?_)
  · exact g_vret ((q_186 _).trans rfl)
  · refine g_iload ((q_186 _).trans rfl) rfl ?_
    refine g_iload ((q_186 _).trans rfl) rfl ?_
    refine g_ishr ((q_186 _).trans rfl) ?_
    refine g_push ((q_186 _).trans rfl) ?_
    refine g_iand ((q_186 _).trans rfl) ?_
    refine g_push ((q_186 _).trans rfl) ?_
    refine g_cmpne ((q_186 _).trans rfl) (fun _ => ?_) (fun _ => ?_)
    · refine g_aload ((q_186 _).trans rfl) rfl ?_
      refine g_aload ((q_186 _).trans rfl) rfl ?_
      refine g_getR ((q_186 _).trans rfl) (fun a2 => ?_)
      refine g_iload ((q_186 _).trans rfl) rfl ?_
      refine g_iald ((q_186 _).trans rfl) (fun v3 => ?_)
      refine g_push ((q_186 _).trans rfl) ?_
      refine g_irem ((q_186 _).trans rfl) (fun _ => ?_)
      refine g_aload ((q_186 _).trans rfl) rfl ?_
      refine g_getR ((q_186 _).trans rfl) (fun a4 => ?_)
      refine g_iload ((q_186 _).trans rfl) rfl ?_
      refine g_iald ((q_186 _).trans rfl) (fun v5 => ?_)
      refine g_push ((q_186 _).trans rfl) ?_
      refine g_cmplt ((q_186 _).trans rfl) (fun _ => ?_) (fun _ => ?_)
      · refine g_push ((q_186 _).trans rfl) ?_
        refine g_callV (kk := 2) ((q_186 _).trans rfl) (gHn m_186) rfl (by exact ⟨Nat.le_of_ble_eq_true rfl, rfl⟩) rfl (fun w G6 => gm_I (fun v7 hw => ?_))
        subst hw
        refine g_ifeq ((q_186 _).trans rfl) (fun _ => ?_) (fun _ => ?_)
        · refine g_iinc ((q_186 _).trans rfl) rfl ?_
          refine g_goto ((q_186 _).trans rfl) ?_
          exact gle.rf _
        · refine g_aload ((q_186 _).trans rfl) rfl ?_
          refine g_aload ((q_186 _).trans rfl) rfl ?_
          refine g_getR ((q_186 _).trans rfl) (fun a8 => ?_)
          refine g_iload ((q_186 _).trans rfl) rfl ?_
          refine g_iald ((q_186 _).trans rfl) (fun v9 => ?_)
          refine g_push ((q_186 _).trans rfl) ?_
          refine g_irem ((q_186 _).trans rfl) (fun _ => ?_)
          refine g_aload ((q_186 _).trans rfl) rfl ?_
          refine g_getI ((q_186 _).trans rfl) (fun v10 => ?_)
          refine g_aload ((q_186 _).trans rfl) rfl ?_
          refine g_getI ((q_186 _).trans rfl) (fun v11 => ?_)
          refine g_aload ((q_186 _).trans rfl) rfl ?_
          refine g_getI ((q_186 _).trans rfl) (fun v12 => ?_)
          refine g_aload ((q_186 _).trans rfl) rfl ?_
          refine g_getR ((q_186 _).trans rfl) (fun a13 => ?_)
          refine g_iload ((q_186 _).trans rfl) rfl ?_
          refine g_iald ((q_186 _).trans rfl) (fun v14 => ?_)
          refine g_push ((q_186 _).trans rfl) ?_
          refine g_cmplt ((q_186 _).trans rfl) (fun _ => ?_) (fun _ => ?_)
          · refine g_push ((q_186 _).trans rfl) ?_
            refine g_callV (kk := 5) ((q_186 _).trans rfl) (gHn m_186) rfl (by exact ⟨Nat.le_of_ble_eq_true rfl, rfl⟩) rfl (fun w G15 => gm_I (fun v16 hw => ?_))
            subst hw
            refine g_istore ((q_186 _).trans rfl) ?_
            refine g_aload ((q_186 _).trans rfl) rfl ?_
            refine g_iload ((q_186 _).trans rfl) rfl ?_
            refine g_push ((q_186 _).trans rfl) ?_
            refine g_iload ((q_186 _).trans rfl) rfl ?_
            refine g_ishl ((q_186 _).trans rfl) ?_
            refine g_push ((q_186 _).trans rfl) ?_
            refine g_ixor ((q_186 _).trans rfl) ?_
            refine g_iand ((q_186 _).trans rfl) ?_
            refine g_callV (kk := 1) ((q_186 _).trans rfl) (gHn m_186) rfl (by exact ⟨Nat.le_of_ble_eq_true rfl, rfl⟩) rfl (fun w G17 => gm_V (fun hw => ?_))
            subst hw
            refine g_aload ((q_186 _).trans rfl) rfl ?_
            refine g_aload ((q_186 _).trans rfl) rfl ?_
            refine g_getI ((q_186 _).trans rfl) (fun v19 => ?_)
            refine g_push ((q_186 _).trans rfl) ?_
            refine g_isub ((q_186 _).trans rfl) ?_
            refine g_callV (kk := 1) ((q_186 _).trans rfl) (gHn m_186) rfl (by exact ⟨Nat.le_of_ble_eq_true rfl, rfl⟩) rfl (fun w G20 => gm_V (fun hw => ?_))
            subst hw
            refine g_aload ((q_186 _).trans rfl) rfl ?_
            refine g_dup_ref ((q_186 _).trans rfl) ?_
            refine g_getI ((q_186 _).trans rfl) (fun v22 => ?_)
            refine g_push ((q_186 _).trans rfl) ?_
            refine g_isub ((q_186 _).trans rfl) ?_
            refine g_putf ((q_186 _).trans rfl) (fun G23 => ?_)
            refine g_iinc ((q_186 _).trans rfl) rfl ?_
            refine g_goto ((q_186 _).trans rfl) ?_
            exact gle.rf _
          · refine g_push ((q_186 _).trans rfl) ?_
            refine g_goto ((q_186 _).trans rfl) ?_
            refine g_callV (kk := 5) ((q_186 _).trans rfl) (gHn m_186) rfl (by exact ⟨Nat.le_of_ble_eq_true rfl, rfl⟩) rfl (fun w G24 => gm_I (fun v25 hw => ?_))
            subst hw
            refine g_istore ((q_186 _).trans rfl) ?_
            refine g_aload ((q_186 _).trans rfl) rfl ?_
            refine g_iload ((q_186 _).trans rfl) rfl ?_
            refine g_push ((q_186 _).trans rfl) ?_
            refine g_iload ((q_186 _).trans rfl) rfl ?_
            refine g_ishl ((q_186 _).trans rfl) ?_
            refine g_push ((q_186 _).trans rfl) ?_
            refine g_ixor ((q_186 _).trans rfl) ?_
            refine g_iand ((q_186 _).trans rfl) ?_
            refine g_callV (kk := 1) ((q_186 _).trans rfl) (gHn m_186) rfl (by exact ⟨Nat.le_of_ble_eq_true rfl, rfl⟩) rfl (fun w G26 => gm_V (fun hw => ?_))
            subst hw
            refine g_aload ((q_186 _).trans rfl) rfl ?_
            refine g_aload ((q_186 _).trans rfl) rfl ?_
            refine g_getI ((q_186 _).trans rfl) (fun v28 => ?_)
            refine g_push ((q_186 _).trans rfl) ?_
            refine g_isub ((q_186 _).trans rfl) ?_
            refine g_callV (kk := 1) ((q_186 _).trans rfl) (gHn m_186) rfl (by exact ⟨Nat.le_of_ble_eq_true rfl, rfl⟩) rfl (fun w G29 => gm_V (fun hw => ?_))
            subst hw
            refine g_aload ((q_186 _).trans rfl) rfl ?_
            refine g_dup_ref ((q_186 _).trans rfl) ?_
            refine g_getI ((q_186 _).trans rfl) (fun v31 => ?_)
            refine g_push ((q_186 _).trans rfl) ?_
            refine g_isub ((q_186 _).trans rfl) ?_
            refine g_putf ((q_186 _).trans rfl) (fun G32 => ?_)
            refine g_iinc ((q_186 _).trans rfl) rfl ?_
            refine g_goto ((q_186 _).trans rfl) ?_
            exact gle.rf _
      · refine g_push ((q_186 _).trans rfl) ?_
        refine g_goto ((q_186 _).trans rfl) ?_
        refine g_callV (kk := 2) ((q_186 _).trans rfl) (gHn m_186) rfl (by exact ⟨Nat.le_of_ble_eq_true rfl, rfl⟩) rfl (fun w G33 => gm_I (fun v34 hw => ?_))
        subst hw
        refine g_ifeq ((q_186 _).trans rfl) (fun _ => ?_) (fun _ => ?_)
        · refine g_iinc ((q_186 _).trans rfl) rfl ?_
          refine g_goto ((q_186 _).trans rfl) ?_
          exact gle.rf _
        · refine g_aload ((q_186 _).trans rfl) rfl ?_
          refine g_aload ((q_186 _).trans rfl) rfl ?_
          refine g_getR ((q_186 _).trans rfl) (fun a35 => ?_)
          refine g_iload ((q_186 _).trans rfl) rfl ?_
          refine g_iald ((q_186 _).trans rfl) (fun v36 => ?_)
          refine g_push ((q_186 _).trans rfl) ?_
          refine g_irem ((q_186 _).trans rfl) (fun _ => ?_)
          refine g_aload ((q_186 _).trans rfl) rfl ?_
          refine g_getI ((q_186 _).trans rfl) (fun v37 => ?_)
          refine g_aload ((q_186 _).trans rfl) rfl ?_
          refine g_getI ((q_186 _).trans rfl) (fun v38 => ?_)
          refine g_aload ((q_186 _).trans rfl) rfl ?_
          refine g_getI ((q_186 _).trans rfl) (fun v39 => ?_)
          refine g_aload ((q_186 _).trans rfl) rfl ?_
          refine g_getR ((q_186 _).trans rfl) (fun a40 => ?_)
          refine g_iload ((q_186 _).trans rfl) rfl ?_
          refine g_iald ((q_186 _).trans rfl) (fun v41 => ?_)
          refine g_push ((q_186 _).trans rfl) ?_
          refine g_cmplt ((q_186 _).trans rfl) (fun _ => ?_) (fun _ => ?_)
          · refine g_push ((q_186 _).trans rfl) ?_
            refine g_callV (kk := 5) ((q_186 _).trans rfl) (gHn m_186) rfl (by exact ⟨Nat.le_of_ble_eq_true rfl, rfl⟩) rfl (fun w G42 => gm_I (fun v43 hw => ?_))
            subst hw
            refine g_istore ((q_186 _).trans rfl) ?_
            refine g_aload ((q_186 _).trans rfl) rfl ?_
            refine g_iload ((q_186 _).trans rfl) rfl ?_
            refine g_push ((q_186 _).trans rfl) ?_
            refine g_iload ((q_186 _).trans rfl) rfl ?_
            refine g_ishl ((q_186 _).trans rfl) ?_
            refine g_push ((q_186 _).trans rfl) ?_
            refine g_ixor ((q_186 _).trans rfl) ?_
            refine g_iand ((q_186 _).trans rfl) ?_
            refine g_callV (kk := 1) ((q_186 _).trans rfl) (gHn m_186) rfl (by exact ⟨Nat.le_of_ble_eq_true rfl, rfl⟩) rfl (fun w G44 => gm_V (fun hw => ?_))
            subst hw
            refine g_aload ((q_186 _).trans rfl) rfl ?_
            refine g_aload ((q_186 _).trans rfl) rfl ?_
            refine g_getI ((q_186 _).trans rfl) (fun v46 => ?_)
            refine g_push ((q_186 _).trans rfl) ?_
            refine g_isub ((q_186 _).trans rfl) ?_
            refine g_callV (kk := 1) ((q_186 _).trans rfl) (gHn m_186) rfl (by exact ⟨Nat.le_of_ble_eq_true rfl, rfl⟩) rfl (fun w G47 => gm_V (fun hw => ?_))
            subst hw
            refine g_aload ((q_186 _).trans rfl) rfl ?_
            refine g_dup_ref ((q_186 _).trans rfl) ?_
            refine g_getI ((q_186 _).trans rfl) (fun v49 => ?_)
            refine g_push ((q_186 _).trans rfl) ?_
            refine g_isub ((q_186 _).trans rfl) ?_
            refine g_putf ((q_186 _).trans rfl) (fun G50 => ?_)
            refine g_iinc ((q_186 _).trans rfl) rfl ?_
            refine g_goto ((q_186 _).trans rfl) ?_
            exact gle.rf _
          · refine g_push ((q_186 _).trans rfl) ?_
            refine g_goto ((q_186 _).trans rfl) ?_
            refine g_callV (kk := 5) ((q_186 _).trans rfl) (gHn m_186) rfl (by exact ⟨Nat.le_of_ble_eq_true rfl, rfl⟩) rfl (fun w G51 => gm_I (fun v52 hw => ?_))
            subst hw
            refine g_istore ((q_186 _).trans rfl) ?_
            refine g_aload ((q_186 _).trans rfl) rfl ?_
            refine g_iload ((q_186 _).trans rfl) rfl ?_
            refine g_push ((q_186 _).trans rfl) ?_
            refine g_iload ((q_186 _).trans rfl) rfl ?_
            refine g_ishl ((q_186 _).trans rfl) ?_
            refine g_push ((q_186 _).trans rfl) ?_
            refine g_ixor ((q_186 _).trans rfl) ?_
            refine g_iand ((q_186 _).trans rfl) ?_
            refine g_callV (kk := 1) ((q_186 _).trans rfl) (gHn m_186) rfl (by exact ⟨Nat.le_of_ble_eq_true rfl, rfl⟩) rfl (fun w G53 => gm_V (fun hw => ?_))
            subst hw
            refine g_aload ((q_186 _).trans rfl) rfl ?_
            refine g_aload ((q_186 _).trans rfl) rfl ?_
            refine g_getI ((q_186 _).trans rfl) (fun v55 => ?_)
            refine g_push ((q_186 _).trans rfl) ?_
            refine g_isub ((q_186 _).trans rfl) ?_
            refine g_callV (kk := 1) ((q_186 _).trans rfl) (gHn m_186) rfl (by exact ⟨Nat.le_of_ble_eq_true rfl, rfl⟩) rfl (fun w G56 => gm_V (fun hw => ?_))
            subst hw
            refine g_aload ((q_186 _).trans rfl) rfl ?_
            refine g_dup_ref ((q_186 _).trans rfl) ?_
            refine g_getI ((q_186 _).trans rfl) (fun v58 => ?_)
            refine g_push ((q_186 _).trans rfl) ?_
            refine g_isub ((q_186 _).trans rfl) ?_
            refine g_putf ((q_186 _).trans rfl) (fun G59 => ?_)
            refine g_iinc ((q_186 _).trans rfl) rfl ?_
            refine g_goto ((q_186 _).trans rfl) ?_
            exact gle.rf _
    · refine g_iinc ((q_186 _).trans rfl) rfl ?_
      refine g_goto ((q_186 _).trans rfl) ?_
      exact gle.rf _
