/-! PURE 6: methods as trees, 5 (printed by mkpure.py) -/
set_option maxRecDepth 100000
theorem q_187 {K : gK} (pc : Nat) : gP K 187 pc = ((gL_187 K).lookup pc).getD o_none := rfl
noncomputable def t_187_0 (K : gK) (d : Nat) (l0 : Nat) (l1 : Int32) (G : gH) : Option gO := gRn K d 187 2 [some (.ref l0), some (.int l1), some (.int (0 : Int32)), none] [] G
theorem e_187_0 {K : gK} {d : Nat} {l0 : Nat} {l1 : Int32} {G : gH} : gle (t_187_0 K d l0 l1 G) (gRn K d 187 0 [some (.ref l0), some (.int l1), none, none] [] G) := by
  unfold t_187_0
  refine g_push ((q_187 _).trans rfl) ?_
  refine g_istore ((q_187 _).trans rfl) ?_
  exact gle.rf _
theorem c_187 {K : gK} {d : Nat} {l0 : Nat} {l1 : Int32} {G : gH} : gle (t_187_0 K d l0 l1 G) (gCa K (d + 1) 187 [.ref l0, .int l1] G) := by
  have h : gent (gMx 187) [.ref l0, .int l1] = [some (.ref l0), some (.int l1), none, none] := by
    show gent (gT 187).2.2.2.1 _ = _
    rw [m_187]; rfl
  exact fun r e => (congrArg (fun q => gRn K d 187 0 q [] G) h).trans (e_187_0 r e)
noncomputable def t_187_2_1 (K : gK) (d : Nat) (v10 : Int32) (l1 : Int32) (l0 : Nat) (l2 : Int32) (a6 : Nat) (v12 : Int32) (G11 : gH) : Option gO := if (v10 + (l1 * v12)) ≤ (9999 : Int32) then (gRn K d 187 2 [some (.ref l0), some (.int l1), some (.int (l2 + 1)), some (.ref a6)] [] G11) else (if narrow .boolean (.int (0 : Int32)) = .int (0 : Int32) then some (.inl (some (.int (0 : Int32))), G11) else none)
noncomputable def t_187_2_2 (K : gK) (d : Nat) (G8 : gH) (l0 : Nat) (a6 : Nat) (l1 : Int32) (l2 : Int32) (v10 : Int32) : Option gO := if g_cls G8 l0 = some 0 then (cI (gCa K d 188 [.ref l0, .ref a6, .int (1 : Int32)] G8) (t_187_2_1 K d v10 l1 l0 l2 a6)) else none
noncomputable def t_187_2_3 (K : gK) (d : Nat) (v7 : Int32) (l1 : Int32) (a6 : Nat) (l0 : Nat) (l2 : Int32) (v9 : Int32) (G8 : gH) : Option gO := if (9999 : Int32) < (v7 + (l1 * v9)) then (if narrow .boolean (.int (0 : Int32)) = .int (0 : Int32) then some (.inl (some (.int (0 : Int32))), G8) else none) else (rI G8 a6 4 6 (t_187_2_2 K d G8 l0 a6 l1 l2))
noncomputable def t_187_2_4 (K : gK) (d : Nat) (G5 : gH) (l0 : Nat) (a6 : Nat) (l1 : Int32) (l2 : Int32) (v7 : Int32) : Option gO := if g_cls G5 l0 = some 0 then (cI (gCa K d 188 [.ref l0, .ref a6, .int (0 : Int32)] G5) (t_187_2_3 K d v7 l1 a6 l0 l2)) else none
noncomputable def t_187_2_5 (K : gK) (d : Nat) (l0 : Nat) (l1 : Int32) (l2 : Int32) (a6 : Nat) (G5 : gH) : Option gO := if g_cls G5 a6 = some 4 then (rI G5 a6 4 5 (t_187_2_4 K d G5 l0 a6 l1 l2)) else none
noncomputable def t_187_2_6 (K : gK) (d : Nat) (G2 : gH) (l2 : Int32) (l0 : Nat) (l1 : Int32) (a4 : Nat) : Option gO := if g_cls G2 a4 = some 12 then (cR (gCa K d 178 [.ref a4, .int l2] G2) (t_187_2_5 K d l0 l1 l2)) else none
noncomputable def t_187_2_7 (K : gK) (d : Nat) (l2 : Int32) (l0 : Nat) (l1 : Int32) (v3 : Int32) (G2 : gH) : Option gO := if v3 ≤ l2 then (if narrow .boolean (.int (1 : Int32)) = .int (1 : Int32) then some (.inl (some (.int (1 : Int32))), G2) else none) else (rR G2 l0 0 0 (t_187_2_6 K d G2 l2 l0 l1))
noncomputable def t_187_2_8 (K : gK) (d : Nat) (G : gH) (l2 : Int32) (l0 : Nat) (l1 : Int32) (a1 : Nat) : Option gO := if g_cls G a1 = some 12 then (cI (gCa K d 110 [.ref a1] G) (t_187_2_7 K d l2 l0 l1)) else none
noncomputable def t_187_2 (K : gK) (d : Nat) (l0 : Nat) (l1 : Int32) (l2 : Int32) (o3 : Option Value) (G : gH) : Option gO := rR G l0 0 0 (t_187_2_8 K d G l2 l0 l1)
theorem e_187_2 {K : gK} {d : Nat} {l0 : Nat} {l1 : Int32} {l2 : Int32} {o3 : Option Value} {G : gH} : gle (t_187_2 K d l0 l1 l2 o3 G) (gRn K d 187 2 [some (.ref l0), some (.int l1), some (.int l2), o3] [] G) := by
  unfold t_187_2
  refine g_iload ((q_187 _).trans rfl) rfl ?_
  refine g_aload ((q_187 _).trans rfl) rfl ?_
  refine g_getR ((q_187 _).trans rfl) (fun a1 => ?_)
  refine g_callV (kk := 0) ((q_187 _).trans rfl) (gHn m_187) rfl (by exact ⟨Nat.le_of_ble_eq_true rfl, rfl⟩) rfl (fun w G2 => gm_I (fun v3 hw => ?_))
  subst hw
  refine g_cmpge ((q_187 _).trans rfl) (fun _ => ?_) (fun _ => ?_)
  · refine g_push ((q_187 _).trans rfl) ?_
    exact g_zret ((q_187 _).trans rfl)
  · refine g_aload ((q_187 _).trans rfl) rfl ?_
    refine g_getR ((q_187 _).trans rfl) (fun a4 => ?_)
    refine g_iload ((q_187 _).trans rfl) rfl ?_
    refine g_callV (kk := 1) ((q_187 _).trans rfl) (gHn m_187) rfl (by exact ⟨Nat.le_of_ble_eq_true rfl, rfl⟩) rfl (fun w G5 => gm_R (fun a6 hw => ?_))
    subst hw
    refine g_ccast ((q_187 _).trans rfl) ?_
    refine g_astore ((q_187 _).trans rfl) ?_
    refine g_aload ((q_187 _).trans rfl) rfl ?_
    refine g_getI ((q_187 _).trans rfl) (fun v7 => ?_)
    refine g_iload ((q_187 _).trans rfl) rfl ?_
    refine g_aload ((q_187 _).trans rfl) rfl ?_
    refine g_aload ((q_187 _).trans rfl) rfl ?_
    refine g_push ((q_187 _).trans rfl) ?_
    refine g_callV (kk := 2) ((q_187 _).trans rfl) (gHn m_187) rfl (by exact ⟨Nat.le_of_ble_eq_true rfl, rfl⟩) rfl (fun w G8 => gm_I (fun v9 hw => ?_))
    subst hw
    refine g_imul ((q_187 _).trans rfl) ?_
    refine g_iadd ((q_187 _).trans rfl) ?_
    refine g_push ((q_187 _).trans rfl) ?_
    refine g_cmpgt ((q_187 _).trans rfl) (fun _ => ?_) (fun _ => ?_)
    · refine g_push ((q_187 _).trans rfl) ?_
      exact g_zret ((q_187 _).trans rfl)
    · refine g_aload ((q_187 _).trans rfl) rfl ?_
      refine g_getI ((q_187 _).trans rfl) (fun v10 => ?_)
      refine g_iload ((q_187 _).trans rfl) rfl ?_
      refine g_aload ((q_187 _).trans rfl) rfl ?_
      refine g_aload ((q_187 _).trans rfl) rfl ?_
      refine g_push ((q_187 _).trans rfl) ?_
      refine g_callV (kk := 2) ((q_187 _).trans rfl) (gHn m_187) rfl (by exact ⟨Nat.le_of_ble_eq_true rfl, rfl⟩) rfl (fun w G11 => gm_I (fun v12 hw => ?_))
      subst hw
      refine g_imul ((q_187 _).trans rfl) ?_
      refine g_iadd ((q_187 _).trans rfl) ?_
      refine g_push ((q_187 _).trans rfl) ?_
      refine g_cmple ((q_187 _).trans rfl) (fun _ => ?_) (fun _ => ?_)
      · refine g_iinc ((q_187 _).trans rfl) rfl ?_
        refine g_goto ((q_187 _).trans rfl) ?_
        exact gle.rf _
      · refine g_push ((q_187 _).trans rfl) ?_
        exact g_zret ((q_187 _).trans rfl)
theorem q_188 {K : gK} (pc : Nat) : gP K 188 pc = ((gL_188 K).lookup pc).getD o_none := rfl
noncomputable def t_188_0 (K : gK) (d : Nat) (l0 : Nat) (l1 : Nat) (l2 : Int32) (G : gH) : Option gO := gRn K d 188 5 [some (.ref l0), some (.ref l1), some (.int l2), some (.int (0 : Int32)), some (.int (0 : Int32)), none] [] G
theorem e_188_0 {K : gK} {d : Nat} {l0 : Nat} {l1 : Nat} {l2 : Int32} {G : gH} : gle (t_188_0 K d l0 l1 l2 G) (gRn K d 188 0 [some (.ref l0), some (.ref l1), some (.int l2), none, none, none] [] G) := by
  unfold t_188_0
  refine g_push ((q_188 _).trans rfl) ?_
  refine g_istore ((q_188 _).trans rfl) ?_
  refine g_push ((q_188 _).trans rfl) ?_
  refine g_istore ((q_188 _).trans rfl) ?_
  exact gle.rf _
theorem c_188 {K : gK} {d : Nat} {l0 : Nat} {l1 : Nat} {l2 : Int32} {G : gH} : gle (t_188_0 K d l0 l1 l2 G) (gCa K (d + 1) 188 [.ref l0, .ref l1, .int l2] G) := by
  have h : gent (gMx 188) [.ref l0, .ref l1, .int l2] = [some (.ref l0), some (.ref l1), some (.int l2), none, none, none] := by
    show gent (gT 188).2.2.2.1 _ = _
    rw [m_188]; rfl
  exact fun r e => (congrArg (fun q => gRn K d 188 0 q [] G) h).trans (e_188_0 r e)
noncomputable def t_188_5_1 (K : gK) (d : Nat) (l2 : Int32) (l0 : Nat) (l1 : Nat) (l3 : Int32) (l4 : Int32) (a6 : Nat) (G5 : gH) (v9 : Int32) : Option gO := if v9 = l2 then (gRn K d 188 5 [some (.ref l0), some (.ref l1), some (.int l2), some (.int (l3 + (1 : Int32))), some (.int (l4 + 1)), some (.ref a6)] [] G5) else (gRn K d 188 5 [some (.ref l0), some (.ref l1), some (.int l2), some (.int (l3 + (0 : Int32))), some (.int (l4 + 1)), some (.ref a6)] [] G5)
noncomputable def t_188_5_2 (K : gK) (d : Nat) (l2 : Int32) (l0 : Nat) (l1 : Nat) (l3 : Int32) (l4 : Int32) (a6 : Nat) (G5 : gH) (v10 : Int32) : Option gO := if v10 = 0 then (if l2 = 0 then (gRn K d 188 5 [some (.ref l0), some (.ref l1), some (.int l2), some (.int (l3 + (2 : Int32))), some (.int (l4 + 1)), some (.ref a6)] [] G5) else (gRn K d 188 5 [some (.ref l0), some (.ref l1), some (.int l2), some (.int (l3 + (0 : Int32))), some (.int (l4 + 1)), some (.ref a6)] [] G5)) else (gRn K d 188 5 [some (.ref l0), some (.ref l1), some (.int l2), some (.int (l3 + 1)), some (.int (l4 + 1)), some (.ref a6)] [] G5)
noncomputable def t_188_5_3 (K : gK) (d : Nat) (G5 : gH) (a6 : Nat) (l2 : Int32) (l0 : Nat) (l1 : Nat) (l3 : Int32) (l4 : Int32) (v8 : Int32) : Option gO := if v8 = 0 then (rI G5 a6 7 3 (t_188_5_1 K d l2 l0 l1 l3 l4 a6 G5)) else (rI G5 l1 4 1 (t_188_5_2 K d l2 l0 l1 l3 l4 a6 G5))
noncomputable def t_188_5_4 (K : gK) (d : Nat) (l1 : Nat) (G5 : gH) (l0 : Nat) (a6 : Nat) (l2 : Int32) (l3 : Int32) (l4 : Int32) (a7 : Nat) : Option gO := if a7 = l1 then (rI G5 l0 0 10 (t_188_5_3 K d G5 a6 l2 l0 l1 l3 l4)) else (gRn K d 188 5 [some (.ref l0), some (.ref l1), some (.int l2), some (.int l3), some (.int (l4 + 1)), some (.ref a6)] [] G5)
noncomputable def t_188_5_5 (K : gK) (d : Nat) (l1 : Nat) (l0 : Nat) (l2 : Int32) (l3 : Int32) (l4 : Int32) (a6 : Nat) (G5 : gH) : Option gO := if g_cls G5 a6 = some 7 then (rR G5 a6 7 1 (t_188_5_4 K d l1 G5 l0 a6 l2 l3 l4)) else none
noncomputable def t_188_5_6 (K : gK) (d : Nat) (G2 : gH) (l4 : Int32) (l1 : Nat) (l0 : Nat) (l2 : Int32) (l3 : Int32) (a4 : Nat) : Option gO := if g_cls G2 a4 = some 12 then (cR (gCa K d 178 [.ref a4, .int l4] G2) (t_188_5_5 K d l1 l0 l2 l3 l4)) else none
noncomputable def t_188_5_7 (K : gK) (d : Nat) (l4 : Int32) (l3 : Int32) (l0 : Nat) (l1 : Nat) (l2 : Int32) (v3 : Int32) (G2 : gH) : Option gO := if v3 ≤ l4 then (some (.inl (some (.int l3)), G2)) else (rR G2 l0 0 2 (t_188_5_6 K d G2 l4 l1 l0 l2 l3))
noncomputable def t_188_5_8 (K : gK) (d : Nat) (G : gH) (l4 : Int32) (l3 : Int32) (l0 : Nat) (l1 : Nat) (l2 : Int32) (a1 : Nat) : Option gO := if g_cls G a1 = some 12 then (cI (gCa K d 110 [.ref a1] G) (t_188_5_7 K d l4 l3 l0 l1 l2)) else none
noncomputable def t_188_5 (K : gK) (d : Nat) (l0 : Nat) (l1 : Nat) (l2 : Int32) (l3 : Int32) (l4 : Int32) (o5 : Option Value) (G : gH) : Option gO := rR G l0 0 2 (t_188_5_8 K d G l4 l3 l0 l1 l2)
theorem e_188_5 {K : gK} {d : Nat} {l0 : Nat} {l1 : Nat} {l2 : Int32} {l3 : Int32} {l4 : Int32} {o5 : Option Value} {G : gH} : gle (t_188_5 K d l0 l1 l2 l3 l4 o5 G) (gRn K d 188 5 [some (.ref l0), some (.ref l1), some (.int l2), some (.int l3), some (.int l4), o5] [] G) := by
  unfold t_188_5
  refine g_iload ((q_188 _).trans rfl) rfl ?_
  refine g_aload ((q_188 _).trans rfl) rfl ?_
  refine g_getR ((q_188 _).trans rfl) (fun a1 => ?_)
  refine g_callV (kk := 0) ((q_188 _).trans rfl) (gHn m_188) rfl (by exact ⟨Nat.le_of_ble_eq_true rfl, rfl⟩) rfl (fun w G2 => gm_I (fun v3 hw => ?_))
  subst hw
  refine g_cmpge ((q_188 _).trans rfl) (fun _ => ?_) (fun _ => ?_)
  · refine g_iload ((q_188 _).trans rfl) rfl ?_
    exact g_iret ((q_188 _).trans rfl)
  · refine g_aload ((q_188 _).trans rfl) rfl ?_
    refine g_getR ((q_188 _).trans rfl) (fun a4 => ?_)
    refine g_iload ((q_188 _).trans rfl) rfl ?_
    refine g_callV (kk := 1) ((q_188 _).trans rfl) (gHn m_188) rfl (by exact ⟨Nat.le_of_ble_eq_true rfl, rfl⟩) rfl (fun w G5 => gm_R (fun a6 hw => ?_))
    subst hw
    refine g_ccast ((q_188 _).trans rfl) ?_
    refine g_astore ((q_188 _).trans rfl) ?_
    refine g_aload ((q_188 _).trans rfl) rfl ?_
    refine g_getR ((q_188 _).trans rfl) (fun a7 => ?_)
    refine g_aload ((q_188 _).trans rfl) rfl ?_
    refine g_acmpne ((q_188 _).trans rfl) (fun _ => ?_) (fun _ => ?_)
    · refine g_aload ((q_188 _).trans rfl) rfl ?_
      refine g_getI ((q_188 _).trans rfl) (fun v8 => ?_)
      refine g_ifne ((q_188 _).trans rfl) (fun _ => ?_) (fun _ => ?_)
      · refine g_iload ((q_188 _).trans rfl) rfl ?_
        refine g_aload ((q_188 _).trans rfl) rfl ?_
        refine g_getI ((q_188 _).trans rfl) (fun v9 => ?_)
        refine g_iload ((q_188 _).trans rfl) rfl ?_
        refine g_cmpne ((q_188 _).trans rfl) (fun _ => ?_) (fun _ => ?_)
        · refine g_push ((q_188 _).trans rfl) ?_
          refine g_goto ((q_188 _).trans rfl) ?_
          refine g_iadd ((q_188 _).trans rfl) ?_
          refine g_istore ((q_188 _).trans rfl) ?_
          refine g_goto ((q_188 _).trans rfl) ?_
          refine g_iinc ((q_188 _).trans rfl) rfl ?_
          refine g_goto ((q_188 _).trans rfl) ?_
          exact gle.rf _
        · refine g_push ((q_188 _).trans rfl) ?_
          refine g_iadd ((q_188 _).trans rfl) ?_
          refine g_istore ((q_188 _).trans rfl) ?_
          refine g_goto ((q_188 _).trans rfl) ?_
          refine g_iinc ((q_188 _).trans rfl) rfl ?_
          refine g_goto ((q_188 _).trans rfl) ?_
          exact gle.rf _
      · refine g_aload ((q_188 _).trans rfl) rfl ?_
        refine g_getI ((q_188 _).trans rfl) (fun v10 => ?_)
        refine g_ifeq ((q_188 _).trans rfl) (fun _ => ?_) (fun _ => ?_)
        · refine g_iload ((q_188 _).trans rfl) rfl ?_
          refine g_iload ((q_188 _).trans rfl) rfl ?_
          refine g_ifeq ((q_188 _).trans rfl) (fun _ => ?_) (fun _ => ?_)
          · refine g_push ((q_188 _).trans rfl) ?_
            refine g_iadd ((q_188 _).trans rfl) ?_
            refine g_istore ((q_188 _).trans rfl) ?_
            refine g_iinc ((q_188 _).trans rfl) rfl ?_
            refine g_goto ((q_188 _).trans rfl) ?_
            exact gle.rf _
          · refine g_push ((q_188 _).trans rfl) ?_
            refine g_goto ((q_188 _).trans rfl) ?_
            refine g_iadd ((q_188 _).trans rfl) ?_
            refine g_istore ((q_188 _).trans rfl) ?_
            refine g_iinc ((q_188 _).trans rfl) rfl ?_
            refine g_goto ((q_188 _).trans rfl) ?_
            exact gle.rf _
        · refine g_iinc ((q_188 _).trans rfl) rfl ?_
          refine g_goto ((q_188 _).trans rfl) ?_
          refine g_iinc ((q_188 _).trans rfl) rfl ?_
          refine g_goto ((q_188 _).trans rfl) ?_
          exact gle.rf _
    · refine g_iinc ((q_188 _).trans rfl) rfl ?_
      refine g_goto ((q_188 _).trans rfl) ?_
      exact gle.rf _
theorem q_189 {K : gK} (pc : Nat) : gP K 189 pc = ((gL_189 K).lookup pc).getD o_none := rfl
noncomputable def t_189_0_1 (K : gK) (d : Nat) (a2 : Nat) (G6 : gH) : Option gO := some (.inl (some (.ref a2)), G6)
noncomputable def t_189_0_2 (K : gK) (d : Nat) (a2 : Nat) (G8 : gH) : Option gO := some (.inl (some (.ref a2)), G8)
noncomputable def t_189_0_3 (K : gK) (d : Nat) (a2 : Nat) (v5 : Int32) (G4 : gH) : Option gO := if v5 = 0 then (cV (gCa K d 153 [.int (1 : Int32)] G4) (t_189_0_1 K d a2)) else (cV (gCa K d 153 [.int (0 : Int32)] G4) (t_189_0_2 K d a2))
noncomputable def t_189_0_4 (K : gK) (d : Nat) (G1 : gH) (a2 : Nat) (a3 : Nat) : Option gO := if g_cls G1 a3 = some 12 then (cI (gCa K d 150 [.ref a3] G1) (t_189_0_3 K d a2)) else none
noncomputable def t_189_0_5 (K : gK) (d : Nat) (a2 : Nat) (G1 : gH) : Option gO := rR G1 a2 8 0 (t_189_0_4 K d G1 a2)
noncomputable def t_189_0 (K : gK) (d : Nat) (l0 : Nat) (l1 : Int32) (G : gH) : Option gO := if g_cls G l0 = some 0 then (cR (gCa K d 181 [.ref l0, .int l1] G) (t_189_0_5 K d)) else none
theorem e_189_0 {K : gK} {d : Nat} {l0 : Nat} {l1 : Int32} {G : gH} : gle (t_189_0 K d l0 l1 G) (gRn K d 189 0 [some (.ref l0), some (.int l1), none] [] G) := by
  unfold t_189_0
  refine g_aload ((q_189 _).trans rfl) rfl ?_
  refine g_iload ((q_189 _).trans rfl) rfl ?_
  refine g_callV (kk := 1) ((q_189 _).trans rfl) (gHn m_189) rfl (by exact ⟨Nat.le_of_ble_eq_true rfl, rfl⟩) rfl (fun w G1 => gm_R (fun a2 hw => ?_))
  subst hw
  refine g_astore ((q_189 _).trans rfl) ?_
  refine g_aload ((q_189 _).trans rfl) rfl ?_
  refine g_getR ((q_189 _).trans rfl) (fun a3 => ?_)
  refine g_callV (kk := 0) ((q_189 _).trans rfl) (gHn m_189) rfl (by exact ⟨Nat.le_of_ble_eq_true rfl, rfl⟩) rfl (fun w G4 => gm_I (fun v5 hw => ?_))
  subst hw
  refine g_ifne ((q_189 _).trans rfl) (fun _ => ?_) (fun _ => ?_)
  · refine g_push ((q_189 _).trans rfl) ?_
    refine g_goto ((q_189 _).trans rfl) ?_
    refine g_callS (kk := 1) ((q_189 _).trans rfl) (gHn m_189) (by exact ⟨Nat.le_of_ble_eq_true rfl, Nat.le_of_ble_eq_true rfl, rfl⟩) rfl (fun w G6 => gm_V (fun hw => ?_))
    subst hw
    refine g_aload ((q_189 _).trans rfl) rfl ?_
    exact g_aret ((q_189 _).trans rfl)
  · refine g_push ((q_189 _).trans rfl) ?_
    refine g_callS (kk := 1) ((q_189 _).trans rfl) (gHn m_189) (by exact ⟨Nat.le_of_ble_eq_true rfl, Nat.le_of_ble_eq_true rfl, rfl⟩) rfl (fun w G8 => gm_V (fun hw => ?_))
    subst hw
    refine g_aload ((q_189 _).trans rfl) rfl ?_
    exact g_aret ((q_189 _).trans rfl)
theorem c_189 {K : gK} {d : Nat} {l0 : Nat} {l1 : Int32} {G : gH} : gle (t_189_0 K d l0 l1 G) (gCa K (d + 1) 189 [.ref l0, .int l1] G) := by
  have h : gent (gMx 189) [.ref l0, .int l1] = [some (.ref l0), some (.int l1), none] := by
    show gent (gT 189).2.2.2.1 _ = _
    rw [m_189]; rfl
  exact fun r e => (congrArg (fun q => gRn K d 189 0 q [] G) h).trans (e_189_0 r e)
theorem q_190 {K : gK} (pc : Nat) : gP K 190 pc = ((gL_190 K).lookup pc).getD o_none := rfl
noncomputable def t_190_0_1 (K : gK) (d : Nat) (l0 : Nat) (v10 : Int32) (G9 : gH) : Option gO := gRn K d 190 38 [some (.ref l0), some (.int v10), some (.int (0 : Int32)), none] [] G9
noncomputable def t_190_0_2 (K : gK) (d : Nat) (G6 : gH) (a4 : Nat) (l0 : Nat) (v8 : Int32) : Option gO := if g_cls G6 a4 = some 4 then (cI (gCa K d 223 [.ref a4, .int v8] G6) (t_190_0_1 K d l0)) else none
noncomputable def t_190_0_3 (K : gK) (d : Nat) (a4 : Nat) (l0 : Nat) (a7 : Nat) (G6 : gH) : Option gO := if g_cls G6 a7 = some 9 then (rI G6 a7 9 1 (t_190_0_2 K d G6 a4 l0)) else none
noncomputable def t_190_0_4 (K : gK) (d : Nat) (G2 : gH) (a4 : Nat) (l0 : Nat) (a5 : Nat) : Option gO := if g_cls G2 a5 = some 12 then (cR (gCa K d 178 [.ref a5, .int (0 : Int32)] G2) (t_190_0_3 K d a4 l0)) else none
noncomputable def t_190_0_5 (K : gK) (d : Nat) (G2 : gH) (l0 : Nat) (a4 : Nat) : Option gO := rR G2 l0 8 0 (t_190_0_4 K d G2 a4 l0)
noncomputable def t_190_0_6 (K : gK) (d : Nat) (l0 : Nat) (a3 : Nat) (G2 : gH) : Option gO := if g_cls G2 a3 = some 9 then (rR G2 a3 9 0 (t_190_0_5 K d G2 l0)) else none
noncomputable def t_190_0_7 (K : gK) (d : Nat) (G : gH) (l0 : Nat) (a1 : Nat) : Option gO := if g_cls G a1 = some 12 then (cR (gCa K d 178 [.ref a1, .int (0 : Int32)] G) (t_190_0_6 K d l0)) else none
noncomputable def t_190_0 (K : gK) (d : Nat) (l0 : Nat) (G : gH) : Option gO := rR G l0 8 0 (t_190_0_7 K d G l0)
theorem e_190_0 {K : gK} {d : Nat} {l0 : Nat} {G : gH} : gle (t_190_0 K d l0 G) (gRn K d 190 0 [some (.ref l0), none, none, none] [] G) := by
  unfold t_190_0
  refine g_aload ((q_190 _).trans rfl) rfl ?_
  refine g_getR ((q_190 _).trans rfl) (fun a1 => ?_)
  refine g_push ((q_190 _).trans rfl) ?_
  refine g_callV (kk := 1) ((q_190 _).trans rfl) (gHn m_190) rfl (by exact ⟨Nat.le_of_ble_eq_true rfl, rfl⟩) rfl (fun w G2 => gm_R (fun a3 hw => ?_))
  subst hw
  refine g_ccast ((q_190 _).trans rfl) ?_
  refine g_getR ((q_190 _).trans rfl) (fun a4 => ?_)
  refine g_aload ((q_190 _).trans rfl) rfl ?_
  refine g_getR ((q_190 _).trans rfl) (fun a5 => ?_)
  refine g_push ((q_190 _).trans rfl) ?_
  refine g_callV (kk := 1) ((q_190 _).trans rfl) (gHn m_190) rfl (by exact ⟨Nat.le_of_ble_eq_true rfl, rfl⟩) rfl (fun w G6 => gm_R (fun a7 hw => ?_))
  subst hw
  refine g_ccast ((q_190 _).trans rfl) ?_
  refine g_getI ((q_190 _).trans rfl) (fun v8 => ?_)
  refine g_callV (kk := 1) ((q_190 _).trans rfl) (gHn m_190) rfl (by exact ⟨Nat.le_of_ble_eq_true rfl, rfl⟩) rfl (fun w G9 => gm_I (fun v10 hw => ?_))
  subst hw
  refine g_istore ((q_190 _).trans rfl) ?_
  refine g_push ((q_190 _).trans rfl) ?_
  refine g_istore ((q_190 _).trans rfl) ?_
  exact gle.rf _
theorem c_190 {K : gK} {d : Nat} {l0 : Nat} {G : gH} : gle (t_190_0 K d l0 G) (gCa K (d + 1) 190 [.ref l0] G) := by
  have h : gent (gMx 190) [.ref l0] = [some (.ref l0), none, none, none] := by
    show gent (gT 190).2.2.2.1 _ = _
    rw [m_190]; rfl
  exact fun r e => (congrArg (fun q => gRn K d 190 0 q [] G) h).trans (e_190_0 r e)
noncomputable def t_190_38_1 (K : gK) (d : Nat) (l0 : Nat) (l2 : Int32) (a6 : Nat) (v12 : Int32) (G11 : gH) : Option gO := gRn K d 190 38 [some (.ref l0), some (.int v12), some (.int (l2 + 1)), some (.ref a6)] [] G11
noncomputable def t_190_38_2 (K : gK) (d : Nat) (l1 : Int32) (l0 : Nat) (l2 : Int32) (a6 : Nat) (v10 : Int32) (G9 : gH) : Option gO := cI (gCa K d 224 [.int l1, .int v10] G9) (t_190_38_1 K d l0 l2 a6)
noncomputable def t_190_38_3 (K : gK) (d : Nat) (G5 : gH) (a7 : Nat) (l1 : Int32) (l0 : Nat) (l2 : Int32) (a6 : Nat) (v8 : Int32) : Option gO := if g_cls G5 a7 = some 4 then (cI (gCa K d 223 [.ref a7, .int v8] G5) (t_190_38_2 K d l1 l0 l2 a6)) else none
noncomputable def t_190_38_4 (K : gK) (d : Nat) (G5 : gH) (a6 : Nat) (l1 : Int32) (l0 : Nat) (l2 : Int32) (a7 : Nat) : Option gO := rI G5 a6 9 1 (t_190_38_3 K d G5 a7 l1 l0 l2 a6)
noncomputable def t_190_38_5 (K : gK) (d : Nat) (l1 : Int32) (l0 : Nat) (l2 : Int32) (a6 : Nat) (G5 : gH) : Option gO := if g_cls G5 a6 = some 9 then (rR G5 a6 9 0 (t_190_38_4 K d G5 a6 l1 l0 l2)) else none
noncomputable def t_190_38_6 (K : gK) (d : Nat) (G2 : gH) (l2 : Int32) (l1 : Int32) (l0 : Nat) (a4 : Nat) : Option gO := if g_cls G2 a4 = some 12 then (cR (gCa K d 178 [.ref a4, .int l2] G2) (t_190_38_5 K d l1 l0 l2)) else none
noncomputable def t_190_38_7 (K : gK) (d : Nat) (l2 : Int32) (l1 : Int32) (l0 : Nat) (v3 : Int32) (G2 : gH) : Option gO := if v3 ≤ l2 then (some (.inl (some (.int l1)), G2)) else (rR G2 l0 8 0 (t_190_38_6 K d G2 l2 l1 l0))
noncomputable def t_190_38_8 (K : gK) (d : Nat) (G : gH) (l2 : Int32) (l1 : Int32) (l0 : Nat) (a1 : Nat) : Option gO := if g_cls G a1 = some 12 then (cI (gCa K d 110 [.ref a1] G) (t_190_38_7 K d l2 l1 l0)) else none
noncomputable def t_190_38 (K : gK) (d : Nat) (l0 : Nat) (l1 : Int32) (l2 : Int32) (o3 : Option Value) (G : gH) : Option gO := rR G l0 8 0 (t_190_38_8 K d G l2 l1 l0)
theorem e_190_38 {K : gK} {d : Nat} {l0 : Nat} {l1 : Int32} {l2 : Int32} {o3 : Option Value} {G : gH} : gle (t_190_38 K d l0 l1 l2 o3 G) (gRn K d 190 38 [some (.ref l0), some (.int l1), some (.int l2), o3] [] G) := by
  unfold t_190_38
  refine g_iload ((q_190 _).trans rfl) rfl ?_
  refine g_aload ((q_190 _).trans rfl) rfl ?_
  refine g_getR ((q_190 _).trans rfl) (fun a1 => ?_)
  refine g_callV (kk := 0) ((q_190 _).trans rfl) (gHn m_190) rfl (by exact ⟨Nat.le_of_ble_eq_true rfl, rfl⟩) rfl (fun w G2 => gm_I (fun v3 hw => ?_))
  subst hw
  refine g_cmpge ((q_190 _).trans rfl) (fun _ => ?_) (fun _ => ?_)
  · refine g_iload ((q_190 _).trans rfl) rfl ?_
    exact g_iret ((q_190 _).trans rfl)
  · refine g_aload ((q_190 _).trans rfl) rfl ?_
    refine g_getR ((q_190 _).trans rfl) (fun a4 => ?_)
    refine g_iload ((q_190 _).trans rfl) rfl ?_
    refine g_callV (kk := 1) ((q_190 _).trans rfl) (gHn m_190) rfl (by exact ⟨Nat.le_of_ble_eq_true rfl, rfl⟩) rfl (fun w G5 => gm_R (fun a6 hw => ?_))
    subst hw
    refine g_ccast ((q_190 _).trans rfl) ?_
    refine g_astore ((q_190 _).trans rfl) ?_
    refine g_iload ((q_190 _).trans rfl) rfl ?_
    refine g_aload ((q_190 _).trans rfl) rfl ?_
    refine g_getR ((q_190 _).trans rfl) (fun a7 => ?_)
    refine g_aload ((q_190 _).trans rfl) rfl ?_
    refine g_getI ((q_190 _).trans rfl) (fun v8 => ?_)
    refine g_callV (kk := 1) ((q_190 _).trans rfl) (gHn m_190) rfl (by exact ⟨Nat.le_of_ble_eq_true rfl, rfl⟩) rfl (fun w G9 => gm_I (fun v10 hw => ?_))
    subst hw
    refine g_callS (kk := 2) ((q_190 _).trans rfl) (gHn m_190) (by exact ⟨Nat.le_of_ble_eq_true rfl, Nat.le_of_ble_eq_true rfl, rfl⟩) rfl (fun w G11 => gm_I (fun v12 hw => ?_))
    subst hw
    refine g_istore ((q_190 _).trans rfl) ?_
    refine g_iinc ((q_190 _).trans rfl) rfl ?_
    refine g_goto ((q_190 _).trans rfl) ?_
    exact gle.rf _
theorem q_191 {K : gK} (pc : Nat) : gP K 191 pc = ((gL_191 K).lookup pc).getD o_none := rfl
noncomputable def t_191_0 (K : gK) (d : Nat) (l0 : Nat) (l1 : Nat) (l2 : Int32) (l3 : Int32) (G : gH) : Option gO := gRn K d 191 3 [some (.ref l0), some (.ref l1), some (.int l2), some (.int l3), some (.int (0 : Int32)), none, none, none] [] G
theorem e_191_0 {K : gK} {d : Nat} {l0 : Nat} {l1 : Nat} {l2 : Int32} {l3 : Int32} {G : gH} : gle (t_191_0 K d l0 l1 l2 l3 G) (gRn K d 191 0 [some (.ref l0), some (.ref l1), some (.int l2), some (.int l3), none, none, none, none] [] G) := by
  unfold t_191_0
  refine g_push ((q_191 _).trans rfl) ?_
  refine g_istore ((q_191 _).trans rfl) ?_
  exact gle.rf _
theorem c_191 {K : gK} {d : Nat} {l0 : Nat} {l1 : Nat} {l2 : Int32} {l3 : Int32} {G : gH} : gle (t_191_0 K d l0 l1 l2 l3 G) (gCa K (d + 1) 191 [.ref l0, .ref l1, .int l2, .int l3] G) := by
  have h : gent (gMx 191) [.ref l0, .ref l1, .int l2, .int l3] = [some (.ref l0), some (.ref l1), some (.int l2), some (.int l3), none, none, none, none] := by
    show gent (gT 191).2.2.2.1 _ = _
    rw [m_191]; rfl
  exact fun r e => (congrArg (fun q => gRn K d 191 0 q [] G) h).trans (e_191_0 r e)
noncomputable def t_191_3_1 (K : gK) (d : Nat) (v7 : Int32) (l2 : Int32) (v13 : Int32) (l3 : Int32) (l0 : Nat) (l1 : Nat) (l4 : Int32) (a6 : Nat) (a8 : Nat) (v15 : Int32) (G14 : gH) : Option gO := if (v7 * l2) ≤ (v13 + (l3 * v15)) then (gRn K d 191 3 [some (.ref l0), some (.ref l1), some (.int l2), some (.int l3), some (.int (l4 + 1)), some (.ref a6), some (.int (v7 * l2)), some (.ref a8)] [] G14) else (if narrow .boolean (.int (0 : Int32)) = .int (0 : Int32) then some (.inl (some (.int (0 : Int32))), G14) else none)
noncomputable def t_191_3_2 (K : gK) (d : Nat) (G10 : gH) (l0 : Nat) (a8 : Nat) (v7 : Int32) (l2 : Int32) (l3 : Int32) (l1 : Nat) (l4 : Int32) (a6 : Nat) (v13 : Int32) : Option gO := if g_cls G10 l0 = some 0 then (cI (gCa K d 188 [.ref l0, .ref a8, .int (1 : Int32)] G10) (t_191_3_1 K d v7 l2 v13 l3 l0 l1 l4 a6 a8)) else none
noncomputable def t_191_3_3 (K : gK) (d : Nat) (l0 : Nat) (l1 : Nat) (l2 : Int32) (l3 : Int32) (l4 : Int32) (a6 : Nat) (v7 : Int32) (a8 : Nat) (G10 : gH) (v12 : Int32) : Option gO := if v12 = 0 then (gRn K d 191 3 [some (.ref l0), some (.ref l1), some (.int l2), some (.int l3), some (.int (l4 + 1)), some (.ref a6), some (.int (v7 * l2)), some (.ref a8)] [] G10) else (rI G10 a8 4 6 (t_191_3_2 K d G10 l0 a8 v7 l2 l3 l1 l4 a6))
noncomputable def t_191_3_4 (K : gK) (d : Nat) (v9 : Int32) (l3 : Int32) (v7 : Int32) (l2 : Int32) (a8 : Nat) (l0 : Nat) (l1 : Nat) (l4 : Int32) (a6 : Nat) (v11 : Int32) (G10 : gH) : Option gO := if (v9 + (l3 * v11)) < (v7 * l2) then (if narrow .boolean (.int (0 : Int32)) = .int (0 : Int32) then some (.inl (some (.int (0 : Int32))), G10) else none) else (rI G10 a8 4 1 (t_191_3_3 K d l0 l1 l2 l3 l4 a6 v7 a8 G10))
noncomputable def t_191_3_5 (K : gK) (d : Nat) (G5 : gH) (l0 : Nat) (a8 : Nat) (l3 : Int32) (v7 : Int32) (l2 : Int32) (l1 : Nat) (l4 : Int32) (a6 : Nat) (v9 : Int32) : Option gO := if g_cls G5 l0 = some 0 then (cI (gCa K d 188 [.ref l0, .ref a8, .int (0 : Int32)] G5) (t_191_3_4 K d v9 l3 v7 l2 a8 l0 l1 l4 a6)) else none
noncomputable def t_191_3_6 (K : gK) (d : Nat) (G5 : gH) (l0 : Nat) (l3 : Int32) (v7 : Int32) (l2 : Int32) (l1 : Nat) (l4 : Int32) (a6 : Nat) (a8 : Nat) : Option gO := rI G5 a8 4 5 (t_191_3_5 K d G5 l0 a8 l3 v7 l2 l1 l4 a6)
noncomputable def t_191_3_7 (K : gK) (d : Nat) (G5 : gH) (a6 : Nat) (l0 : Nat) (l3 : Int32) (l2 : Int32) (l1 : Nat) (l4 : Int32) (v7 : Int32) : Option gO := rR G5 a6 9 0 (t_191_3_6 K d G5 l0 l3 v7 l2 l1 l4 a6)
noncomputable def t_191_3_8 (K : gK) (d : Nat) (l0 : Nat) (l3 : Int32) (l2 : Int32) (l1 : Nat) (l4 : Int32) (a6 : Nat) (G5 : gH) : Option gO := if g_cls G5 a6 = some 9 then (rI G5 a6 9 1 (t_191_3_7 K d G5 a6 l0 l3 l2 l1 l4)) else none
noncomputable def t_191_3_9 (K : gK) (d : Nat) (G2 : gH) (l4 : Int32) (l0 : Nat) (l3 : Int32) (l2 : Int32) (l1 : Nat) (a4 : Nat) : Option gO := if g_cls G2 a4 = some 12 then (cR (gCa K d 178 [.ref a4, .int l4] G2) (t_191_3_8 K d l0 l3 l2 l1 l4)) else none
noncomputable def t_191_3_10 (K : gK) (d : Nat) (l4 : Int32) (l1 : Nat) (l0 : Nat) (l3 : Int32) (l2 : Int32) (v3 : Int32) (G2 : gH) : Option gO := if v3 ≤ l4 then (if narrow .boolean (.int (1 : Int32)) = .int (1 : Int32) then some (.inl (some (.int (1 : Int32))), G2) else none) else (rR G2 l1 8 0 (t_191_3_9 K d G2 l4 l0 l3 l2 l1))
noncomputable def t_191_3_11 (K : gK) (d : Nat) (G : gH) (l4 : Int32) (l1 : Nat) (l0 : Nat) (l3 : Int32) (l2 : Int32) (a1 : Nat) : Option gO := if g_cls G a1 = some 12 then (cI (gCa K d 110 [.ref a1] G) (t_191_3_10 K d l4 l1 l0 l3 l2)) else none
noncomputable def t_191_3 (K : gK) (d : Nat) (l0 : Nat) (l1 : Nat) (l2 : Int32) (l3 : Int32) (l4 : Int32) (o5 : Option Value) (o6 : Option Value) (o7 : Option Value) (G : gH) : Option gO := rR G l1 8 0 (t_191_3_11 K d G l4 l1 l0 l3 l2)
theorem e_191_3 {K : gK} {d : Nat} {l0 : Nat} {l1 : Nat} {l2 : Int32} {l3 : Int32} {l4 : Int32} {o5 : Option Value} {o6 : Option Value} {o7 : Option Value} {G : gH} : gle (t_191_3 K d l0 l1 l2 l3 l4 o5 o6 o7 G) (gRn K d 191 3 [some (.ref l0), some (.ref l1), some (.int l2), some (.int l3), some (.int l4), o5, o6, o7] [] G) := by
  unfold t_191_3
  refine g_iload ((q_191 _).trans rfl) rfl ?_
  refine g_aload ((q_191 _).trans rfl) rfl ?_
  refine g_getR ((q_191 _).trans rfl) (fun a1 => ?_)
  refine g_callV (kk := 0) ((q_191 _).trans rfl) (gHn m_191) rfl (by exact ⟨Nat.le_of_ble_eq_true rfl, rfl⟩) rfl (fun w G2 => gm_I (fun v3 hw => ?_))
  subst hw
  refine g_cmpge ((q_191 _).trans rfl) (fun _ => ?_) (fun _ => ?_)
  · refine g_push ((q_191 _).trans rfl) ?_
    exact g_zret ((q_191 _).trans rfl)
  · refine g_aload ((q_191 _).trans rfl) rfl ?_
    refine g_getR ((q_191 _).trans rfl) (fun a4 => ?_)
    refine g_iload ((q_191 _).trans rfl) rfl ?_
    refine g_callV (kk := 1) ((q_191 _).trans rfl) (gHn m_191) rfl (by exact ⟨Nat.le_of_ble_eq_true rfl, rfl⟩) rfl (fun w G5 => gm_R (fun a6 hw => ?_))
    subst hw
    refine g_ccast ((q_191 _).trans rfl) ?_
    refine g_astore ((q_191 _).trans rfl) ?_
    refine g_aload ((q_191 _).trans rfl) rfl ?_
    refine g_getI ((q_191 _).trans rfl) (fun v7 => ?_)
    refine g_iload ((q_191 _).trans rfl) rfl ?_
    refine g_imul ((q_191 _).trans rfl) ?_
    refine g_istore ((q_191 _).trans rfl) ?_
    refine g_aload ((q_191 _).trans rfl) rfl ?_
    refine g_getR ((q_191 _).trans rfl) (fun a8 => ?_)
    refine g_astore ((q_191 _).trans rfl) ?_
    refine g_aload ((q_191 _).trans rfl) rfl ?_
    refine g_getI ((q_191 _).trans rfl) (fun v9 => ?_)
    refine g_iload ((q_191 _).trans rfl) rfl ?_
    refine g_aload ((q_191 _).trans rfl) rfl ?_
    refine g_aload ((q_191 _).trans rfl) rfl ?_
    refine g_push ((q_191 _).trans rfl) ?_
    refine g_callV (kk := 2) ((q_191 _).trans rfl) (gHn m_191) rfl (by exact ⟨Nat.le_of_ble_eq_true rfl, rfl⟩) rfl (fun w G10 => gm_I (fun v11 hw => ?_))
    subst hw
    refine g_imul ((q_191 _).trans rfl) ?_
    refine g_iadd ((q_191 _).trans rfl) ?_
    refine g_iload ((q_191 _).trans rfl) rfl ?_
    refine g_cmplt ((q_191 _).trans rfl) (fun _ => ?_) (fun _ => ?_)
    · refine g_push ((q_191 _).trans rfl) ?_
      exact g_zret ((q_191 _).trans rfl)
    · refine g_aload ((q_191 _).trans rfl) rfl ?_
      refine g_getI ((q_191 _).trans rfl) (fun v12 => ?_)
      refine g_ifeq ((q_191 _).trans rfl) (fun _ => ?_) (fun _ => ?_)
      · refine g_iinc ((q_191 _).trans rfl) rfl ?_
        refine g_goto ((q_191 _).trans rfl) ?_
        exact gle.rf _
      · refine g_aload ((q_191 _).trans rfl) rfl ?_
        refine g_getI ((q_191 _).trans rfl) (fun v13 => ?_)
        refine g_iload ((q_191 _).trans rfl) rfl ?_
        refine g_aload ((q_191 _).trans rfl) rfl ?_
        refine g_aload ((q_191 _).trans rfl) rfl ?_
        refine g_push ((q_191 _).trans rfl) ?_
        refine g_callV (kk := 2) ((q_191 _).trans rfl) (gHn m_191) rfl (by exact ⟨Nat.le_of_ble_eq_true rfl, rfl⟩) rfl (fun w G14 => gm_I (fun v15 hw => ?_))
        subst hw
        refine g_imul ((q_191 _).trans rfl) ?_
        refine g_iadd ((q_191 _).trans rfl) ?_
        refine g_iload ((q_191 _).trans rfl) rfl ?_
        refine g_cmpge ((q_191 _).trans rfl) (fun _ => ?_) (fun _ => ?_)
        · refine g_iinc ((q_191 _).trans rfl) rfl ?_
          refine g_goto ((q_191 _).trans rfl) ?_
          exact gle.rf _
        · refine g_push ((q_191 _).trans rfl) ?_
          exact g_zret ((q_191 _).trans rfl)
theorem q_192 {K : gK} (pc : Nat) : gP K 192 pc = ((gL_192 K).lookup pc).getD o_none := rfl
noncomputable def t_192_0 (K : gK) (d : Nat) (l0 : Nat) (l1 : Int32) (G : gH) : Option gO := gRn K d 192 2 [some (.ref l0), some (.int l1), some (.int (0 : Int32)), none] [] G
theorem e_192_0 {K : gK} {d : Nat} {l0 : Nat} {l1 : Int32} {G : gH} : gle (t_192_0 K d l0 l1 G) (gRn K d 192 0 [some (.ref l0), some (.int l1), none, none] [] G) := by
  unfold t_192_0
  refine g_push ((q_192 _).trans rfl) ?_
  refine g_istore ((q_192 _).trans rfl) ?_
  exact gle.rf _
theorem c_192 {K : gK} {d : Nat} {l0 : Nat} {l1 : Int32} {G : gH} : gle (t_192_0 K d l0 l1 G) (gCa K (d + 1) 192 [.ref l0, .int l1] G) := by
  have h : gent (gMx 192) [.ref l0, .int l1] = [some (.ref l0), some (.int l1), none, none] := by
    show gent (gT 192).2.2.2.1 _ = _
    rw [m_192]; rfl
  exact fun r e => (congrArg (fun q => gRn K d 192 0 q [] G) h).trans (e_192_0 r e)
noncomputable def t_192_2_1 (K : gK) (d : Nat) (l0 : Nat) (l1 : Int32) (l2 : Int32) (a6 : Nat) (G9 : gH) : Option gO := gRn K d 192 2 [some (.ref l0), some (.int l1), some (.int (l2 + 1)), some (.ref a6)] [] G9
noncomputable def t_192_2_2 (K : gK) (d : Nat) (G5 : gH) (a7 : Nat) (l1 : Int32) (l0 : Nat) (l2 : Int32) (a6 : Nat) (v8 : Int32) : Option gO := if g_cls G5 a7 = some 4 then (cV (gCa K d 225 [.ref a7, .int (v8 * l1)] G5) (t_192_2_1 K d l0 l1 l2 a6)) else none
noncomputable def t_192_2_3 (K : gK) (d : Nat) (G5 : gH) (a6 : Nat) (l1 : Int32) (l0 : Nat) (l2 : Int32) (a7 : Nat) : Option gO := rI G5 a6 9 1 (t_192_2_2 K d G5 a7 l1 l0 l2 a6)
noncomputable def t_192_2_4 (K : gK) (d : Nat) (l1 : Int32) (l0 : Nat) (l2 : Int32) (a6 : Nat) (G5 : gH) : Option gO := if g_cls G5 a6 = some 9 then (rR G5 a6 9 0 (t_192_2_3 K d G5 a6 l1 l0 l2)) else none
noncomputable def t_192_2_5 (K : gK) (d : Nat) (G2 : gH) (l2 : Int32) (l1 : Int32) (l0 : Nat) (a4 : Nat) : Option gO := if g_cls G2 a4 = some 12 then (cR (gCa K d 178 [.ref a4, .int l2] G2) (t_192_2_4 K d l1 l0 l2)) else none
noncomputable def t_192_2_6 (K : gK) (d : Nat) (l2 : Int32) (l0 : Nat) (l1 : Int32) (v3 : Int32) (G2 : gH) : Option gO := if v3 ≤ l2 then (some (.inl none, G2)) else (rR G2 l0 8 0 (t_192_2_5 K d G2 l2 l1 l0))
noncomputable def t_192_2_7 (K : gK) (d : Nat) (G : gH) (l2 : Int32) (l0 : Nat) (l1 : Int32) (a1 : Nat) : Option gO := if g_cls G a1 = some 12 then (cI (gCa K d 110 [.ref a1] G) (t_192_2_6 K d l2 l0 l1)) else none
noncomputable def t_192_2 (K : gK) (d : Nat) (l0 : Nat) (l1 : Int32) (l2 : Int32) (o3 : Option Value) (G : gH) : Option gO := rR G l0 8 0 (t_192_2_7 K d G l2 l0 l1)
theorem e_192_2 {K : gK} {d : Nat} {l0 : Nat} {l1 : Int32} {l2 : Int32} {o3 : Option Value} {G : gH} : gle (t_192_2 K d l0 l1 l2 o3 G) (gRn K d 192 2 [some (.ref l0), some (.int l1), some (.int l2), o3] [] G) := by
  unfold t_192_2
  refine g_iload ((q_192 _).trans rfl) rfl ?_
  refine g_aload ((q_192 _).trans rfl) rfl ?_
  refine g_getR ((q_192 _).trans rfl) (fun a1 => ?_)
  refine g_callV (kk := 0) ((q_192 _).trans rfl) (gHn m_192) rfl (by exact ⟨Nat.le_of_ble_eq_true rfl, rfl⟩) rfl (fun w G2 => gm_I (fun v3 hw => ?_))
  subst hw
  refine g_cmpge ((q_192 _).trans rfl) (fun _ => ?_) (fun _ => ?_)
  · exact g_vret ((q_192 _).trans rfl)
  · refine g_aload ((q_192 _).trans rfl) rfl ?_
    refine g_getR ((q_192 _).trans rfl) (fun a4 => ?_)
    refine g_iload ((q_192 _).trans rfl) rfl ?_
    refine g_callV (kk := 1) ((q_192 _).trans rfl) (gHn m_192) rfl (by exact ⟨Nat.le_of_ble_eq_true rfl, rfl⟩) rfl (fun w G5 => gm_R (fun a6 hw => ?_))
    subst hw
    refine g_ccast ((q_192 _).trans rfl) ?_
    refine g_astore ((q_192 _).trans rfl) ?_
    refine g_aload ((q_192 _).trans rfl) rfl ?_
    refine g_getR ((q_192 _).trans rfl) (fun a7 => ?_)
    refine g_aload ((q_192 _).trans rfl) rfl ?_
    refine g_getI ((q_192 _).trans rfl) (fun v8 => ?_)
    refine g_iload ((q_192 _).trans rfl) rfl ?_
    refine g_imul ((q_192 _).trans rfl) ?_
    refine g_callV (kk := 1) ((q_192 _).trans rfl) (gHn m_192) rfl (by exact ⟨Nat.le_of_ble_eq_true rfl, rfl⟩) rfl (fun w G9 => gm_V (fun hw => ?_))
    subst hw
    refine g_iinc ((q_192 _).trans rfl) rfl ?_
    refine g_goto ((q_192 _).trans rfl) ?_
    exact gle.rf _
theorem q_193 {K : gK} (pc : Nat) : gP K 193 pc = ((gL_193 K).lookup pc).getD o_none := rfl
noncomputable def t_193_0_1 (K : gK) (d : Nat) (v3 : Int32) (G2 : gH) : Option gO := if v3 = 0 then (some (.inl none, G2)) else (some (.inr 5, gjunk G2 6))
noncomputable def t_193_0_2 (K : gK) (d : Nat) (G : gH) (a1 : Nat) : Option gO := if g_cls G a1 = some 12 then (cI (gCa K d 150 [.ref a1] G) (t_193_0_1 K d)) else none
noncomputable def t_193_0 (K : gK) (d : Nat) (l0 : Nat) (G : gH) : Option gO := rR G l0 0 2 (t_193_0_2 K d G)
theorem e_193_0 {K : gK} {d : Nat} {l0 : Nat} {G : gH} : gle (t_193_0 K d l0 G) (gRn K d 193 0 [some (.ref l0)] [] G) := by
  unfold t_193_0
  refine g_aload ((q_193 _).trans rfl) rfl ?_
  refine g_getR ((q_193 _).trans rfl) (fun a1 => ?_)
  refine g_callV (kk := 0) ((q_193 _).trans rfl) (gHn m_193) rfl (by exact ⟨Nat.le_of_ble_eq_true rfl, rfl⟩) rfl (fun w G2 => gm_I (fun v3 hw => ?_))
  subst hw
  refine g_ifeq ((q_193 _).trans rfl) (fun _ => ?_) (fun _ => ?_)
  · exact g_vret ((q_193 _).trans rfl)
  · exact gle.tr (gle.eq (if_pos (Nat.le_of_ble_eq_true rfl)).symm) (g_throw ((q_193 _).trans rfl))
theorem c_193 {K : gK} {d : Nat} {l0 : Nat} {G : gH} : gle (t_193_0 K d l0 G) (gCa K (d + 1) 193 [.ref l0] G) := by
  have h : gent (gMx 193) [.ref l0] = [some (.ref l0)] := by
    show gent (gT 193).2.2.2.1 _ = _
    rw [m_193]; rfl
  exact fun r e => (congrArg (fun q => gRn K d 193 0 q [] G) h).trans (e_193_0 r e)
theorem q_194 {K : gK} (pc : Nat) : gP K 194 pc = ((gL_194 K).lookup pc).getD o_none := rfl
noncomputable def t_194_0_1 (K : gK) (d : Nat) (G : gH) (v2 : Int32) : Option gO := some (.inl (some (.int v2)), G)
noncomputable def t_194_0_2 (K : gK) (d : Nat) (G : gH) (v3 : Int32) : Option gO := if (2 : Int32) = 0 then none else (some (.inl (some (.int (v3 / (2 : Int32)))), G))
noncomputable def t_194_0_3 (K : gK) (d : Nat) (G : gH) (l0 : Nat) (v1 : Int32) : Option gO := if v1 = 0 then (rI G l0 0 8 (t_194_0_1 K d G)) else (rI G l0 0 8 (t_194_0_2 K d G))
noncomputable def t_194_0 (K : gK) (d : Nat) (l0 : Nat) (G : gH) : Option gO := rI G l0 0 10 (t_194_0_3 K d G l0)
theorem e_194_0 {K : gK} {d : Nat} {l0 : Nat} {G : gH} : gle (t_194_0 K d l0 G) (gRn K d 194 0 [some (.ref l0)] [] G) := by
  unfold t_194_0
  refine g_aload ((q_194 _).trans rfl) rfl ?_
  refine g_getI ((q_194 _).trans rfl) (fun v1 => ?_)
  refine g_ifeq ((q_194 _).trans rfl) (fun _ => ?_) (fun _ => ?_)
  · refine g_aload ((q_194 _).trans rfl) rfl ?_
    refine g_getI ((q_194 _).trans rfl) (fun v2 => ?_)
    exact g_iret ((q_194 _).trans rfl)
  · refine g_aload ((q_194 _).trans rfl) rfl ?_
    refine g_getI ((q_194 _).trans rfl) (fun v3 => ?_)
    refine g_push ((q_194 _).trans rfl) ?_
    refine g_idiv ((q_194 _).trans rfl) (fun _ => ?_)
    refine g_goto ((q_194 _).trans rfl) ?_
    exact g_iret ((q_194 _).trans rfl)
theorem c_194 {K : gK} {d : Nat} {l0 : Nat} {G : gH} : gle (t_194_0 K d l0 G) (gCa K (d + 1) 194 [.ref l0] G) := by
  have h : gent (gMx 194) [.ref l0] = [some (.ref l0)] := by
    show gent (gT 194).2.2.2.1 _ = _
    rw [m_194]; rfl
  exact fun r e => (congrArg (fun q => gRn K d 194 0 q [] G) h).trans (e_194_0 r e)
theorem q_195 {K : gK} (pc : Nat) : gP K 195 pc = ((gL_195 K).lookup pc).getD o_none := rfl
noncomputable def t_195_0 (K : gK) (d : Nat) (l0 : Nat) (G : gH) : Option gO := some (.inl none, G)
theorem e_195_0 {K : gK} {d : Nat} {l0 : Nat} {G : gH} : gle (t_195_0 K d l0 G) (gRn K d 195 0 [some (.ref l0)] [] G) := by
  unfold t_195_0
  refine g_aload ((q_195 _).trans rfl) rfl ?_
  refine g_objinit ((q_195 _).trans rfl) (Nat.le_of_ble_eq_true rfl) ?_
  exact g_vret ((q_195 _).trans rfl)
theorem c_195 {K : gK} {d : Nat} {l0 : Nat} {G : gH} : gle (t_195_0 K d l0 G) (gCa K (d + 1) 195 [.ref l0] G) := by
  have h : gent (gMx 195) [.ref l0] = [some (.ref l0)] := by
    show gent (gT 195).2.2.2.1 _ = _
    rw [m_195]; rfl
  exact fun r e => (congrArg (fun q => gRn K d 195 0 q [] G) h).trans (e_195_0 r e)
theorem q_196 {K : gK} (pc : Nat) : gP K 196 pc = ((gL_196 K).lookup pc).getD o_none := rfl
noncomputable def t_196_0_1 (K : gK) (d : Nat) (G5 : gH) : Option gO := some (.inl none, G5)
noncomputable def t_196_0_2 (K : gK) (d : Nat) (l3 : Int32) (l0 : Nat) (G4 : gH) : Option gO := if narrow .int (.int (l3 + (1 : Int32))) = .int (l3 + (1 : Int32)) ∧ fits .int (.int (l3 + (1 : Int32))) = true then wF G4 l0 12 2 (.int (l3 + (1 : Int32))) (t_196_0_1 K d) else none
noncomputable def t_196_0_3 (K : gK) (d : Nat) (l1 : Nat) (l3 : Int32) (l0 : Nat) (a3 : Nat) (G2 : gH) : Option gO := if ∃ c', g_cls G2 l1 = some c' ∧ ((100 = 100 ∧ c' < 13) ∨ (100 ≠ 100 ∧ c' = 100)) then yQ G2 a3 5 l3 (some l1) (t_196_0_2 K d l3 l0) else none
noncomputable def t_196_0_4 (K : gK) (d : Nat) (G7 : gH) : Option gO := some (.inl none, G7)
noncomputable def t_196_0_5 (K : gK) (d : Nat) (l3 : Int32) (l0 : Nat) (G6 : gH) : Option gO := if narrow .int (.int (l3 + (1 : Int32))) = .int (l3 + (1 : Int32)) ∧ fits .int (.int (l3 + (1 : Int32))) = true then wF G6 l0 12 2 (.int (l3 + (1 : Int32))) (t_196_0_4 K d) else none
noncomputable def t_196_0_6 (K : gK) (d : Nat) (l3 : Int32) (G : gH) (l0 : Nat) (l1 : Nat) (l2 : Nat) (v1 : Int32) : Option gO := if l3 = v1 then (if g_cls G l0 = some 12 then (cR (gCa K d 226 [.ref l0] G) (t_196_0_3 K d l1 l3 l0)) else none) else (if ∃ c', g_cls G l1 = some c' ∧ ((100 = 100 ∧ c' < 13) ∨ (100 ≠ 100 ∧ c' = 100)) then yQ G l2 5 l3 (some l1) (t_196_0_5 K d l3 l0) else none)
noncomputable def t_196_0 (K : gK) (d : Nat) (l0 : Nat) (l1 : Nat) (l2 : Nat) (l3 : Int32) (G : gH) : Option gO := xL K G l2 (t_196_0_6 K d l3 G l0 l1 l2)
theorem e_196_0 {K : gK} {d : Nat} {l0 : Nat} {l1 : Nat} {l2 : Nat} {l3 : Int32} {G : gH} : gle (t_196_0 K d l0 l1 l2 l3 G) (gRn K d 196 0 [some (.ref l0), some (.ref l1), some (.ref l2), some (.int l3)] [] G) := by
  unfold t_196_0
  refine g_iload ((q_196 _).trans rfl) rfl ?_
  refine g_aload ((q_196 _).trans rfl) rfl ?_
  refine g_alen ((q_196 _).trans rfl) (fun v1 => ?_)
  refine g_cmpne ((q_196 _).trans rfl) (fun _ => ?_) (fun _ => ?_)
  · refine g_aload ((q_196 _).trans rfl) rfl ?_
    refine g_callV (kk := 0) ((q_196 _).trans rfl) (gHn m_196) rfl (by exact ⟨Nat.le_of_ble_eq_true rfl, rfl⟩) rfl (fun w G2 => gm_R (fun a3 hw => ?_))
    subst hw
    refine g_astore ((q_196 _).trans rfl) ?_
    refine g_aload ((q_196 _).trans rfl) rfl ?_
    refine g_iload ((q_196 _).trans rfl) rfl ?_
    refine g_aload ((q_196 _).trans rfl) rfl ?_
    refine g_aastR ((q_196 _).trans rfl) (fun G4 => ?_)
    refine g_aload ((q_196 _).trans rfl) rfl ?_
    refine g_iload ((q_196 _).trans rfl) rfl ?_
    refine g_push ((q_196 _).trans rfl) ?_
    refine g_iadd ((q_196 _).trans rfl) ?_
    refine g_putf ((q_196 _).trans rfl) (fun G5 => ?_)
    exact g_vret ((q_196 _).trans rfl)
  · refine g_aload ((q_196 _).trans rfl) rfl ?_
    refine g_iload ((q_196 _).trans rfl) rfl ?_
    refine g_aload ((q_196 _).trans rfl) rfl ?_
    refine g_aastR ((q_196 _).trans rfl) (fun G6 => ?_)
    refine g_aload ((q_196 _).trans rfl) rfl ?_
    refine g_iload ((q_196 _).trans rfl) rfl ?_
    refine g_push ((q_196 _).trans rfl) ?_
    refine g_iadd ((q_196 _).trans rfl) ?_
    refine g_putf ((q_196 _).trans rfl) (fun G7 => ?_)
    exact g_vret ((q_196 _).trans rfl)
theorem c_196 {K : gK} {d : Nat} {l0 : Nat} {l1 : Nat} {l2 : Nat} {l3 : Int32} {G : gH} : gle (t_196_0 K d l0 l1 l2 l3 G) (gCa K (d + 1) 196 [.ref l0, .ref l1, .ref l2, .int l3] G) := by
  have h : gent (gMx 196) [.ref l0, .ref l1, .ref l2, .int l3] = [some (.ref l0), some (.ref l1), some (.ref l2), some (.int l3)] := by
    show gent (gT 196).2.2.2.1 _ = _
    rw [m_196]; rfl
  exact fun r e => (congrArg (fun q => gRn K d 196 0 q [] G) h).trans (e_196_0 r e)
theorem q_197 {K : gK} (pc : Nat) : gP K 197 pc = ((gL_197 K).lookup pc).getD o_none := rfl
noncomputable def t_197_0_1 (K : gK) (d : Nat) (a6 : Nat) (G5 : gH) : Option gO := some (.inl (some (.ref a6)), G5)
noncomputable def t_197_0_2 (K : gK) (d : Nat) (l0 : Nat) (l1 : Int32) (v4 : Int32) (G3 : gH) : Option gO := if v4 = 0 then (some (.inr 3, gjunk G3 6)) else (if g_cls G3 l0 = some 12 then (cR (gCa K d 178 [.ref l0, .int l1] G3) (t_197_0_1 K d)) else none)
noncomputable def t_197_0_3 (K : gK) (d : Nat) (l1 : Int32) (l0 : Nat) (v2 : Int32) (G1 : gH) : Option gO := cI (gCa K d 148 [.int l1, .int (0 : Int32), .int (v2 - (1 : Int32))] G1) (t_197_0_2 K d l0 l1)
noncomputable def t_197_0 (K : gK) (d : Nat) (l0 : Nat) (l1 : Int32) (G : gH) : Option gO := if g_cls G l0 = some 12 then (cI (gCa K d 110 [.ref l0] G) (t_197_0_3 K d l1 l0)) else none
theorem e_197_0 {K : gK} {d : Nat} {l0 : Nat} {l1 : Int32} {G : gH} : gle (t_197_0 K d l0 l1 G) (gRn K d 197 0 [some (.ref l0), some (.int l1)] [] G) := by
  unfold t_197_0
  refine g_iload ((q_197 _).trans rfl) rfl ?_
  refine g_push ((q_197 _).trans rfl) ?_
  refine g_aload ((q_197 _).trans rfl) rfl ?_
  refine g_callV (kk := 0) ((q_197 _).trans rfl) (gHn m_197) rfl (by exact ⟨Nat.le_of_ble_eq_true rfl, rfl⟩) rfl (fun w G1 => gm_I (fun v2 hw => ?_))
  subst hw
  refine g_push ((q_197 _).trans rfl) ?_
  refine g_isub ((q_197 _).trans rfl) ?_
  refine g_callS (kk := 3) ((q_197 _).trans rfl) (gHn m_197) (by exact ⟨Nat.le_of_ble_eq_true rfl, Nat.le_of_ble_eq_true rfl, rfl⟩) rfl (fun w G3 => gm_I (fun v4 hw => ?_))
  subst hw
  refine g_ifne ((q_197 _).trans rfl) (fun _ => ?_) (fun _ => ?_)
  · exact gle.tr (gle.eq (if_pos (Nat.le_of_ble_eq_true rfl)).symm) (g_throw ((q_197 _).trans rfl))
  · refine g_aload ((q_197 _).trans rfl) rfl ?_
    refine g_iload ((q_197 _).trans rfl) rfl ?_
    refine g_callV (kk := 1) ((q_197 _).trans rfl) (gHn m_197) rfl (by exact ⟨Nat.le_of_ble_eq_true rfl, rfl⟩) rfl (fun w G5 => gm_R (fun a6 hw => ?_))
    subst hw
    exact g_aret ((q_197 _).trans rfl)
theorem c_197 {K : gK} {d : Nat} {l0 : Nat} {l1 : Int32} {G : gH} : gle (t_197_0 K d l0 l1 G) (gCa K (d + 1) 197 [.ref l0, .int l1] G) := by
  have h : gent (gMx 197) [.ref l0, .int l1] = [some (.ref l0), some (.int l1)] := by
    show gent (gT 197).2.2.2.1 _ = _
    rw [m_197]; rfl
  exact fun r e => (congrArg (fun q => gRn K d 197 0 q [] G) h).trans (e_197_0 r e)
theorem q_198 {K : gK} (pc : Nat) : gP K 198 pc = ((gL_198 K).lookup pc).getD o_none := rfl
noncomputable def t_198_0_1 (K : gK) (d : Nat) (l2 : Int32) (G : gH) (v2 : Int32) : Option gO := if v2 = l2 then (if narrow .boolean (.int (1 : Int32)) = .int (1 : Int32) then some (.inl (some (.int (1 : Int32))), G) else none) else (if narrow .boolean (.int (0 : Int32)) = .int (0 : Int32) then some (.inl (some (.int (0 : Int32))), G) else none)
noncomputable def t_198_0_2 (K : gK) (d : Nat) (l1 : Int32) (G : gH) (l0 : Nat) (l2 : Int32) (v1 : Int32) : Option gO := if v1 = l1 then (rI G l0 5 1 (t_198_0_1 K d l2 G)) else (if narrow .boolean (.int (0 : Int32)) = .int (0 : Int32) then some (.inl (some (.int (0 : Int32))), G) else none)
noncomputable def t_198_0 (K : gK) (d : Nat) (l0 : Nat) (l1 : Int32) (l2 : Int32) (G : gH) : Option gO := rI G l0 5 0 (t_198_0_2 K d l1 G l0 l2)
theorem e_198_0 {K : gK} {d : Nat} {l0 : Nat} {l1 : Int32} {l2 : Int32} {G : gH} : gle (t_198_0 K d l0 l1 l2 G) (gRn K d 198 0 [some (.ref l0), some (.int l1), some (.int l2)] [] G) := by
  unfold t_198_0
  refine g_aload ((q_198 _).trans rfl) rfl ?_
  refine g_getI ((q_198 _).trans rfl) (fun v1 => ?_)
  refine g_iload ((q_198 _).trans rfl) rfl ?_
  refine g_cmpne ((q_198 _).trans rfl) (fun _ => ?_) (fun _ => ?_)
  · refine g_aload ((q_198 _).trans rfl) rfl ?_
    refine g_getI ((q_198 _).trans rfl) (fun v2 => ?_)
    refine g_iload ((q_198 _).trans rfl) rfl ?_
    refine g_cmpne ((q_198 _).trans rfl) (fun _ => ?_) (fun _ => ?_)
    · refine g_push ((q_198 _).trans rfl) ?_
      refine g_goto ((q_198 _).trans rfl) ?_
      exact g_zret ((q_198 _).trans rfl)
    · refine g_push ((q_198 _).trans rfl) ?_
      exact g_zret ((q_198 _).trans rfl)
  · refine g_push ((q_198 _).trans rfl) ?_
    exact g_zret ((q_198 _).trans rfl)
theorem c_198 {K : gK} {d : Nat} {l0 : Nat} {l1 : Int32} {l2 : Int32} {G : gH} : gle (t_198_0 K d l0 l1 l2 G) (gCa K (d + 1) 198 [.ref l0, .int l1, .int l2] G) := by
  have h : gent (gMx 198) [.ref l0, .int l1, .int l2] = [some (.ref l0), some (.int l1), some (.int l2)] := by
    show gent (gT 198).2.2.2.1 _ = _
    rw [m_198]; rfl
  exact fun r e => (congrArg (fun q => gRn K d 198 0 q [] G) h).trans (e_198_0 r e)
theorem q_199 {K : gK} (pc : Nat) : gP K 199 pc = ((gL_199 K).lookup pc).getD o_none := rfl
noncomputable def t_199_0_1 (K : gK) (d : Nat) (l0 : Nat) (l1 : Nat) (l2 : Int32) (l3 : Int32) (G8 : gH) : Option gO := gRn K d 199 43 [some (.ref l0), some (.ref l1), some (.int l2), some (.int l3), some (.int (5 : Int32)), some (.int (5 : Int32)), some (.int (0 : Int32)), none] [] G8
noncomputable def t_199_0_2 (K : gK) (d : Nat) (l0 : Nat) (l1 : Nat) (l2 : Int32) (l3 : Int32) (v7 : Int32) (G6 : gH) : Option gO := if v7 < 0 ∨ 100000 < (v7).toNatClampNeg then none else (if narrow (.array .int) (.ref (G6.2.1)) = .ref (G6.2.1) ∧ fits (.array .int) (.ref (G6.2.1)) = true then wF (gnew G6 (.inl (0, (v7).toNatClampNeg, .inl (fun _ => 0))) (v7).toNatClampNeg) l0 6 1 (.ref (G6.2.1)) (t_199_0_1 K d l0 l1 l2 l3) else none)
noncomputable def t_199_0_3 (K : gK) (d : Nat) (G4 : gH) (l0 : Nat) (l1 : Nat) (l2 : Int32) (l3 : Int32) (a5 : Nat) : Option gO := if g_cls G4 a5 = some 12 then (cI (gCa K d 110 [.ref a5] G4) (t_199_0_2 K d l0 l1 l2 l3)) else none
noncomputable def t_199_0_4 (K : gK) (d : Nat) (l1 : Nat) (l0 : Nat) (l2 : Int32) (l3 : Int32) (G4 : gH) : Option gO := rR G4 l1 4 2 (t_199_0_3 K d G4 l0 l1 l2 l3)
noncomputable def t_199_0_5 (K : gK) (d : Nat) (l0 : Nat) (l1 : Nat) (l2 : Int32) (l3 : Int32) (v3 : Int32) (G2 : gH) : Option gO := if v3 < 0 ∨ 100000 < (v3).toNatClampNeg then none else (if narrow (.array .int) (.ref (G2.2.1)) = .ref (G2.2.1) ∧ fits (.array .int) (.ref (G2.2.1)) = true then wF (gnew G2 (.inl (0, (v3).toNatClampNeg, .inl (fun _ => 0))) (v3).toNatClampNeg) l0 6 0 (.ref (G2.2.1)) (t_199_0_4 K d l1 l0 l2 l3) else none)
noncomputable def t_199_0_6 (K : gK) (d : Nat) (G : gH) (l0 : Nat) (l1 : Nat) (l2 : Int32) (l3 : Int32) (a1 : Nat) : Option gO := if g_cls G a1 = some 12 then (cI (gCa K d 110 [.ref a1] G) (t_199_0_5 K d l0 l1 l2 l3)) else none
noncomputable def t_199_0 (K : gK) (d : Nat) (l0 : Nat) (l1 : Nat) (l2 : Int32) (l3 : Int32) (G : gH) : Option gO := rR G l1 4 2 (t_199_0_6 K d G l0 l1 l2 l3)
theorem e_199_0 {K : gK} {d : Nat} {l0 : Nat} {l1 : Nat} {l2 : Int32} {l3 : Int32} {G : gH} : gle (t_199_0 K d l0 l1 l2 l3 G) (gRn K d 199 0 [some (.ref l0), some (.ref l1), some (.int l2), some (.int l3), none, none, none, none] [] G) := by
  unfold t_199_0
  refine g_aload ((q_199 _).trans rfl) rfl ?_
  refine g_objinit ((q_199 _).trans rfl) (Nat.le_of_ble_eq_true rfl) ?_
  refine g_push ((q_199 _).trans rfl) ?_
  refine g_istore ((q_199 _).trans rfl) ?_
  refine g_push ((q_199 _).trans rfl) ?_
  refine g_istore ((q_199 _).trans rfl) ?_
  refine g_aload ((q_199 _).trans rfl) rfl ?_
  refine g_aload ((q_199 _).trans rfl) rfl ?_
  refine g_getR ((q_199 _).trans rfl) (fun a1 => ?_)
  refine g_callV (kk := 0) ((q_199 _).trans rfl) (gHn m_199) rfl (by exact ⟨Nat.le_of_ble_eq_true rfl, rfl⟩) rfl (fun w G2 => gm_I (fun v3 hw => ?_))
  subst hw
  refine g_newi ((q_199 _).trans rfl) (fun _ => ?_)
  refine g_putf ((q_199 _).trans rfl) (fun G4 => ?_)
  refine g_aload ((q_199 _).trans rfl) rfl ?_
  refine g_aload ((q_199 _).trans rfl) rfl ?_
  refine g_getR ((q_199 _).trans rfl) (fun a5 => ?_)
  refine g_callV (kk := 0) ((q_199 _).trans rfl) (gHn m_199) rfl (by exact ⟨Nat.le_of_ble_eq_true rfl, rfl⟩) rfl (fun w G6 => gm_I (fun v7 hw => ?_))
  subst hw
  refine g_newi ((q_199 _).trans rfl) (fun _ => ?_)
  refine g_putf ((q_199 _).trans rfl) (fun G8 => ?_)
  refine g_push ((q_199 _).trans rfl) ?_
  refine g_istore ((q_199 _).trans rfl) ?_
  exact gle.rf _
theorem c_199 {K : gK} {d : Nat} {l0 : Nat} {l1 : Nat} {l2 : Int32} {l3 : Int32} {G : gH} : gle (t_199_0 K d l0 l1 l2 l3 G) (gCa K (d + 1) 199 [.ref l0, .ref l1, .int l2, .int l3] G) := by
  have h : gent (gMx 199) [.ref l0, .ref l1, .int l2, .int l3] = [some (.ref l0), some (.ref l1), some (.int l2), some (.int l3), none, none, none, none] := by
    show gent (gT 199).2.2.2.1 _ = _
    rw [m_199]; rfl
  exact fun r e => (congrArg (fun q => gRn K d 199 0 q [] G) h).trans (e_199_0 r e)
noncomputable def t_199_43_1 (K : gK) (d : Nat) (l0 : Nat) (l1 : Nat) (l2 : Int32) (l3 : Int32) (v16 : Int32) (l6 : Int32) (a7 : Nat) (v19 : Int32) (G18 : gH) : Option gO := gRn K d 199 43 [some (.ref l0), some (.ref l1), some (.int l2), some (.int l3), some (.int v16), some (.int v19), some (.int (l6 + 1)), some (.ref a7)] [] G18
noncomputable def t_199_43_2 (K : gK) (d : Nat) (l5 : Int32) (G15 : gH) (l0 : Nat) (l1 : Nat) (l2 : Int32) (l3 : Int32) (v16 : Int32) (l6 : Int32) (a7 : Nat) (v17 : Int32) : Option gO := cI (gCa K d 224 [.int l5, .int v17] G15) (t_199_43_1 K d l0 l1 l2 l3 v16 l6 a7)
noncomputable def t_199_43_3 (K : gK) (d : Nat) (a7 : Nat) (l5 : Int32) (l0 : Nat) (l1 : Nat) (l2 : Int32) (l3 : Int32) (l6 : Int32) (v16 : Int32) (G15 : gH) : Option gO := rI G15 a7 5 1 (t_199_43_2 K d l5 G15 l0 l1 l2 l3 v16 l6 a7)
noncomputable def t_199_43_4 (K : gK) (d : Nat) (l4 : Int32) (G13 : gH) (a7 : Nat) (l5 : Int32) (l0 : Nat) (l1 : Nat) (l2 : Int32) (l3 : Int32) (l6 : Int32) (v14 : Int32) : Option gO := cI (gCa K d 224 [.int l4, .int v14] G13) (t_199_43_3 K d a7 l5 l0 l1 l2 l3 l6)
noncomputable def t_199_43_5 (K : gK) (d : Nat) (a7 : Nat) (l4 : Int32) (l5 : Int32) (l0 : Nat) (l1 : Nat) (l2 : Int32) (l3 : Int32) (l6 : Int32) (G13 : gH) : Option gO := rI G13 a7 5 0 (t_199_43_4 K d l4 G13 a7 l5 l0 l1 l2 l3 l6)
noncomputable def t_199_43_6 (K : gK) (d : Nat) (G10 : gH) (a11 : Nat) (l6 : Int32) (a7 : Nat) (l4 : Int32) (l5 : Int32) (l0 : Nat) (l1 : Nat) (l2 : Int32) (l3 : Int32) (v12 : Int32) : Option gO := yI G10 a11 0 l6 v12 (t_199_43_5 K d a7 l4 l5 l0 l1 l2 l3 l6)
noncomputable def t_199_43_7 (K : gK) (d : Nat) (G10 : gH) (a7 : Nat) (l6 : Int32) (l4 : Int32) (l5 : Int32) (l0 : Nat) (l1 : Nat) (l2 : Int32) (l3 : Int32) (a11 : Nat) : Option gO := rI G10 a7 5 1 (t_199_43_6 K d G10 a11 l6 a7 l4 l5 l0 l1 l2 l3)
noncomputable def t_199_43_8 (K : gK) (d : Nat) (l0 : Nat) (a7 : Nat) (l6 : Int32) (l4 : Int32) (l5 : Int32) (l1 : Nat) (l2 : Int32) (l3 : Int32) (G10 : gH) : Option gO := rR G10 l0 6 1 (t_199_43_7 K d G10 a7 l6 l4 l5 l0 l1 l2 l3)
noncomputable def t_199_43_9 (K : gK) (d : Nat) (G6 : gH) (a8 : Nat) (l6 : Int32) (l0 : Nat) (a7 : Nat) (l4 : Int32) (l5 : Int32) (l1 : Nat) (l2 : Int32) (l3 : Int32) (v9 : Int32) : Option gO := yI G6 a8 0 l6 v9 (t_199_43_8 K d l0 a7 l6 l4 l5 l1 l2 l3)
noncomputable def t_199_43_10 (K : gK) (d : Nat) (G6 : gH) (a7 : Nat) (l6 : Int32) (l0 : Nat) (l4 : Int32) (l5 : Int32) (l1 : Nat) (l2 : Int32) (l3 : Int32) (a8 : Nat) : Option gO := rI G6 a7 5 0 (t_199_43_9 K d G6 a8 l6 l0 a7 l4 l5 l1 l2 l3)
noncomputable def t_199_43_11 (K : gK) (d : Nat) (l0 : Nat) (l6 : Int32) (l4 : Int32) (l5 : Int32) (l1 : Nat) (l2 : Int32) (l3 : Int32) (a7 : Nat) (G6 : gH) : Option gO := rR G6 l0 6 0 (t_199_43_10 K d G6 a7 l6 l0 l4 l5 l1 l2 l3)
noncomputable def t_199_43_12 (K : gK) (d : Nat) (l2 : Int32) (l3 : Int32) (l0 : Nat) (l6 : Int32) (l4 : Int32) (l5 : Int32) (l1 : Nat) (a5 : Nat) (G4 : gH) : Option gO := if g_cls G4 a5 = some 5 then (if g_cls G4 a5 = some 5 then (cR (gCa K d 227 [.ref a5, .int l2, .int l3] G4) (t_199_43_11 K d l0 l6 l4 l5 l1 l2 l3)) else none) else none
noncomputable def t_199_43_13 (K : gK) (d : Nat) (G : gH) (l6 : Int32) (l2 : Int32) (l3 : Int32) (l0 : Nat) (l4 : Int32) (l5 : Int32) (l1 : Nat) (a3 : Nat) : Option gO := if g_cls G a3 = some 12 then (cR (gCa K d 178 [.ref a3, .int l6] G) (t_199_43_12 K d l2 l3 l0 l6 l4 l5 l1)) else none
noncomputable def t_199_43_14 (K : gK) (d : Nat) (l6 : Int32) (l0 : Nat) (l1 : Nat) (l2 : Int32) (l3 : Int32) (l4 : Int32) (l5 : Int32) (o7 : Option Value) (G : gH) (v2 : Int32) : Option gO := if v2 ≤ l6 then (gRn K d 199 131 [some (.ref l0), some (.ref l1), some (.int l2), some (.int l3), some (.int l4), some (.int l5), some (.int (0 : Int32)), o7] [] G) else (rR G l1 4 2 (t_199_43_13 K d G l6 l2 l3 l0 l4 l5 l1))
noncomputable def t_199_43_15 (K : gK) (d : Nat) (G : gH) (l6 : Int32) (l0 : Nat) (l1 : Nat) (l2 : Int32) (l3 : Int32) (l4 : Int32) (l5 : Int32) (o7 : Option Value) (a1 : Nat) : Option gO := xL K G a1 (t_199_43_14 K d l6 l0 l1 l2 l3 l4 l5 o7 G)
noncomputable def t_199_43 (K : gK) (d : Nat) (l0 : Nat) (l1 : Nat) (l2 : Int32) (l3 : Int32) (l4 : Int32) (l5 : Int32) (l6 : Int32) (o7 : Option Value) (G : gH) : Option gO := rR G l0 6 0 (t_199_43_15 K d G l6 l0 l1 l2 l3 l4 l5 o7)
theorem e_199_43 {K : gK} {d : Nat} {l0 : Nat} {l1 : Nat} {l2 : Int32} {l3 : Int32} {l4 : Int32} {l5 : Int32} {l6 : Int32} {o7 : Option Value} {G : gH} : gle (t_199_43 K d l0 l1 l2 l3 l4 l5 l6 o7 G) (gRn K d 199 43 [some (.ref l0), some (.ref l1), some (.int l2), some (.int l3), some (.int l4), some (.int l5), some (.int l6), o7] [] G) := by
  unfold t_199_43
  refine g_iload ((q_199 _).trans rfl) rfl ?_
  refine g_aload ((q_199 _).trans rfl) rfl ?_
  refine g_getR ((q_199 _).trans rfl) (fun a1 => ?_)
  refine g_alen ((q_199 _).trans rfl) (fun v2 => ?_)
  refine g_cmpge ((q_199 _).trans rfl) (fun _ => ?_) (fun _ => ?_)
  · refine g_push ((q_199 _).trans rfl) ?_
    refine g_istore ((q_199 _).trans rfl) ?_
    exact gle.rf _
  · refine g_aload ((q_199 _).trans rfl) rfl ?_
    refine g_getR ((q_199 _).trans rfl) (fun a3 => ?_)
    refine g_iload ((q_199 _).trans rfl) rfl ?_
    refine g_callV (kk := 1) ((q_199 _).trans rfl) (gHn m_199) rfl (by exact ⟨Nat.le_of_ble_eq_true rfl, rfl⟩) rfl (fun w G4 => gm_R (fun a5 hw => ?_))
    subst hw
    refine g_ccast ((q_199 _).trans rfl) ?_
    refine g_iload ((q_199 _).trans rfl) rfl ?_
    refine g_iload ((q_199 _).trans rfl) rfl ?_
    refine g_callV (kk := 2) ((q_199 _).trans rfl) (gHn m_199) rfl (by exact ⟨Nat.le_of_ble_eq_true rfl, rfl⟩) rfl (fun w G6 => gm_R (fun a7 hw => ?_))
    subst hw
    refine g_astore ((q_199 _).trans rfl) ?_
    refine g_aload ((q_199 _).trans rfl) rfl ?_
    refine g_getR ((q_199 _).trans rfl) (fun a8 => ?_)
    refine g_iload ((q_199 _).trans rfl) rfl ?_
    refine g_aload ((q_199 _).trans rfl) rfl ?_
    refine g_getI ((q_199 _).trans rfl) (fun v9 => ?_)
    refine g_iast ((q_199 _).trans rfl) (fun G10 => ?_)
    refine g_aload ((q_199 _).trans rfl) rfl ?_
    refine g_getR ((q_199 _).trans rfl) (fun a11 => ?_)
    refine g_iload ((q_199 _).trans rfl) rfl ?_
    refine g_aload ((q_199 _).trans rfl) rfl ?_
    refine g_getI ((q_199 _).trans rfl) (fun v12 => ?_)
    refine g_iast ((q_199 _).trans rfl) (fun G13 => ?_)
    refine g_iload ((q_199 _).trans rfl) rfl ?_
    refine g_aload ((q_199 _).trans rfl) rfl ?_
    refine g_getI ((q_199 _).trans rfl) (fun v14 => ?_)
    refine g_callS (kk := 2) ((q_199 _).trans rfl) (gHn m_199) (by exact ⟨Nat.le_of_ble_eq_true rfl, Nat.le_of_ble_eq_true rfl, rfl⟩) rfl (fun w G15 => gm_I (fun v16 hw => ?_))
    subst hw
    refine g_istore ((q_199 _).trans rfl) ?_
    refine g_iload ((q_199 _).trans rfl) rfl ?_
    refine g_aload ((q_199 _).trans rfl) rfl ?_
    refine g_getI ((q_199 _).trans rfl) (fun v17 => ?_)
    refine g_callS (kk := 2) ((q_199 _).trans rfl) (gHn m_199) (by exact ⟨Nat.le_of_ble_eq_true rfl, Nat.le_of_ble_eq_true rfl, rfl⟩) rfl (fun w G18 => gm_I (fun v19 hw => ?_))
    subst hw
    refine g_istore ((q_199 _).trans rfl) ?_
    refine g_iinc ((q_199 _).trans rfl) rfl ?_
    refine g_goto ((q_199 _).trans rfl) ?_
    exact gle.rf _
noncomputable def t_199_131_1 (K : gK) (d : Nat) (G7 : gH) : Option gO := some (.inl none, G7)
noncomputable def t_199_131_2 (K : gK) (d : Nat) (l4 : Int32) (G4 : gH) (l0 : Nat) (v6 : Int32) : Option gO := if narrow .int (.int (v6 - l4)) = .int (v6 - l4) ∧ fits .int (.int (v6 - l4)) = true then wF G4 l0 6 2 (.int (v6 - l4)) (t_199_131_1 K d) else none
noncomputable def t_199_131_3 (K : gK) (d : Nat) (l4 : Int32) (l0 : Nat) (a5 : Nat) (G4 : gH) : Option gO := rI G4 a5 5 0 (t_199_131_2 K d l4 G4 l0)
noncomputable def t_199_131_4 (K : gK) (d : Nat) (G : gH) (l2 : Int32) (l3 : Int32) (l4 : Int32) (l0 : Nat) (a3 : Nat) : Option gO := if g_cls G a3 = some 5 then (cR (gCa K d 227 [.ref a3, .int l2, .int l3] G) (t_199_131_3 K d l4 l0)) else none
noncomputable def t_199_131_5 (K : gK) (d : Nat) (l0 : Nat) (l1 : Nat) (l2 : Int32) (l3 : Int32) (l4 : Int32) (l5 : Int32) (l6 : Int32) (o7 : Option Value) (G13 : gH) : Option gO := gRn K d 199 131 [some (.ref l0), some (.ref l1), some (.int l2), some (.int l3), some (.int l4), some (.int l5), some (.int (l6 + 1)), o7] [] G13
noncomputable def t_199_131_6 (K : gK) (d : Nat) (G10 : gH) (a11 : Nat) (l6 : Int32) (l5 : Int32) (l0 : Nat) (l1 : Nat) (l2 : Int32) (l3 : Int32) (l4 : Int32) (o7 : Option Value) (v12 : Int32) : Option gO := yI G10 a11 0 l6 (v12 - l5) (t_199_131_5 K d l0 l1 l2 l3 l4 l5 l6 o7)
noncomputable def t_199_131_7 (K : gK) (d : Nat) (G10 : gH) (l6 : Int32) (l5 : Int32) (l0 : Nat) (l1 : Nat) (l2 : Int32) (l3 : Int32) (l4 : Int32) (o7 : Option Value) (a11 : Nat) : Option gO := xI G10 a11 0 l6 (t_199_131_6 K d G10 a11 l6 l5 l0 l1 l2 l3 l4 o7)
noncomputable def t_199_131_8 (K : gK) (d : Nat) (l0 : Nat) (l6 : Int32) (l5 : Int32) (l1 : Nat) (l2 : Int32) (l3 : Int32) (l4 : Int32) (o7 : Option Value) (G10 : gH) : Option gO := rR G10 l0 6 1 (t_199_131_7 K d G10 l6 l5 l0 l1 l2 l3 l4 o7)
noncomputable def t_199_131_9 (K : gK) (d : Nat) (G : gH) (a8 : Nat) (l6 : Int32) (l4 : Int32) (l0 : Nat) (l5 : Int32) (l1 : Nat) (l2 : Int32) (l3 : Int32) (o7 : Option Value) (v9 : Int32) : Option gO := yI G a8 0 l6 (v9 - l4) (t_199_131_8 K d l0 l6 l5 l1 l2 l3 l4 o7)
noncomputable def t_199_131_10 (K : gK) (d : Nat) (G : gH) (l6 : Int32) (l4 : Int32) (l0 : Nat) (l5 : Int32) (l1 : Nat) (l2 : Int32) (l3 : Int32) (o7 : Option Value) (a8 : Nat) : Option gO := xI G a8 0 l6 (t_199_131_9 K d G a8 l6 l4 l0 l5 l1 l2 l3 o7)
noncomputable def t_199_131_11 (K : gK) (d : Nat) (l6 : Int32) (G : gH) (l1 : Nat) (l2 : Int32) (l3 : Int32) (l4 : Int32) (l0 : Nat) (l5 : Int32) (o7 : Option Value) (v2 : Int32) : Option gO := if v2 ≤ l6 then (rR G l1 4 4 (t_199_131_4 K d G l2 l3 l4 l0)) else (rR G l0 6 0 (t_199_131_10 K d G l6 l4 l0 l5 l1 l2 l3 o7))
noncomputable def t_199_131_12 (K : gK) (d : Nat) (G : gH) (l6 : Int32) (l1 : Nat) (l2 : Int32) (l3 : Int32) (l4 : Int32) (l0 : Nat) (l5 : Int32) (o7 : Option Value) (a1 : Nat) : Option gO := xL K G a1 (t_199_131_11 K d l6 G l1 l2 l3 l4 l0 l5 o7)
noncomputable def t_199_131 (K : gK) (d : Nat) (l0 : Nat) (l1 : Nat) (l2 : Int32) (l3 : Int32) (l4 : Int32) (l5 : Int32) (l6 : Int32) (o7 : Option Value) (G : gH) : Option gO := rR G l0 6 0 (t_199_131_12 K d G l6 l1 l2 l3 l4 l0 l5 o7)
theorem e_199_131 {K : gK} {d : Nat} {l0 : Nat} {l1 : Nat} {l2 : Int32} {l3 : Int32} {l4 : Int32} {l5 : Int32} {l6 : Int32} {o7 : Option Value} {G : gH} : gle (t_199_131 K d l0 l1 l2 l3 l4 l5 l6 o7 G) (gRn K d 199 131 [some (.ref l0), some (.ref l1), some (.int l2), some (.int l3), some (.int l4), some (.int l5), some (.int l6), o7] [] G) := by
  unfold t_199_131
  refine g_iload ((q_199 _).trans rfl) rfl ?_
  refine g_aload ((q_199 _).trans rfl) rfl ?_
  refine g_getR ((q_199 _).trans rfl) (fun a1 => ?_)
  refine g_alen ((q_199 _).trans rfl) (fun v2 => ?_)
  refine g_cmpge ((q_199 _).trans rfl) (fun _ => ?_) (fun _ => ?_)
  · refine g_aload ((q_199 _).trans rfl) rfl ?_
    refine g_aload ((q_199 _).trans rfl) rfl ?_
    refine g_getR ((q_199 _).trans rfl) (fun a3 => ?_)
    refine g_iload ((q_199 _).trans rfl) rfl ?_
    refine g_iload ((q_199 _).trans rfl) rfl ?_
    refine g_callV (kk := 2) ((q_199 _).trans rfl) (gHn m_199) rfl (by exact ⟨Nat.le_of_ble_eq_true rfl, rfl⟩) rfl (fun w G4 => gm_R (fun a5 hw => ?_))
    subst hw
    refine g_getI ((q_199 _).trans rfl) (fun v6 => ?_)
    refine g_iload ((q_199 _).trans rfl) rfl ?_
    refine g_isub ((q_199 _).trans rfl) ?_
    refine g_putf ((q_199 _).trans rfl) (fun G7 => ?_)
    exact g_vret ((q_199 _).trans rfl)
  · refine g_aload ((q_199 _).trans rfl) rfl ?_
    refine g_getR ((q_199 _).trans rfl) (fun a8 => ?_)
    refine g_iload ((q_199 _).trans rfl) rfl ?_
    refine g_dup2 ((q_199 _).trans rfl) ?_
    refine g_iald ((q_199 _).trans rfl) (fun v9 => ?_)
    refine g_iload ((q_199 _).trans rfl) rfl ?_
    refine g_isub ((q_199 _).trans rfl) ?_
    refine g_iast ((q_199 _).trans rfl) (fun G10 => ?_)
    refine g_aload ((q_199 _).trans rfl) rfl ?_
    refine g_getR ((q_199 _).trans rfl) (fun a11 => ?_)
    refine g_iload ((q_199 _).trans rfl) rfl ?_
    refine g_dup2 ((q_199 _).trans rfl) ?_
    refine g_iald ((q_199 _).trans rfl) (fun v12 => ?_)
    refine g_iload ((q_199 _).trans rfl) rfl ?_
    refine g_isub ((q_199 _).trans rfl) ?_
    refine g_iast ((q_199 _).trans rfl) (fun G13 => ?_)
    refine g_iinc ((q_199 _).trans rfl) rfl ?_
    refine g_goto ((q_199 _).trans rfl) ?_
    exact gle.rf _
theorem q_200 {K : gK} (pc : Nat) : gP K 200 pc = ((gL_200 K).lookup pc).getD o_none := rfl
noncomputable def t_200_0_1 (K : gK) (d : Nat) (v3 : Int32) (G2 : gH) : Option gO := if v3 = 0 then (if narrow .char (.int (101 : Int32)) = .int (101 : Int32) then some (.inl (some (.int (101 : Int32))), G2) else none) else (if narrow .char (.int (45 : Int32)) = .int (45 : Int32) then some (.inl (some (.int (45 : Int32))), G2) else none)
noncomputable def t_200_0_2 (K : gK) (d : Nat) (G : gH) (a1 : Nat) : Option gO := if g_cls G a1 = some 1 then (cI (gCa K d 228 [.ref a1] G) (t_200_0_1 K d)) else none
noncomputable def t_200_0 (K : gK) (d : Nat) (l0 : Nat) (l1 : Nat) (G : gH) : Option gO := rR G l0 0 5 (t_200_0_2 K d G)
theorem e_200_0 {K : gK} {d : Nat} {l0 : Nat} {l1 : Nat} {G : gH} : gle (t_200_0 K d l0 l1 G) (gRn K d 200 0 [some (.ref l0), some (.ref l1)] [] G) := by
  unfold t_200_0
  refine g_aload ((q_200 _).trans rfl) rfl ?_
  refine g_getR ((q_200 _).trans rfl) (fun a1 => ?_)
  refine g_callV (kk := 0) ((q_200 _).trans rfl) (gHn m_200) rfl (by exact ⟨Nat.le_of_ble_eq_true rfl, rfl⟩) rfl (fun w G2 => gm_I (fun v3 hw => ?_))
  subst hw
  refine g_ifne ((q_200 _).trans rfl) (fun _ => ?_) (fun _ => ?_)
  · refine g_push ((q_200 _).trans rfl) ?_
    refine g_goto ((q_200 _).trans rfl) ?_
    exact g_zret ((q_200 _).trans rfl)
  · refine g_push ((q_200 _).trans rfl) ?_
    exact g_zret ((q_200 _).trans rfl)
theorem c_200 {K : gK} {d : Nat} {l0 : Nat} {l1 : Nat} {G : gH} : gle (t_200_0 K d l0 l1 G) (gCa K (d + 1) 200 [.ref l0, .ref l1] G) := by
  have h : gent (gMx 200) [.ref l0, .ref l1] = [some (.ref l0), some (.ref l1)] := by
    show gent (gT 200).2.2.2.1 _ = _
    rw [m_200]; rfl
  exact fun r e => (congrArg (fun q => gRn K d 200 0 q [] G) h).trans (e_200_0 r e)
theorem q_201 {K : gK} (pc : Nat) : gP K 201 pc = ((gL_201 K).lookup pc).getD o_none := rfl
noncomputable def t_201_0_1 (K : gK) (d : Nat) (v2 : Int32) (G1 : gH) : Option gO := if v2 = 0 then (if narrow .char (.int (116 : Int32)) = .int (116 : Int32) then some (.inl (some (.int (116 : Int32))), G1) else none) else (if narrow .char (.int (45 : Int32)) = .int (45 : Int32) then some (.inl (some (.int (45 : Int32))), G1) else none)
noncomputable def t_201_0 (K : gK) (d : Nat) (l0 : Nat) (l1 : Nat) (G : gH) : Option gO := if g_cls G l0 = some 0 then (cI (gCa K d 229 [.ref l0] G) (t_201_0_1 K d)) else none
theorem e_201_0 {K : gK} {d : Nat} {l0 : Nat} {l1 : Nat} {G : gH} : gle (t_201_0 K d l0 l1 G) (gRn K d 201 0 [some (.ref l0), some (.ref l1)] [] G) := by
  unfold t_201_0
  refine g_aload ((q_201 _).trans rfl) rfl ?_
  refine g_callV (kk := 0) ((q_201 _).trans rfl) (gHn m_201) rfl (by exact ⟨Nat.le_of_ble_eq_true rfl, rfl⟩) rfl (fun w G1 => gm_I (fun v2 hw => ?_))
  subst hw
  refine g_ifeq ((q_201 _).trans rfl) (fun _ => ?_) (fun _ => ?_)
  · refine g_push ((q_201 _).trans rfl) ?_
    exact g_zret ((q_201 _).trans rfl)
  · refine g_push ((q_201 _).trans rfl) ?_
    refine g_goto ((q_201 _).trans rfl) ?_
    exact g_zret ((q_201 _).trans rfl)
theorem c_201 {K : gK} {d : Nat} {l0 : Nat} {l1 : Nat} {G : gH} : gle (t_201_0 K d l0 l1 G) (gCa K (d + 1) 201 [.ref l0, .ref l1] G) := by
  have h : gent (gMx 201) [.ref l0, .ref l1] = [some (.ref l0), some (.ref l1)] := by
    show gent (gT 201).2.2.2.1 _ = _
    rw [m_201]; rfl
  exact fun r e => (congrArg (fun q => gRn K d 201 0 q [] G) h).trans (e_201_0 r e)
theorem q_202 {K : gK} (pc : Nat) : gP K 202 pc = ((gL_202 K).lookup pc).getD o_none := rfl
noncomputable def t_202_0_1 (K : gK) (d : Nat) (G : gH) (v6 : Int32) : Option gO := if v6 = 0 then (if narrow .char (.int (45 : Int32)) = .int (45 : Int32) then some (.inl (some (.int (45 : Int32))), G) else none) else (if narrow .char (.int (109 : Int32)) = .int (109 : Int32) then some (.inl (some (.int (109 : Int32))), G) else none)
noncomputable def t_202_0_2 (K : gK) (d : Nat) (G : gH) (l0 : Nat) (v5 : Int32) : Option gO := if v5 = 0 then (if narrow .char (.int (109 : Int32)) = .int (109 : Int32) then some (.inl (some (.int (109 : Int32))), G) else none) else (rI G l0 0 10 (t_202_0_1 K d G))
noncomputable def t_202_0_3 (K : gK) (d : Nat) (G : gH) (l0 : Nat) (a4 : Nat) : Option gO := rI G a4 4 1 (t_202_0_2 K d G l0)
noncomputable def t_202_0_4 (K : gK) (d : Nat) (G : gH) (l0 : Nat) (a3 : Nat) : Option gO := rR G a3 1 0 (t_202_0_3 K d G l0)
noncomputable def t_202_0_5 (K : gK) (d : Nat) (G : gH) (l0 : Nat) (v2 : Int32) : Option gO := if v2 = 0 then (if narrow .char (.int (45 : Int32)) = .int (45 : Int32) then some (.inl (some (.int (45 : Int32))), G) else none) else (rR G l0 0 5 (t_202_0_4 K d G l0))
noncomputable def t_202_0_6 (K : gK) (d : Nat) (G : gH) (l0 : Nat) (a1 : Nat) : Option gO := rI G a1 1 2 (t_202_0_5 K d G l0)
noncomputable def t_202_0 (K : gK) (d : Nat) (l0 : Nat) (l1 : Nat) (G : gH) : Option gO := rR G l0 0 5 (t_202_0_6 K d G l0)
theorem e_202_0 {K : gK} {d : Nat} {l0 : Nat} {l1 : Nat} {G : gH} : gle (t_202_0 K d l0 l1 G) (gRn K d 202 0 [some (.ref l0), some (.ref l1)] [] G) := by
  unfold t_202_0
  refine g_aload ((q_202 _).trans rfl) rfl ?_
  refine g_getR ((q_202 _).trans rfl) (fun a1 => ?_)
  refine g_getI ((q_202 _).trans rfl) (fun v2 => ?_)
  refine g_ifeq ((q_202 _).trans rfl) (fun _ => ?_) (fun _ => ?_)
  · refine g_push ((q_202 _).trans rfl) ?_
    exact g_zret ((q_202 _).trans rfl)
  · refine g_aload ((q_202 _).trans rfl) rfl ?_
    refine g_getR ((q_202 _).trans rfl) (fun a3 => ?_)
    refine g_getR ((q_202 _).trans rfl) (fun a4 => ?_)
    refine g_getI ((q_202 _).trans rfl) (fun v5 => ?_)
    refine g_ifeq ((q_202 _).trans rfl) (fun _ => ?_) (fun _ => ?_)
    · refine g_push ((q_202 _).trans rfl) ?_
      refine g_goto ((q_202 _).trans rfl) ?_
      exact g_zret ((q_202 _).trans rfl)
    · refine g_aload ((q_202 _).trans rfl) rfl ?_
      refine g_getI ((q_202 _).trans rfl) (fun v6 => ?_)
      refine g_ifeq ((q_202 _).trans rfl) (fun _ => ?_) (fun _ => ?_)
      · refine g_push ((q_202 _).trans rfl) ?_
        exact g_zret ((q_202 _).trans rfl)
      · refine g_push ((q_202 _).trans rfl) ?_
        refine g_goto ((q_202 _).trans rfl) ?_
        exact g_zret ((q_202 _).trans rfl)
theorem c_202 {K : gK} {d : Nat} {l0 : Nat} {l1 : Nat} {G : gH} : gle (t_202_0 K d l0 l1 G) (gCa K (d + 1) 202 [.ref l0, .ref l1] G) := by
  have h : gent (gMx 202) [.ref l0, .ref l1] = [some (.ref l0), some (.ref l1)] := by
    show gent (gT 202).2.2.2.1 _ = _
    rw [m_202]; rfl
  exact fun r e => (congrArg (fun q => gRn K d 202 0 q [] G) h).trans (e_202_0 r e)
theorem q_203 {K : gK} (pc : Nat) : gP K 203 pc = ((gL_203 K).lookup pc).getD o_none := rfl
noncomputable def t_203_0_1 (K : gK) (d : Nat) (v2 : Int32) (G1 : gH) : Option gO := if v2 = 0 then (if narrow .char (.int (111 : Int32)) = .int (111 : Int32) then some (.inl (some (.int (111 : Int32))), G1) else none) else (if narrow .char (.int (45 : Int32)) = .int (45 : Int32) then some (.inl (some (.int (45 : Int32))), G1) else none)
noncomputable def t_203_0 (K : gK) (d : Nat) (l0 : Nat) (l1 : Nat) (G : gH) : Option gO := if g_cls G l0 = some 0 then (cI (gCa K d 230 [.ref l0] G) (t_203_0_1 K d)) else none
theorem e_203_0 {K : gK} {d : Nat} {l0 : Nat} {l1 : Nat} {G : gH} : gle (t_203_0 K d l0 l1 G) (gRn K d 203 0 [some (.ref l0), some (.ref l1)] [] G) := by
  unfold t_203_0
  refine g_aload ((q_203 _).trans rfl) rfl ?_
  refine g_callV (kk := 0) ((q_203 _).trans rfl) (gHn m_203) rfl (by exact ⟨Nat.le_of_ble_eq_true rfl, rfl⟩) rfl (fun w G1 => gm_I (fun v2 hw => ?_))
  subst hw
  refine g_ifeq ((q_203 _).trans rfl) (fun _ => ?_) (fun _ => ?_)
  · refine g_push ((q_203 _).trans rfl) ?_
    exact g_zret ((q_203 _).trans rfl)
  · refine g_push ((q_203 _).trans rfl) ?_
    refine g_goto ((q_203 _).trans rfl) ?_
    exact g_zret ((q_203 _).trans rfl)
theorem c_203 {K : gK} {d : Nat} {l0 : Nat} {l1 : Nat} {G : gH} : gle (t_203_0 K d l0 l1 G) (gCa K (d + 1) 203 [.ref l0, .ref l1] G) := by
  have h : gent (gMx 203) [.ref l0, .ref l1] = [some (.ref l0), some (.ref l1)] := by
    show gent (gT 203).2.2.2.1 _ = _
    rw [m_203]; rfl
  exact fun r e => (congrArg (fun q => gRn K d 203 0 q [] G) h).trans (e_203_0 r e)
theorem q_204 {K : gK} (pc : Nat) : gP K 204 pc = ((gL_204 K).lookup pc).getD o_none := rfl
noncomputable def t_204_0_1 (K : gK) (d : Nat) (v2 : Int32) (G1 : gH) : Option gO := if v2 = 0 then (if narrow .char (.int (45 : Int32)) = .int (45 : Int32) then some (.inl (some (.int (45 : Int32))), G1) else none) else (if narrow .char (.int (102 : Int32)) = .int (102 : Int32) then some (.inl (some (.int (102 : Int32))), G1) else none)
noncomputable def t_204_0 (K : gK) (d : Nat) (l0 : Nat) (l1 : Nat) (G : gH) : Option gO := if g_cls G l0 = some 0 then (cI (gCa K d 231 [.ref l0] G) (t_204_0_1 K d)) else none
theorem e_204_0 {K : gK} {d : Nat} {l0 : Nat} {l1 : Nat} {G : gH} : gle (t_204_0 K d l0 l1 G) (gRn K d 204 0 [some (.ref l0), some (.ref l1)] [] G) := by
  unfold t_204_0
  refine g_aload ((q_204 _).trans rfl) rfl ?_
  refine g_callV (kk := 0) ((q_204 _).trans rfl) (gHn m_204) rfl (by exact ⟨Nat.le_of_ble_eq_true rfl, rfl⟩) rfl (fun w G1 => gm_I (fun v2 hw => ?_))
  subst hw
  refine g_ifeq ((q_204 _).trans rfl) (fun _ => ?_) (fun _ => ?_)
  · refine g_push ((q_204 _).trans rfl) ?_
    exact g_zret ((q_204 _).trans rfl)
  · refine g_push ((q_204 _).trans rfl) ?_
    refine g_goto ((q_204 _).trans rfl) ?_
    exact g_zret ((q_204 _).trans rfl)
theorem c_204 {K : gK} {d : Nat} {l0 : Nat} {l1 : Nat} {G : gH} : gle (t_204_0 K d l0 l1 G) (gCa K (d + 1) 204 [.ref l0, .ref l1] G) := by
  have h : gent (gMx 204) [.ref l0, .ref l1] = [some (.ref l0), some (.ref l1)] := by
    show gent (gT 204).2.2.2.1 _ = _
    rw [m_204]; rfl
  exact fun r e => (congrArg (fun q => gRn K d 204 0 q [] G) h).trans (e_204_0 r e)
theorem q_205 {K : gK} (pc : Nat) : gP K 205 pc = ((gL_205 K).lookup pc).getD o_none := rfl
noncomputable def t_205_0_1 (K : gK) (d : Nat) (v2 : Int32) (G1 : gH) : Option gO := if v2 = 0 then (if narrow .char (.int (45 : Int32)) = .int (45 : Int32) then some (.inl (some (.int (45 : Int32))), G1) else none) else (if narrow .char (.int (112 : Int32)) = .int (112 : Int32) then some (.inl (some (.int (112 : Int32))), G1) else none)
noncomputable def t_205_0 (K : gK) (d : Nat) (l0 : Nat) (G : gH) : Option gO := if g_cls G l0 = some 2 then (cI (gCa K d 232 [.ref l0] G) (t_205_0_1 K d)) else none
theorem e_205_0 {K : gK} {d : Nat} {l0 : Nat} {G : gH} : gle (t_205_0 K d l0 G) (gRn K d 205 0 [some (.ref l0)] [] G) := by
  unfold t_205_0
  refine g_aload ((q_205 _).trans rfl) rfl ?_
  refine g_callV (kk := 0) ((q_205 _).trans rfl) (gHn m_205) rfl (by exact ⟨Nat.le_of_ble_eq_true rfl, rfl⟩) rfl (fun w G1 => gm_I (fun v2 hw => ?_))
  subst hw
  refine g_ifeq ((q_205 _).trans rfl) (fun _ => ?_) (fun _ => ?_)
  · refine g_push ((q_205 _).trans rfl) ?_
    exact g_zret ((q_205 _).trans rfl)
  · refine g_push ((q_205 _).trans rfl) ?_
    refine g_goto ((q_205 _).trans rfl) ?_
    exact g_zret ((q_205 _).trans rfl)
theorem c_205 {K : gK} {d : Nat} {l0 : Nat} {G : gH} : gle (t_205_0 K d l0 G) (gCa K (d + 1) 205 [.ref l0] G) := by
  have h : gent (gMx 205) [.ref l0] = [some (.ref l0)] := by
    show gent (gT 205).2.2.2.1 _ = _
    rw [m_205]; rfl
  exact fun r e => (congrArg (fun q => gRn K d 205 0 q [] G) h).trans (e_205_0 r e)
theorem q_206 {K : gK} (pc : Nat) : gP K 206 pc = ((gL_206 K).lookup pc).getD o_none := rfl
noncomputable def t_206_0_1 (K : gK) (d : Nat) (v2 : Int32) (G1 : gH) : Option gO := if v2 = 0 then (if narrow .char (.int (115 : Int32)) = .int (115 : Int32) then some (.inl (some (.int (115 : Int32))), G1) else none) else (if narrow .char (.int (45 : Int32)) = .int (45 : Int32) then some (.inl (some (.int (45 : Int32))), G1) else none)
noncomputable def t_206_0 (K : gK) (d : Nat) (l0 : Nat) (G : gH) : Option gO := if g_cls G l0 = some 2 then (cI (gCa K d 233 [.ref l0] G) (t_206_0_1 K d)) else none
theorem e_206_0 {K : gK} {d : Nat} {l0 : Nat} {G : gH} : gle (t_206_0 K d l0 G) (gRn K d 206 0 [some (.ref l0)] [] G) := by
  unfold t_206_0
  refine g_aload ((q_206 _).trans rfl) rfl ?_
  refine g_callV (kk := 0) ((q_206 _).trans rfl) (gHn m_206) rfl (by exact ⟨Nat.le_of_ble_eq_true rfl, rfl⟩) rfl (fun w G1 => gm_I (fun v2 hw => ?_))
  subst hw
  refine g_ifeq ((q_206 _).trans rfl) (fun _ => ?_) (fun _ => ?_)
  · refine g_push ((q_206 _).trans rfl) ?_
    exact g_zret ((q_206 _).trans rfl)
  · refine g_push ((q_206 _).trans rfl) ?_
    refine g_goto ((q_206 _).trans rfl) ?_
    exact g_zret ((q_206 _).trans rfl)
theorem c_206 {K : gK} {d : Nat} {l0 : Nat} {G : gH} : gle (t_206_0 K d l0 G) (gCa K (d + 1) 206 [.ref l0] G) := by
  have h : gent (gMx 206) [.ref l0] = [some (.ref l0)] := by
    show gent (gT 206).2.2.2.1 _ = _
    rw [m_206]; rfl
  exact fun r e => (congrArg (fun q => gRn K d 206 0 q [] G) h).trans (e_206_0 r e)
theorem q_207 {K : gK} (pc : Nat) : gP K 207 pc = ((gL_207 K).lookup pc).getD o_none := rfl
noncomputable def t_207_0_1 (K : gK) (d : Nat) (G11 : gH) : Option gO := some (.inl none, G11)
noncomputable def t_207_0_2 (K : gK) (d : Nat) (G9 : gH) (l0 : Nat) (v10 : Int32) : Option gO := if narrow .int (.int v10) = .int v10 ∧ fits .int (.int v10) = true then wF G9 l0 7 5 (.int v10) (t_207_0_1 K d) else none
noncomputable def t_207_0_3 (K : gK) (d : Nat) (l2 : Nat) (l0 : Nat) (G9 : gH) : Option gO := rI G9 l2 1 4 (t_207_0_2 K d G9 l0)
noncomputable def t_207_0_4 (K : gK) (d : Nat) (G7 : gH) (l0 : Nat) (l2 : Nat) (v8 : Int32) : Option gO := if narrow .int (.int v8) = .int v8 ∧ fits .int (.int v8) = true then wF G7 l0 7 4 (.int v8) (t_207_0_3 K d l2 l0) else none
noncomputable def t_207_0_5 (K : gK) (d : Nat) (l2 : Nat) (l0 : Nat) (G7 : gH) : Option gO := rI G7 l2 1 3 (t_207_0_4 K d G7 l0 l2)
noncomputable def t_207_0_6 (K : gK) (d : Nat) (G5 : gH) (l0 : Nat) (l2 : Nat) (v6 : Int32) : Option gO := if narrow .boolean (.int v6) = .int v6 ∧ fits .boolean (.int v6) = true then wF G5 l0 7 3 (.int v6) (t_207_0_5 K d l2 l0) else none
noncomputable def t_207_0_7 (K : gK) (d : Nat) (l2 : Nat) (l0 : Nat) (G5 : gH) : Option gO := rI G5 l2 1 2 (t_207_0_6 K d G5 l0 l2)
noncomputable def t_207_0_8 (K : gK) (d : Nat) (G3 : gH) (l0 : Nat) (l2 : Nat) (v4 : Int32) : Option gO := if narrow .int (.int v4) = .int v4 ∧ fits .int (.int v4) = true then wF G3 l0 7 2 (.int v4) (t_207_0_7 K d l2 l0) else none
noncomputable def t_207_0_9 (K : gK) (d : Nat) (l2 : Nat) (l0 : Nat) (G3 : gH) : Option gO := rI G3 l2 1 1 (t_207_0_8 K d G3 l0 l2)
noncomputable def t_207_0_10 (K : gK) (d : Nat) (G1 : gH) (l0 : Nat) (l2 : Nat) (a2 : Nat) : Option gO := if narrow (.object "CuttingRoom$Shape") (.ref a2) = .ref a2 ∧ fits (.object "CuttingRoom$Shape") (.ref a2) = true then wF G1 l0 7 1 (.ref a2) (t_207_0_9 K d l2 l0) else none
noncomputable def t_207_0_11 (K : gK) (d : Nat) (l2 : Nat) (l0 : Nat) (G1 : gH) : Option gO := rR G1 l2 1 0 (t_207_0_10 K d G1 l0 l2)
noncomputable def t_207_0 (K : gK) (d : Nat) (l0 : Nat) (l1 : Int32) (l2 : Nat) (G : gH) : Option gO := if narrow .int (.int l1) = .int l1 ∧ fits .int (.int l1) = true then wF G l0 7 0 (.int l1) (t_207_0_11 K d l2 l0) else none
theorem e_207_0 {K : gK} {d : Nat} {l0 : Nat} {l1 : Int32} {l2 : Nat} {G : gH} : gle (t_207_0 K d l0 l1 l2 G) (gRn K d 207 0 [some (.ref l0), some (.int l1), some (.ref l2)] [] G) := by
  unfold t_207_0
  refine g_aload ((q_207 _).trans rfl) rfl ?_
  refine g_objinit ((q_207 _).trans rfl) (Nat.le_of_ble_eq_true rfl) ?_
  refine g_aload ((q_207 _).trans rfl) rfl ?_
  refine g_iload ((q_207 _).trans rfl) rfl ?_
  refine g_putf ((q_207 _).trans rfl) (fun G1 => ?_)
  refine g_aload ((q_207 _).trans rfl) rfl ?_
  refine g_aload ((q_207 _).trans rfl) rfl ?_
  refine g_getR ((q_207 _).trans rfl) (fun a2 => ?_)
  refine g_putf ((q_207 _).trans rfl) (fun G3 => ?_)
  refine g_aload ((q_207 _).trans rfl) rfl ?_
  refine g_aload ((q_207 _).trans rfl) rfl ?_
  refine g_getI ((q_207 _).trans rfl) (fun v4 => ?_)
  refine g_putf ((q_207 _).trans rfl) (fun G5 => ?_)
  refine g_aload ((q_207 _).trans rfl) rfl ?_
  refine g_aload ((q_207 _).trans rfl) rfl ?_
  refine g_getI ((q_207 _).trans rfl) (fun v6 => ?_)
  refine g_putf ((q_207 _).trans rfl) (fun G7 => ?_)
  refine g_aload ((q_207 _).trans rfl) rfl ?_
  refine g_aload ((q_207 _).trans rfl) rfl ?_
  refine g_getI ((q_207 _).trans rfl) (fun v8 => ?_)
  refine g_putf ((q_207 _).trans rfl) (fun G9 => ?_)
  refine g_aload ((q_207 _).trans rfl) rfl ?_
  refine g_aload ((q_207 _).trans rfl) rfl ?_
  refine g_getI ((q_207 _).trans rfl) (fun v10 => ?_)
  refine g_putf ((q_207 _).trans rfl) (fun G11 => ?_)
  exact g_vret ((q_207 _).trans rfl)
theorem c_207 {K : gK} {d : Nat} {l0 : Nat} {l1 : Int32} {l2 : Nat} {G : gH} : gle (t_207_0 K d l0 l1 l2 G) (gCa K (d + 1) 207 [.ref l0, .int l1, .ref l2] G) := by
  have h : gent (gMx 207) [.ref l0, .int l1, .ref l2] = [some (.ref l0), some (.int l1), some (.ref l2)] := by
    show gent (gT 207).2.2.2.1 _ = _
    rw [m_207]; rfl
  exact fun r e => (congrArg (fun q => gRn K d 207 0 q [] G) h).trans (e_207_0 r e)
theorem q_208 {K : gK} (pc : Nat) : gP K 208 pc = ((gL_208 K).lookup pc).getD o_none := rfl
noncomputable def t_208_0 (K : gK) (d : Nat) (l0 : Nat) (l1 : Int32) (G : gH) : Option gO := gRn K d 208 2 [some (.ref l0), some (.int l1), some (.int (0 : Int32))] [] G
theorem e_208_0 {K : gK} {d : Nat} {l0 : Nat} {l1 : Int32} {G : gH} : gle (t_208_0 K d l0 l1 G) (gRn K d 208 0 [some (.ref l0), some (.int l1), none] [] G) := by
  unfold t_208_0
  refine g_push ((q_208 _).trans rfl) ?_
  refine g_istore ((q_208 _).trans rfl) ?_
  exact gle.rf _
theorem c_208 {K : gK} {d : Nat} {l0 : Nat} {l1 : Int32} {G : gH} : gle (t_208_0 K d l0 l1 G) (gCa K (d + 1) 208 [.ref l0, .int l1] G) := by
  have h : gent (gMx 208) [.ref l0, .int l1] = [some (.ref l0), some (.int l1), none] := by
    show gent (gT 208).2.2.2.1 _ = _
    rw [m_208]; rfl
  exact fun r e => (congrArg (fun q => gRn K d 208 0 q [] G) h).trans (e_208_0 r e)
noncomputable def t_208_2_1 (K : gK) (d : Nat) (G14 : gH) : Option gO := some (.inl none, G14)
noncomputable def t_208_2_2 (K : gK) (d : Nat) (a7 : Nat) (v11 : Int32) (v13 : Int32) (G12 : gH) : Option gO := yI G12 a7 0 v11 v13 (t_208_2_1 K d)
noncomputable def t_208_2_3 (K : gK) (d : Nat) (G5 : gH) (l0 : Nat) (a7 : Nat) (v11 : Int32) : Option gO := if g_cls G5 l0 = some 2 then (cI (gCa K d 238 [.ref l0] G5) (t_208_2_2 K d a7 v11)) else none
noncomputable def t_208_2_4 (K : gK) (d : Nat) (G5 : gH) (l0 : Nat) (a7 : Nat) (a10 : Nat) : Option gO := rI G5 a10 4 3 (t_208_2_3 K d G5 l0 a7)
noncomputable def t_208_2_5 (K : gK) (d : Nat) (G5 : gH) (l0 : Nat) (a7 : Nat) (a9 : Nat) : Option gO := rR G5 a9 1 0 (t_208_2_4 K d G5 l0 a7)
noncomputable def t_208_2_6 (K : gK) (d : Nat) (G5 : gH) (l0 : Nat) (a7 : Nat) (a8 : Nat) : Option gO := rR G5 a8 0 5 (t_208_2_5 K d G5 l0 a7)
noncomputable def t_208_2_7 (K : gK) (d : Nat) (G5 : gH) (l0 : Nat) (a7 : Nat) : Option gO := rR G5 l0 2 3 (t_208_2_6 K d G5 l0 a7)
noncomputable def t_208_2_8 (K : gK) (d : Nat) (l0 : Nat) (v6 : Int32) (G5 : gH) : Option gO := if v6 = 0 then (some (.inl none, G5)) else (rR G5 l0 2 1 (t_208_2_7 K d G5 l0))
noncomputable def t_208_2_9 (K : gK) (d : Nat) (l0 : Nat) (l1 : Int32) (l2 : Int32) (G33 : gH) : Option gO := gRn K d 208 2 [some (.ref l0), some (.int l1), some (.int (l2 + 1))] [] G33
noncomputable def t_208_2_10 (K : gK) (d : Nat) (l0 : Nat) (l1 : Int32) (l2 : Int32) (v32 : Int32) (G31 : gH) : Option gO := if narrow .int (.int v32) = .int v32 ∧ fits .int (.int v32) = true then wF G31 l0 2 2 (.int v32) (t_208_2_9 K d l0 l1 l2) else none
noncomputable def t_208_2_11 (K : gK) (d : Nat) (v26 : Int32) (l0 : Nat) (l1 : Int32) (l2 : Int32) (v30 : Int32) (G29 : gH) : Option gO := cI (gCa K d 236 [.int v26, .int (v30 + (1 : Int32))] G29) (t_208_2_10 K d l0 l1 l2)
noncomputable def t_208_2_12 (K : gK) (d : Nat) (G25 : gH) (l2 : Int32) (v26 : Int32) (l0 : Nat) (l1 : Int32) (a28 : Nat) : Option gO := if g_cls G25 a28 = some 1 then (cI (gCa K d 234 [.ref a28, .int l2] G25) (t_208_2_11 K d v26 l0 l1 l2)) else none
noncomputable def t_208_2_13 (K : gK) (d : Nat) (G25 : gH) (l2 : Int32) (v26 : Int32) (l0 : Nat) (l1 : Int32) (a27 : Nat) : Option gO := rR G25 a27 0 5 (t_208_2_12 K d G25 l2 v26 l0 l1)
noncomputable def t_208_2_14 (K : gK) (d : Nat) (G25 : gH) (l0 : Nat) (l2 : Int32) (l1 : Int32) (v26 : Int32) : Option gO := rR G25 l0 2 3 (t_208_2_13 K d G25 l2 v26 l0 l1)
noncomputable def t_208_2_15 (K : gK) (d : Nat) (l0 : Nat) (l2 : Int32) (l1 : Int32) (G25 : gH) : Option gO := rI G25 l0 2 2 (t_208_2_14 K d G25 l0 l2 l1)
noncomputable def t_208_2_16 (K : gK) (d : Nat) (a20 : Nat) (l1 : Int32) (l0 : Nat) (l2 : Int32) (v24 : Int32) (G23 : gH) : Option gO := yI G23 a20 0 v24 l1 (t_208_2_15 K d l0 l2 l1)
noncomputable def t_208_2_17 (K : gK) (d : Nat) (G18 : gH) (l2 : Int32) (a20 : Nat) (l1 : Int32) (l0 : Nat) (a22 : Nat) : Option gO := if g_cls G18 a22 = some 1 then (cI (gCa K d 235 [.ref a22, .int l2] G18) (t_208_2_16 K d a20 l1 l0 l2)) else none
noncomputable def t_208_2_18 (K : gK) (d : Nat) (G18 : gH) (l2 : Int32) (a20 : Nat) (l1 : Int32) (l0 : Nat) (a21 : Nat) : Option gO := rR G18 a21 0 5 (t_208_2_17 K d G18 l2 a20 l1 l0)
noncomputable def t_208_2_19 (K : gK) (d : Nat) (G18 : gH) (l0 : Nat) (l2 : Int32) (l1 : Int32) (a20 : Nat) : Option gO := rR G18 l0 2 3 (t_208_2_18 K d G18 l2 a20 l1 l0)
noncomputable def t_208_2_20 (K : gK) (d : Nat) (a15 : Nat) (l0 : Nat) (l2 : Int32) (l1 : Int32) (v19 : Int32) (G18 : gH) : Option gO := xQ G18 a15 8 v19 (t_208_2_19 K d G18 l0 l2 l1)
noncomputable def t_208_2_21 (K : gK) (d : Nat) (G3 : gH) (l2 : Int32) (a15 : Nat) (l0 : Nat) (l1 : Int32) (a17 : Nat) : Option gO := if g_cls G3 a17 = some 1 then (cI (gCa K d 234 [.ref a17, .int l2] G3) (t_208_2_20 K d a15 l0 l2 l1)) else none
noncomputable def t_208_2_22 (K : gK) (d : Nat) (G3 : gH) (l2 : Int32) (a15 : Nat) (l0 : Nat) (l1 : Int32) (a16 : Nat) : Option gO := rR G3 a16 0 5 (t_208_2_21 K d G3 l2 a15 l0 l1)
noncomputable def t_208_2_23 (K : gK) (d : Nat) (G3 : gH) (l0 : Nat) (l2 : Int32) (l1 : Int32) (a15 : Nat) : Option gO := rR G3 l0 2 3 (t_208_2_22 K d G3 l2 a15 l0 l1)
noncomputable def t_208_2_24 (K : gK) (d : Nat) (l2 : Int32) (l0 : Nat) (l1 : Int32) (v4 : Int32) (G3 : gH) : Option gO := if v4 ≤ l2 then (if g_cls G3 l0 = some 2 then (cI (gCa K d 237 [.ref l0] G3) (t_208_2_8 K d l0)) else none) else (rR G3 l0 2 0 (t_208_2_23 K d G3 l0 l2 l1))
noncomputable def t_208_2_25 (K : gK) (d : Nat) (G : gH) (l2 : Int32) (l0 : Nat) (l1 : Int32) (a2 : Nat) : Option gO := if g_cls G a2 = some 1 then (cI (gCa K d 228 [.ref a2] G) (t_208_2_24 K d l2 l0 l1)) else none
noncomputable def t_208_2_26 (K : gK) (d : Nat) (G : gH) (l2 : Int32) (l0 : Nat) (l1 : Int32) (a1 : Nat) : Option gO := rR G a1 0 5 (t_208_2_25 K d G l2 l0 l1)
noncomputable def t_208_2 (K : gK) (d : Nat) (l0 : Nat) (l1 : Int32) (l2 : Int32) (G : gH) : Option gO := rR G l0 2 3 (t_208_2_26 K d G l2 l0 l1)
theorem e_208_2 {K : gK} {d : Nat} {l0 : Nat} {l1 : Int32} {l2 : Int32} {G : gH} : gle (t_208_2 K d l0 l1 l2 G) (gRn K d 208 2 [some (.ref l0), some (.int l1), some (.int l2)] [] G) := by
  unfold t_208_2
  refine g_iload ((q_208 _).trans rfl) rfl ?_
  refine g_aload ((q_208 _).trans rfl) rfl ?_
  refine g_getR ((q_208 _).trans rfl) (fun a1 => ?_)
  refine g_getR ((q_208 _).trans rfl) (fun a2 => ?_)
  refine g_callV (kk := 0) ((q_208 _).trans rfl) (gHn m_208) rfl (by exact ⟨Nat.le_of_ble_eq_true rfl, rfl⟩) rfl (fun w G3 => gm_I (fun v4 hw => ?_))
  subst hw
  refine g_cmpge ((q_208 _).trans rfl) (fun _ => ?_) (fun _ => ?_)
  · refine g_aload ((q_208 _).trans rfl) rfl ?_
    refine g_callV (kk := 0) ((q_208 _).trans rfl) (gHn m_208) rfl (by exact ⟨Nat.le_of_ble_eq_true rfl, rfl⟩) rfl (fun w G5 => gm_I (fun v6 hw => ?_))
    subst hw
    refine g_ifeq ((q_208 _).trans rfl) (fun _ => ?_) (fun _ => ?_)
    · exact g_vret ((q_208 _).trans rfl)
    · refine g_aload ((q_208 _).trans rfl) rfl ?_
      refine g_getR ((q_208 _).trans rfl) (fun a7 => ?_)
      refine g_aload ((q_208 _).trans rfl) rfl ?_
      refine g_getR ((q_208 _).trans rfl) (fun a8 => ?_)
      refine g_getR ((q_208 _).trans rfl) (fun a9 => ?_)
      refine g_getR ((q_208 _).trans rfl) (fun a10 => ?_)
      refine g_getI ((q_208 _).trans rfl) (fun v11 => ?_)
      refine g_aload ((q_208 _).trans rfl) rfl ?_
      refine g_callV (kk := 0) ((q_208 _).trans rfl) (gHn m_208) rfl (by exact ⟨Nat.le_of_ble_eq_true rfl, rfl⟩) rfl (fun w G12 => gm_I (fun v13 hw => ?_))
      subst hw
      refine g_iast ((q_208 _).trans rfl) (fun G14 => ?_)
      exact g_vret ((q_208 _).trans rfl)
  · refine g_aload ((q_208 _).trans rfl) rfl ?_
    refine g_getR ((q_208 _).trans rfl) (fun a15 => ?_)
    refine g_aload ((q_208 _).trans rfl) rfl ?_
    refine g_getR ((q_208 _).trans rfl) (fun a16 => ?_)
    refine g_getR ((q_208 _).trans rfl) (fun a17 => ?_)
    refine g_iload ((q_208 _).trans rfl) rfl ?_
    refine g_callV (kk := 1) ((q_208 _).trans rfl) (gHn m_208) rfl (by exact ⟨Nat.le_of_ble_eq_true rfl, rfl⟩) rfl (fun w G18 => gm_I (fun v19 hw => ?_))
    subst hw
    refine g_aald ((q_208 _).trans rfl) (fun a20 => ?_)
    refine g_aload ((q_208 _).trans rfl) rfl ?_
    refine g_getR ((q_208 _).trans rfl) (fun a21 => ?_)
    refine g_getR ((q_208 _).trans rfl) (fun a22 => ?_)
    refine g_iload ((q_208 _).trans rfl) rfl ?_
    refine g_callV (kk := 1) ((q_208 _).trans rfl) (gHn m_208) rfl (by exact ⟨Nat.le_of_ble_eq_true rfl, rfl⟩) rfl (fun w G23 => gm_I (fun v24 hw => ?_))
    subst hw
    refine g_iload ((q_208 _).trans rfl) rfl ?_
    refine g_iast ((q_208 _).trans rfl) (fun G25 => ?_)
    refine g_aload ((q_208 _).trans rfl) rfl ?_
    refine g_aload ((q_208 _).trans rfl) rfl ?_
    refine g_getI ((q_208 _).trans rfl) (fun v26 => ?_)
    refine g_aload ((q_208 _).trans rfl) rfl ?_
    refine g_getR ((q_208 _).trans rfl) (fun a27 => ?_)
    refine g_getR ((q_208 _).trans rfl) (fun a28 => ?_)
    refine g_iload ((q_208 _).trans rfl) rfl ?_
    refine g_callV (kk := 1) ((q_208 _).trans rfl) (gHn m_208) rfl (by exact ⟨Nat.le_of_ble_eq_true rfl, rfl⟩) rfl (fun w G29 => gm_I (fun v30 hw => ?_))
    subst hw
    refine g_push ((q_208 _).trans rfl) ?_
    refine g_iadd ((q_208 _).trans rfl) ?_
    refine g_callS (kk := 2) ((q_208 _).trans rfl) (gHn m_208) (by exact ⟨Nat.le_of_ble_eq_true rfl, Nat.le_of_ble_eq_true rfl, rfl⟩) rfl (fun w G31 => gm_I (fun v32 hw => ?_))
    subst hw
    refine g_putf ((q_208 _).trans rfl) (fun G33 => ?_)
    refine g_iinc ((q_208 _).trans rfl) rfl ?_
    refine g_goto ((q_208 _).trans rfl) ?_
    exact gle.rf _
theorem q_209 {K : gK} (pc : Nat) : gP K 209 pc = ((gL_209 K).lookup pc).getD o_none := rfl
noncomputable def t_209_0 (K : gK) (d : Nat) (l0 : Int32) (l1 : Int32) (l2 : Int32) (G : gH) : Option gO := if l2 = 0 then (some (.inl (some (.int l0)), G)) else (if l2 = (1 : Int32) then (some (.inl (some (.int l1)), G)) else (if l2 = (2 : Int32) then (some (.inl (some (.int ((4 : Int32) - l0))), G)) else (some (.inl (some (.int ((4 : Int32) - l1))), G))))
theorem e_209_0 {K : gK} {d : Nat} {l0 : Int32} {l1 : Int32} {l2 : Int32} {G : gH} : gle (t_209_0 K d l0 l1 l2 G) (gRn K d 209 0 [some (.int l0), some (.int l1), some (.int l2)] [] G) := by
  unfold t_209_0
  refine g_iload ((q_209 _).trans rfl) rfl ?_
  refine g_ifne ((q_209 _).trans rfl) (fun _ => ?_) (fun _ => ?_)
  · refine g_iload ((q_209 _).trans rfl) rfl ?_
    refine g_goto ((q_209 _).trans rfl) ?_
    exact g_iret ((q_209 _).trans rfl)
  · refine g_iload ((q_209 _).trans rfl) rfl ?_
    refine g_push ((q_209 _).trans rfl) ?_
    refine g_cmpne ((q_209 _).trans rfl) (fun _ => ?_) (fun _ => ?_)
    · refine g_iload ((q_209 _).trans rfl) rfl ?_
      refine g_goto ((q_209 _).trans rfl) ?_
      exact g_iret ((q_209 _).trans rfl)
    · refine g_iload ((q_209 _).trans rfl) rfl ?_
      refine g_push ((q_209 _).trans rfl) ?_
      refine g_cmpne ((q_209 _).trans rfl) (fun _ => ?_) (fun _ => ?_)
      · refine g_push ((q_209 _).trans rfl) ?_
        refine g_iload ((q_209 _).trans rfl) rfl ?_
        refine g_isub ((q_209 _).trans rfl) ?_
        refine g_goto ((q_209 _).trans rfl) ?_
        exact g_iret ((q_209 _).trans rfl)
      · refine g_push ((q_209 _).trans rfl) ?_
        refine g_iload ((q_209 _).trans rfl) rfl ?_
        refine g_isub ((q_209 _).trans rfl) ?_
        exact g_iret ((q_209 _).trans rfl)
theorem c_209 {K : gK} {d : Nat} {l0 : Int32} {l1 : Int32} {l2 : Int32} {G : gH} : gle (t_209_0 K d l0 l1 l2 G) (gCa K (d + 1) 209 [.int l0, .int l1, .int l2] G) := by
  have h : gent (gMx 209) [.int l0, .int l1, .int l2] = [some (.int l0), some (.int l1), some (.int l2)] := by
    show gent (gT 209).2.2.2.1 _ = _
    rw [m_209]; rfl
  exact fun r e => (congrArg (fun q => gRn K d 209 0 q [] G) h).trans (e_209_0 r e)
theorem q_210 {K : gK} (pc : Nat) : gP K 210 pc = ((gL_210 K).lookup pc).getD o_none := rfl
noncomputable def t_210_0 (K : gK) (d : Nat) (l0 : Int32) (l1 : Int32) (l2 : Int32) (G : gH) : Option gO := if l2 = 0 then (some (.inl (some (.int l1)), G)) else (if l2 = (1 : Int32) then (some (.inl (some (.int ((4 : Int32) - l0))), G)) else (if l2 = (2 : Int32) then (some (.inl (some (.int ((4 : Int32) - l1))), G)) else (some (.inl (some (.int l0)), G))))
theorem e_210_0 {K : gK} {d : Nat} {l0 : Int32} {l1 : Int32} {l2 : Int32} {G : gH} : gle (t_210_0 K d l0 l1 l2 G) (gRn K d 210 0 [some (.int l0), some (.int l1), some (.int l2)] [] G) := by
  unfold t_210_0
  refine g_iload ((q_210 _).trans rfl) rfl ?_
  refine g_ifne ((q_210 _).trans rfl) (fun _ => ?_) (fun _ => ?_)
  · refine g_iload ((q_210 _).trans rfl) rfl ?_
    refine g_goto ((q_210 _).trans rfl) ?_
    exact g_iret ((q_210 _).trans rfl)
  · refine g_iload ((q_210 _).trans rfl) rfl ?_
    refine g_push ((q_210 _).trans rfl) ?_
    refine g_cmpne ((q_210 _).trans rfl) (fun _ => ?_) (fun _ => ?_)
    · refine g_push ((q_210 _).trans rfl) ?_
      refine g_iload ((q_210 _).trans rfl) rfl ?_
      refine g_isub ((q_210 _).trans rfl) ?_
      refine g_goto ((q_210 _).trans rfl) ?_
      exact g_iret ((q_210 _).trans rfl)
    · refine g_iload ((q_210 _).trans rfl) rfl ?_
      refine g_push ((q_210 _).trans rfl) ?_
      refine g_cmpne ((q_210 _).trans rfl) (fun _ => ?_) (fun _ => ?_)
      · refine g_push ((q_210 _).trans rfl) ?_
        refine g_iload ((q_210 _).trans rfl) rfl ?_
        refine g_isub ((q_210 _).trans rfl) ?_
        refine g_goto ((q_210 _).trans rfl) ?_
        exact g_iret ((q_210 _).trans rfl)
      · refine g_iload ((q_210 _).trans rfl) rfl ?_
        exact g_iret ((q_210 _).trans rfl)
theorem c_210 {K : gK} {d : Nat} {l0 : Int32} {l1 : Int32} {l2 : Int32} {G : gH} : gle (t_210_0 K d l0 l1 l2 G) (gCa K (d + 1) 210 [.int l0, .int l1, .int l2] G) := by
  have h : gent (gMx 210) [.int l0, .int l1, .int l2] = [some (.int l0), some (.int l1), some (.int l2)] := by
    show gent (gT 210).2.2.2.1 _ = _
    rw [m_210]; rfl
  exact fun r e => (congrArg (fun q => gRn K d 210 0 q [] G) h).trans (e_210_0 r e)
theorem q_211 {K : gK} (pc : Nat) : gP K 211 pc = ((gL_211 K).lookup pc).getD o_none := rfl
noncomputable def t_211_0_1 (K : gK) (d : Nat) (G : gH) (v6 : Int32) : Option gO := if v6 = 0 then (if narrow .boolean (.int (0 : Int32)) = .int (0 : Int32) then some (.inl (some (.int (0 : Int32))), G) else none) else (if narrow .boolean (.int (1 : Int32)) = .int (1 : Int32) then some (.inl (some (.int (1 : Int32))), G) else none)
noncomputable def t_211_0_2 (K : gK) (d : Nat) (G : gH) (a4 : Nat) (l1 : Int32) (l2 : Int32) (v5 : Int32) : Option gO := xI G a4 1 (((((12 : Int32) * l1) + v5) - (1 : Int32)) - l2) (t_211_0_1 K d G)
noncomputable def t_211_0_3 (K : gK) (d : Nat) (G : gH) (l0 : Nat) (l1 : Int32) (l2 : Int32) (a4 : Nat) : Option gO := rI G l0 3 1 (t_211_0_2 K d G a4 l1 l2)
noncomputable def t_211_0_4 (K : gK) (d : Nat) (G : gH) (l0 : Nat) (l1 : Int32) (l2 : Int32) (v3 : Int32) : Option gO := if v3 = 0 then (if narrow .boolean (.int (0 : Int32)) = .int (0 : Int32) then some (.inl (some (.int (0 : Int32))), G) else none) else (rR G l0 3 6 (t_211_0_3 K d G l0 l1 l2))
noncomputable def t_211_0_5 (K : gK) (d : Nat) (G : gH) (l0 : Nat) (l1 : Int32) (l2 : Int32) (v2 : Int32) : Option gO := if v2 = 0 then (rI G l0 3 3 (t_211_0_4 K d G l0 l1 l2)) else (if narrow .boolean (.int (1 : Int32)) = .int (1 : Int32) then some (.inl (some (.int (1 : Int32))), G) else none)
noncomputable def t_211_0_6 (K : gK) (d : Nat) (G : gH) (l1 : Int32) (l2 : Int32) (l0 : Nat) (a1 : Nat) : Option gO := xI G a1 1 (((12 : Int32) * l1) + l2) (t_211_0_5 K d G l0 l1 l2)
noncomputable def t_211_0 (K : gK) (d : Nat) (l0 : Nat) (l1 : Int32) (l2 : Int32) (G : gH) : Option gO := rR G l0 3 6 (t_211_0_6 K d G l1 l2 l0)
theorem e_211_0 {K : gK} {d : Nat} {l0 : Nat} {l1 : Int32} {l2 : Int32} {G : gH} : gle (t_211_0 K d l0 l1 l2 G) (gRn K d 211 0 [some (.ref l0), some (.int l1), some (.int l2)] [] G) := by
  unfold t_211_0
  refine g_aload ((q_211 _).trans rfl) rfl ?_
  refine g_getR ((q_211 _).trans rfl) (fun a1 => ?_)
  refine g_push ((q_211 _).trans rfl) ?_
  refine g_iload ((q_211 _).trans rfl) rfl ?_
  refine g_imul ((q_211 _).trans rfl) ?_
  refine g_iload ((q_211 _).trans rfl) rfl ?_
  refine g_iadd ((q_211 _).trans rfl) ?_
  refine g_iald ((q_211 _).trans rfl) (fun v2 => ?_)
  refine g_ifne ((q_211 _).trans rfl) (fun _ => ?_) (fun _ => ?_)
  · refine g_aload ((q_211 _).trans rfl) rfl ?_
    refine g_getI ((q_211 _).trans rfl) (fun v3 => ?_)
    refine g_ifeq ((q_211 _).trans rfl) (fun _ => ?_) (fun _ => ?_)
    · refine g_push ((q_211 _).trans rfl) ?_
      exact g_zret ((q_211 _).trans rfl)
    · refine g_aload ((q_211 _).trans rfl) rfl ?_
      refine g_getR ((q_211 _).trans rfl) (fun a4 => ?_)
      refine g_push ((q_211 _).trans rfl) ?_
      refine g_iload ((q_211 _).trans rfl) rfl ?_
      refine g_imul ((q_211 _).trans rfl) ?_
      refine g_aload ((q_211 _).trans rfl) rfl ?_
      refine g_getI ((q_211 _).trans rfl) (fun v5 => ?_)
      refine g_iadd ((q_211 _).trans rfl) ?_
      refine g_push ((q_211 _).trans rfl) ?_
      refine g_isub ((q_211 _).trans rfl) ?_
      refine g_iload ((q_211 _).trans rfl) rfl ?_
      refine g_isub ((q_211 _).trans rfl) ?_
      refine g_iald ((q_211 _).trans rfl) (fun v6 => ?_)
      refine g_ifeq ((q_211 _).trans rfl) (fun _ => ?_) (fun _ => ?_)
      · refine g_push ((q_211 _).trans rfl) ?_
        exact g_zret ((q_211 _).trans rfl)
      · refine g_push ((q_211 _).trans rfl) ?_
        refine g_goto ((q_211 _).trans rfl) ?_
        exact g_zret ((q_211 _).trans rfl)
  · refine g_push ((q_211 _).trans rfl) ?_
    refine g_goto ((q_211 _).trans rfl) ?_
    exact g_zret ((q_211 _).trans rfl)
theorem c_211 {K : gK} {d : Nat} {l0 : Nat} {l1 : Int32} {l2 : Int32} {G : gH} : gle (t_211_0 K d l0 l1 l2 G) (gCa K (d + 1) 211 [.ref l0, .int l1, .int l2] G) := by
  have h : gent (gMx 211) [.ref l0, .int l1, .int l2] = [some (.ref l0), some (.int l1), some (.int l2)] := by
    show gent (gT 211).2.2.2.1 _ = _
    rw [m_211]; rfl
  exact fun r e => (congrArg (fun q => gRn K d 211 0 q [] G) h).trans (e_211_0 r e)
theorem q_212 {K : gK} (pc : Nat) : gP K 212 pc = ((gL_212 K).lookup pc).getD o_none := rfl
noncomputable def t_212_0 (K : gK) (d : Nat) (l0 : Nat) (l1 : Nat) (G : gH) : Option gO := if l0 = l1 then (if narrow .boolean (.int (1 : Int32)) = .int (1 : Int32) then some (.inl (some (.int (1 : Int32))), G) else none) else (if narrow .boolean (.int (0 : Int32)) = .int (0 : Int32) then some (.inl (some (.int (0 : Int32))), G) else none)
theorem e_212_0 {K : gK} {d : Nat} {l0 : Nat} {l1 : Nat} {G : gH} : gle (t_212_0 K d l0 l1 G) (gRn K d 212 0 [some (.ref l0), some (.ref l1)] [] G) := by
  unfold t_212_0
  refine g_aload ((q_212 _).trans rfl) rfl ?_
  refine g_aload ((q_212 _).trans rfl) rfl ?_
  refine g_acmpne ((q_212 _).trans rfl) (fun _ => ?_) (fun _ => ?_)
  · refine g_push ((q_212 _).trans rfl) ?_
    refine g_goto ((q_212 _).trans rfl) ?_
    exact g_zret ((q_212 _).trans rfl)
  · refine g_push ((q_212 _).trans rfl) ?_
    exact g_zret ((q_212 _).trans rfl)
theorem c_212 {K : gK} {d : Nat} {l0 : Nat} {l1 : Nat} {G : gH} : gle (t_212_0 K d l0 l1 G) (gCa K (d + 1) 212 [.ref l0, .ref l1] G) := by
  have h : gent (gMx 212) [.ref l0, .ref l1] = [some (.ref l0), some (.ref l1)] := by
    show gent (gT 212).2.2.2.1 _ = _
    rw [m_212]; rfl
  exact fun r e => (congrArg (fun q => gRn K d 212 0 q [] G) h).trans (e_212_0 r e)
theorem q_213 {K : gK} (pc : Nat) : gP K 213 pc = ((gL_213 K).lookup pc).getD o_none := rfl
noncomputable def t_213_0_1 (K : gK) (d : Nat) (G5 : gH) : Option gO := some (.inl none, G5)
noncomputable def t_213_0_2 (K : gK) (d : Nat) (l1 : Nat) (v3 : Int32) (G4 : gH) : Option gO := yQ G4 l1 5 (v3 - (1 : Int32)) none (t_213_0_1 K d)
noncomputable def t_213_0_3 (K : gK) (d : Nat) (G8 : gH) : Option gO := some (.inl none, G8)
noncomputable def t_213_0_4 (K : gK) (d : Nat) (l1 : Nat) (v3 : Int32) (G7 : gH) : Option gO := yQ G7 l1 5 (v3 - (1 : Int32)) none (t_213_0_3 K d)
noncomputable def t_213_0_5 (K : gK) (d : Nat) (v3 : Int32) (l0 : Nat) (l1 : Nat) (G6 : gH) : Option gO := if narrow .int (.int (v3 - (1 : Int32))) = .int (v3 - (1 : Int32)) ∧ fits .int (.int (v3 - (1 : Int32))) = true then wF G6 l0 12 2 (.int (v3 - (1 : Int32))) (t_213_0_4 K d l1 v3) else none
noncomputable def t_213_0_6 (K : gK) (d : Nat) (l2 : Int32) (G2 : gH) (l0 : Nat) (l1 : Nat) (v3 : Int32) : Option gO := if (v3 - (1 : Int32)) ≤ l2 then (if narrow .int (.int (v3 - (1 : Int32))) = .int (v3 - (1 : Int32)) ∧ fits .int (.int (v3 - (1 : Int32))) = true then wF G2 l0 12 2 (.int (v3 - (1 : Int32))) (t_213_0_2 K d l1 v3) else none) else (wC [some (.ref l0), some (.ref l1), some (.int l2), some (.int (v3 - (1 : Int32)))] [.int ((v3 - (1 : Int32)) - l2), .int l2, .ref l1, .int (l2 + (1 : Int32)), .ref l1] G2 34 (t_213_0_5 K d v3 l0 l1))
noncomputable def t_213_0_7 (K : gK) (d : Nat) (l0 : Nat) (l2 : Int32) (l1 : Nat) (G2 : gH) : Option gO := rI G2 l0 12 2 (t_213_0_6 K d l2 G2 l0 l1)
noncomputable def t_213_0_8 (K : gK) (d : Nat) (G : gH) (l0 : Nat) (l2 : Int32) (l1 : Nat) (v1 : Int32) : Option gO := if narrow .int (.int (v1 + (1 : Int32))) = .int (v1 + (1 : Int32)) ∧ fits .int (.int (v1 + (1 : Int32))) = true then wF G l0 12 0 (.int (v1 + (1 : Int32))) (t_213_0_7 K d l0 l2 l1) else none
noncomputable def t_213_0 (K : gK) (d : Nat) (l0 : Nat) (l1 : Nat) (l2 : Int32) (G : gH) : Option gO := rI G l0 12 0 (t_213_0_8 K d G l0 l2 l1)
theorem e_213_0 {K : gK} {d : Nat} {l0 : Nat} {l1 : Nat} {l2 : Int32} {G : gH} : gle (t_213_0 K d l0 l1 l2 G) (gRn K d 213 0 [some (.ref l0), some (.ref l1), some (.int l2), none] [] G) := by
  unfold t_213_0
  refine g_aload ((q_213 _).trans rfl) rfl ?_
  refine g_dup_ref ((q_213 _).trans rfl) ?_
  refine g_getI ((q_213 _).trans rfl) (fun v1 => ?_)
  refine g_push ((q_213 _).trans rfl) ?_
  refine g_iadd ((q_213 _).trans rfl) ?_
  refine g_putf ((q_213 _).trans rfl) (fun G2 => ?_)
  refine g_aload ((q_213 _).trans rfl) rfl ?_
  refine g_getI ((q_213 _).trans rfl) (fun v3 => ?_)
  refine g_push ((q_213 _).trans rfl) ?_
  refine g_isub ((q_213 _).trans rfl) ?_
  refine g_dup_int ((q_213 _).trans rfl) ?_
  refine g_istore ((q_213 _).trans rfl) ?_
  refine g_iload ((q_213 _).trans rfl) rfl ?_
  refine g_cmple ((q_213 _).trans rfl) (fun _ => ?_) (fun _ => ?_)
  · refine g_aload ((q_213 _).trans rfl) rfl ?_
    refine g_aload ((q_213 _).trans rfl) rfl ?_
    refine g_iload ((q_213 _).trans rfl) rfl ?_
    refine g_dup_x1_int ((q_213 _).trans rfl) ?_
    refine g_putf ((q_213 _).trans rfl) (fun G4 => ?_)
    refine g_push ((q_213 _).trans rfl) ?_
    refine g_aastN ((q_213 _).trans rfl) (fun G5 => ?_)
    exact g_vret ((q_213 _).trans rfl)
  · refine g_aload ((q_213 _).trans rfl) rfl ?_
    refine g_iload ((q_213 _).trans rfl) rfl ?_
    refine g_push ((q_213 _).trans rfl) ?_
    refine g_iadd ((q_213 _).trans rfl) ?_
    refine g_aload ((q_213 _).trans rfl) rfl ?_
    refine g_iload ((q_213 _).trans rfl) rfl ?_
    refine g_iload ((q_213 _).trans rfl) rfl ?_
    refine g_iload ((q_213 _).trans rfl) rfl ?_
    refine g_isub ((q_213 _).trans rfl) ?_
    refine g_copy ((q_213 _).trans rfl) (fun G6 => ?_)
    refine g_aload ((q_213 _).trans rfl) rfl ?_
    refine g_aload ((q_213 _).trans rfl) rfl ?_
    refine g_iload ((q_213 _).trans rfl) rfl ?_
    refine g_dup_x1_int ((q_213 _).trans rfl) ?_
    refine g_putf ((q_213 _).trans rfl) (fun G7 => ?_)
    refine g_push ((q_213 _).trans rfl) ?_
    refine g_aastN ((q_213 _).trans rfl) (fun G8 => ?_)
    exact g_vret ((q_213 _).trans rfl)
theorem c_213 {K : gK} {d : Nat} {l0 : Nat} {l1 : Nat} {l2 : Int32} {G : gH} : gle (t_213_0 K d l0 l1 l2 G) (gCa K (d + 1) 213 [.ref l0, .ref l1, .int l2] G) := by
  have h : gent (gMx 213) [.ref l0, .ref l1, .int l2] = [some (.ref l0), some (.ref l1), some (.int l2), none] := by
    show gent (gT 213).2.2.2.1 _ = _
    rw [m_213]; rfl
  exact fun r e => (congrArg (fun q => gRn K d 213 0 q [] G) h).trans (e_213_0 r e)
theorem q_214 {K : gK} (pc : Nat) : gP K 214 pc = ((gL_214 K).lookup pc).getD o_none := rfl
noncomputable def t_214_0_1 (K : gK) (d : Nat) (G8 : gH) : Option gO := some (.inl none, G8)
noncomputable def t_214_0_2 (K : gK) (d : Nat) (G3 : gH) (l0 : Nat) (v5 : Int32) (v6 : Int32) (v7 : Int32) : Option gO := if g_cls G3 l0 = some 1 then (cV (gCa K d 165 [.ref l0, .int v5, .int v6, .int v7] G3) (t_214_0_1 K d)) else none
noncomputable def t_214_0_3 (K : gK) (d : Nat) (G3 : gH) (l1 : Nat) (l0 : Nat) (v5 : Int32) (v6 : Int32) : Option gO := rI G3 l1 7 5 (t_214_0_2 K d G3 l0 v5 v6)
noncomputable def t_214_0_4 (K : gK) (d : Nat) (G3 : gH) (l1 : Nat) (l0 : Nat) (v5 : Int32) : Option gO := rI G3 l1 7 4 (t_214_0_3 K d G3 l1 l0 v5)
noncomputable def t_214_0_5 (K : gK) (d : Nat) (l1 : Nat) (l0 : Nat) (G3 : gH) : Option gO := rI G3 l1 7 2 (t_214_0_4 K d G3 l1 l0)
noncomputable def t_214_0_6 (K : gK) (d : Nat) (G : gH) (l0 : Nat) (a1 : Nat) (l1 : Nat) (v2 : Int32) : Option gO := if g_cls G l0 = some 1 then (cV (gCa K d 163 [.ref l0, .ref a1, .int v2] G) (t_214_0_5 K d l1 l0)) else none
noncomputable def t_214_0_7 (K : gK) (d : Nat) (G : gH) (l1 : Nat) (l0 : Nat) (a1 : Nat) : Option gO := rI G l1 7 3 (t_214_0_6 K d G l0 a1 l1)
noncomputable def t_214_0 (K : gK) (d : Nat) (l0 : Nat) (l1 : Nat) (G : gH) : Option gO := rR G l1 7 1 (t_214_0_7 K d G l1 l0)
theorem e_214_0 {K : gK} {d : Nat} {l0 : Nat} {l1 : Nat} {G : gH} : gle (t_214_0 K d l0 l1 G) (gRn K d 214 0 [some (.ref l0), some (.ref l1)] [] G) := by
  unfold t_214_0
  refine g_aload ((q_214 _).trans rfl) rfl ?_
  refine g_aload ((q_214 _).trans rfl) rfl ?_
  refine g_getR ((q_214 _).trans rfl) (fun a1 => ?_)
  refine g_aload ((q_214 _).trans rfl) rfl ?_
  refine g_getI ((q_214 _).trans rfl) (fun v2 => ?_)
  refine g_callV (kk := 2) ((q_214 _).trans rfl) (gHn m_214) rfl (by exact ⟨Nat.le_of_ble_eq_true rfl, rfl⟩) rfl (fun w G3 => gm_V (fun hw => ?_))
  subst hw
  refine g_aload ((q_214 _).trans rfl) rfl ?_
  refine g_aload ((q_214 _).trans rfl) rfl ?_
  refine g_getI ((q_214 _).trans rfl) (fun v5 => ?_)
  refine g_aload ((q_214 _).trans rfl) rfl ?_
  refine g_getI ((q_214 _).trans rfl) (fun v6 => ?_)
  refine g_aload ((q_214 _).trans rfl) rfl ?_
  refine g_getI ((q_214 _).trans rfl) (fun v7 => ?_)
  refine g_callV (kk := 3) ((q_214 _).trans rfl) (gHn m_214) rfl (by exact ⟨Nat.le_of_ble_eq_true rfl, rfl⟩) rfl (fun w G8 => gm_V (fun hw => ?_))
  subst hw
  exact g_vret ((q_214 _).trans rfl)
theorem c_214 {K : gK} {d : Nat} {l0 : Nat} {l1 : Nat} {G : gH} : gle (t_214_0 K d l0 l1 G) (gCa K (d + 1) 214 [.ref l0, .ref l1] G) := by
  have h : gent (gMx 214) [.ref l0, .ref l1] = [some (.ref l0), some (.ref l1)] := by
    show gent (gT 214).2.2.2.1 _ = _
    rw [m_214]; rfl
  exact fun r e => (congrArg (fun q => gRn K d 214 0 q [] G) h).trans (e_214_0 r e)
theorem q_215 {K : gK} (pc : Nat) : gP K 215 pc = ((gL_215 K).lookup pc).getD o_none := rfl
noncomputable def t_215_0_1 (K : gK) (d : Nat) (v2 : Int32) (G1 : gH) : Option gO := some (.inl (some (.int v2)), G1)
noncomputable def t_215_0 (K : gK) (d : Nat) (l0 : Int32) (l1 : Int32) (G : gH) : Option gO := cI (gCa K d 239 [.int l0, .int l1, .null] G) (t_215_0_1 K d)
theorem e_215_0 {K : gK} {d : Nat} {l0 : Int32} {l1 : Int32} {G : gH} : gle (t_215_0 K d l0 l1 G) (gRn K d 215 0 [some (.int l0), some (.int l1)] [] G) := by
  unfold t_215_0
  refine g_iload ((q_215 _).trans rfl) rfl ?_
  refine g_iload ((q_215 _).trans rfl) rfl ?_
  refine g_push ((q_215 _).trans rfl) ?_
  refine g_callS (kk := 3) ((q_215 _).trans rfl) (gHn m_215) (by exact ⟨Nat.le_of_ble_eq_true rfl, Nat.le_of_ble_eq_true rfl, rfl⟩) rfl (fun w G1 => gm_I (fun v2 hw => ?_))
  subst hw
  exact g_iret ((q_215 _).trans rfl)
theorem c_215 {K : gK} {d : Nat} {l0 : Int32} {l1 : Int32} {G : gH} : gle (t_215_0 K d l0 l1 G) (gCa K (d + 1) 215 [.int l0, .int l1] G) := by
  have h : gent (gMx 215) [.int l0, .int l1] = [some (.int l0), some (.int l1)] := by
    show gent (gT 215).2.2.2.1 _ = _
    rw [m_215]; rfl
  exact fun r e => (congrArg (fun q => gRn K d 215 0 q [] G) h).trans (e_215_0 r e)
theorem q_216 {K : gK} (pc : Nat) : gP K 216 pc = ((gL_216 K).lookup pc).getD o_none := rfl
noncomputable def t_216_0_1 (K : gK) (d : Nat) (G : gH) (a2 : Nat) : Option gO := some (.inl (some (.ref a2)), G)
noncomputable def t_216_0_2 (K : gK) (d : Nat) (G : gH) (l1 : Int32) (a1 : Nat) : Option gO := xQ G a1 5 l1 (t_216_0_1 K d G)
noncomputable def t_216_0 (K : gK) (d : Nat) (l0 : Nat) (l1 : Int32) (G : gH) : Option gO := rR G l0 12 1 (t_216_0_2 K d G l1)
theorem e_216_0 {K : gK} {d : Nat} {l0 : Nat} {l1 : Int32} {G : gH} : gle (t_216_0 K d l0 l1 G) (gRn K d 216 0 [some (.ref l0), some (.int l1)] [] G) := by
  unfold t_216_0
  refine g_aload ((q_216 _).trans rfl) rfl ?_
  refine g_getR ((q_216 _).trans rfl) (fun a1 => ?_)
  refine g_iload ((q_216 _).trans rfl) rfl ?_
  refine g_aald ((q_216 _).trans rfl) (fun a2 => ?_)
  exact g_aret ((q_216 _).trans rfl)
theorem c_216 {K : gK} {d : Nat} {l0 : Nat} {l1 : Int32} {G : gH} : gle (t_216_0 K d l0 l1 G) (gCa K (d + 1) 216 [.ref l0, .int l1] G) := by
  have h : gent (gMx 216) [.ref l0, .int l1] = [some (.ref l0), some (.int l1)] := by
    show gent (gT 216).2.2.2.1 _ = _
    rw [m_216]; rfl
  exact fun r e => (congrArg (fun q => gRn K d 216 0 q [] G) h).trans (e_216_0 r e)
theorem q_217 {K : gK} (pc : Nat) : gP K 217 pc = ((gL_217 K).lookup pc).getD o_none := rfl
noncomputable def t_217_0_1 (K : gK) (d : Nat) (G : gH) (a2 : Nat) : Option gO := some (.inl (some (.ref a2)), G)
noncomputable def t_217_0_2 (K : gK) (d : Nat) (G : gH) (a3 : Nat) : Option gO := some (.inl (some (.ref a3)), G)
noncomputable def t_217_0_3 (K : gK) (d : Nat) (l1 : Int32) (G : gH) (l2 : Int32) (a1 : Nat) : Option gO := if l1 = 0 then (xQ G a1 7 l2 (t_217_0_1 K d G)) else (xQ G a1 7 ((4 : Int32) + l2) (t_217_0_2 K d G))
noncomputable def t_217_0 (K : gK) (d : Nat) (l0 : Nat) (l1 : Int32) (l2 : Int32) (G : gH) : Option gO := rR G l0 4 8 (t_217_0_3 K d l1 G l2)
theorem e_217_0 {K : gK} {d : Nat} {l0 : Nat} {l1 : Int32} {l2 : Int32} {G : gH} : gle (t_217_0 K d l0 l1 l2 G) (gRn K d 217 0 [some (.ref l0), some (.int l1), some (.int l2)] [] G) := by
  unfold t_217_0
  refine g_aload ((q_217 _).trans rfl) rfl ?_
  refine g_getR ((q_217 _).trans rfl) (fun a1 => ?_)
  refine g_iload ((q_217 _).trans rfl) rfl ?_
  refine g_ifeq ((q_217 _).trans rfl) (fun _ => ?_) (fun _ => ?_)
  · refine g_iload ((q_217 _).trans rfl) rfl ?_
    refine g_aald ((q_217 _).trans rfl) (fun a2 => ?_)
    exact g_aret ((q_217 _).trans rfl)
  · refine g_push ((q_217 _).trans rfl) ?_
    refine g_iload ((q_217 _).trans rfl) rfl ?_
    refine g_iadd ((q_217 _).trans rfl) ?_
    refine g_goto ((q_217 _).trans rfl) ?_
    refine g_aald ((q_217 _).trans rfl) (fun a3 => ?_)
    exact g_aret ((q_217 _).trans rfl)
theorem c_217 {K : gK} {d : Nat} {l0 : Nat} {l1 : Int32} {l2 : Int32} {G : gH} : gle (t_217_0 K d l0 l1 l2 G) (gCa K (d + 1) 217 [.ref l0, .int l1, .int l2] G) := by
  have h : gent (gMx 217) [.ref l0, .int l1, .int l2] = [some (.ref l0), some (.int l1), some (.int l2)] := by
    show gent (gT 217).2.2.2.1 _ = _
    rw [m_217]; rfl
  exact fun r e => (congrArg (fun q => gRn K d 217 0 q [] G) h).trans (e_217_0 r e)
theorem q_218 {K : gK} (pc : Nat) : gP K 218 pc = ((gL_218 K).lookup pc).getD o_none := rfl
noncomputable def t_218_0 (K : gK) (d : Nat) (l0 : Nat) (l1 : Int32) (l2 : Int32) (G : gH) : Option gO := gRn K d 218 2 [some (.ref l0), some (.int l1), some (.int l2), some (.int (0 : Int32))] [] G
theorem e_218_0 {K : gK} {d : Nat} {l0 : Nat} {l1 : Int32} {l2 : Int32} {G : gH} : gle (t_218_0 K d l0 l1 l2 G) (gRn K d 218 0 [some (.ref l0), some (.int l1), some (.int l2), none] [] G) := by
  unfold t_218_0
  refine g_push ((q_218 _).trans rfl) ?_
  refine g_istore ((q_218 _).trans rfl) ?_
  exact gle.rf _
theorem c_218 {K : gK} {d : Nat} {l0 : Nat} {l1 : Int32} {l2 : Int32} {G : gH} : gle (t_218_0 K d l0 l1 l2 G) (gCa K (d + 1) 218 [.ref l0, .int l1, .int l2] G) := by
  have h : gent (gMx 218) [.ref l0, .int l1, .int l2] = [some (.ref l0), some (.int l1), some (.int l2), none] := by
    show gent (gT 218).2.2.2.1 _ = _
    rw [m_218]; rfl
  exact fun r e => (congrArg (fun q => gRn K d 218 0 q [] G) h).trans (e_218_0 r e)
noncomputable def t_218_2_1 (K : gK) (d : Nat) (l2 : Int32) (G : gH) (l0 : Nat) (l1 : Int32) (l3 : Int32) (v6 : Int32) : Option gO := if v6 = l2 then (if narrow .boolean (.int (1 : Int32)) = .int (1 : Int32) then some (.inl (some (.int (1 : Int32))), G) else none) else (gRn K d 218 2 [some (.ref l0), some (.int l1), some (.int l2), some (.int (l3 + 1))] [] G)
noncomputable def t_218_2_2 (K : gK) (d : Nat) (G : gH) (l3 : Int32) (l2 : Int32) (l0 : Nat) (l1 : Int32) (a5 : Nat) : Option gO := xI G a5 0 l3 (t_218_2_1 K d l2 G l0 l1 l3)
noncomputable def t_218_2_3 (K : gK) (d : Nat) (l1 : Int32) (G : gH) (l0 : Nat) (l3 : Int32) (l2 : Int32) (v4 : Int32) : Option gO := if v4 = l1 then (rR G l0 6 1 (t_218_2_2 K d G l3 l2 l0 l1)) else (gRn K d 218 2 [some (.ref l0), some (.int l1), some (.int l2), some (.int (l3 + 1))] [] G)
noncomputable def t_218_2_4 (K : gK) (d : Nat) (G : gH) (l3 : Int32) (l1 : Int32) (l0 : Nat) (l2 : Int32) (a3 : Nat) : Option gO := xI G a3 0 l3 (t_218_2_3 K d l1 G l0 l3 l2)
noncomputable def t_218_2_5 (K : gK) (d : Nat) (l3 : Int32) (G : gH) (l0 : Nat) (l1 : Int32) (l2 : Int32) (v2 : Int32) : Option gO := if v2 ≤ l3 then (if narrow .boolean (.int (0 : Int32)) = .int (0 : Int32) then some (.inl (some (.int (0 : Int32))), G) else none) else (rR G l0 6 0 (t_218_2_4 K d G l3 l1 l0 l2))
noncomputable def t_218_2_6 (K : gK) (d : Nat) (G : gH) (l3 : Int32) (l0 : Nat) (l1 : Int32) (l2 : Int32) (a1 : Nat) : Option gO := xL K G a1 (t_218_2_5 K d l3 G l0 l1 l2)
noncomputable def t_218_2 (K : gK) (d : Nat) (l0 : Nat) (l1 : Int32) (l2 : Int32) (l3 : Int32) (G : gH) : Option gO := rR G l0 6 0 (t_218_2_6 K d G l3 l0 l1 l2)
theorem e_218_2 {K : gK} {d : Nat} {l0 : Nat} {l1 : Int32} {l2 : Int32} {l3 : Int32} {G : gH} : gle (t_218_2 K d l0 l1 l2 l3 G) (gRn K d 218 2 [some (.ref l0), some (.int l1), some (.int l2), some (.int l3)] [] G) := by
  unfold t_218_2
  refine g_iload ((q_218 _).trans rfl) rfl ?_
  refine g_aload ((q_218 _).trans rfl) rfl ?_
  refine g_getR ((q_218 _).trans rfl) (fun a1 => ?_)
  refine g_alen ((q_218 _).trans rfl) (fun v2 => ?_)
  refine g_cmpge ((q_218 _).trans rfl) (fun _ => ?_) (fun _ => ?_)
  · refine g_push ((q_218 _).trans rfl) ?_
    exact g_zret ((q_218 _).trans rfl)
  · refine g_aload ((q_218 _).trans rfl) rfl ?_
    refine g_getR ((q_218 _).trans rfl) (fun a3 => ?_)
    refine g_iload ((q_218 _).trans rfl) rfl ?_
    refine g_iald ((q_218 _).trans rfl) (fun v4 => ?_)
    refine g_iload ((q_218 _).trans rfl) rfl ?_
    refine g_cmpne ((q_218 _).trans rfl) (fun _ => ?_) (fun _ => ?_)
    · refine g_aload ((q_218 _).trans rfl) rfl ?_
      refine g_getR ((q_218 _).trans rfl) (fun a5 => ?_)
      refine g_iload ((q_218 _).trans rfl) rfl ?_
      refine g_iald ((q_218 _).trans rfl) (fun v6 => ?_)
      refine g_iload ((q_218 _).trans rfl) rfl ?_
      refine g_cmpne ((q_218 _).trans rfl) (fun _ => ?_) (fun _ => ?_)
      · refine g_push ((q_218 _).trans rfl) ?_
        exact g_zret ((q_218 _).trans rfl)
      · refine g_iinc ((q_218 _).trans rfl) rfl ?_
        refine g_goto ((q_218 _).trans rfl) ?_
        exact gle.rf _
    · refine g_iinc ((q_218 _).trans rfl) rfl ?_
      refine g_goto ((q_218 _).trans rfl) ?_
      exact gle.rf _
theorem q_219 {K : gK} (pc : Nat) : gP K 219 pc = ((gL_219 K).lookup pc).getD o_none := rfl
noncomputable def t_219_0_1 (K : gK) (d : Nat) (G : gH) (v3 : Int32) : Option gO := some (.inl (some (.int v3)), G)
noncomputable def t_219_0_2 (K : gK) (d : Nat) (G : gH) (v4 : Int32) : Option gO := some (.inl (some (.int ((2 : Int32) * v4))), G)
noncomputable def t_219_0_3 (K : gK) (d : Nat) (G : gH) (l0 : Nat) (v2 : Int32) : Option gO := if v2 = 0 then (rI G l0 9 1 (t_219_0_1 K d G)) else (rI G l0 9 1 (t_219_0_2 K d G))
noncomputable def t_219_0_4 (K : gK) (d : Nat) (G : gH) (l0 : Nat) (a1 : Nat) : Option gO := rI G a1 4 1 (t_219_0_3 K d G l0)
noncomputable def t_219_0 (K : gK) (d : Nat) (l0 : Nat) (G : gH) : Option gO := rR G l0 9 0 (t_219_0_4 K d G l0)
theorem e_219_0 {K : gK} {d : Nat} {l0 : Nat} {G : gH} : gle (t_219_0 K d l0 G) (gRn K d 219 0 [some (.ref l0)] [] G) := by
  unfold t_219_0
  refine g_aload ((q_219 _).trans rfl) rfl ?_
  refine g_getR ((q_219 _).trans rfl) (fun a1 => ?_)
  refine g_getI ((q_219 _).trans rfl) (fun v2 => ?_)
  refine g_ifeq ((q_219 _).trans rfl) (fun _ => ?_) (fun _ => ?_)
  · refine g_aload ((q_219 _).trans rfl) rfl ?_
    refine g_getI ((q_219 _).trans rfl) (fun v3 => ?_)
    exact g_iret ((q_219 _).trans rfl)
  · refine g_push ((q_219 _).trans rfl) ?_
    refine g_aload ((q_219 _).trans rfl) rfl ?_
    refine g_getI ((q_219 _).trans rfl) (fun v4 => ?_)
    refine g_imul ((q_219 _).trans rfl) ?_
    refine g_goto ((q_219 _).trans rfl) ?_
    exact g_iret ((q_219 _).trans rfl)
theorem c_219 {K : gK} {d : Nat} {l0 : Nat} {G : gH} : gle (t_219_0 K d l0 G) (gCa K (d + 1) 219 [.ref l0] G) := by
  have h : gent (gMx 219) [.ref l0] = [some (.ref l0)] := by
    show gent (gT 219).2.2.2.1 _ = _
    rw [m_219]; rfl
  exact fun r e => (congrArg (fun q => gRn K d 219 0 q [] G) h).trans (e_219_0 r e)
theorem q_220 {K : gK} (pc : Nat) : gP K 220 pc = ((gL_220 K).lookup pc).getD o_none := rfl
noncomputable def t_220_0_1 (K : gK) (d : Nat) (l0 : Nat) (l1 : Nat) (G : gH) (G1 : gH) : Option gO := gRn K d 220 10 [some (.ref l0), some (.ref l1), some (.ref (G.2.1)), some (.int (0 : Int32)), none, none] [] G1
noncomputable def t_220_0 (K : gK) (d : Nat) (l0 : Nat) (l1 : Nat) (G : gH) : Option gO := cV (gCa K d 84 [.ref (G.2.1)] (gnew G (.inr (12, [.int 0, .null, .int 0])) 3)) (t_220_0_1 K d l0 l1 G)
theorem e_220_0 {K : gK} {d : Nat} {l0 : Nat} {l1 : Nat} {G : gH} : gle (t_220_0 K d l0 l1 G) (gRn K d 220 0 [some (.ref l0), some (.ref l1), none, none, none, none] [] G) := by
  unfold t_220_0
  refine g_new ((q_220 _).trans rfl) ?_
  refine g_dup_ref ((q_220 _).trans rfl) ?_
  refine g_callI (kk := 0) ((q_220 _).trans rfl) (gHn m_220) rfl (by exact ⟨Nat.le_of_ble_eq_true rfl, rfl⟩) rfl (fun w G1 => gm_V (fun hw => ?_))
  subst hw
  refine g_astore ((q_220 _).trans rfl) ?_
  refine g_push ((q_220 _).trans rfl) ?_
  refine g_istore ((q_220 _).trans rfl) ?_
  exact gle.rf _
theorem c_220 {K : gK} {d : Nat} {l0 : Nat} {l1 : Nat} {G : gH} : gle (t_220_0 K d l0 l1 G) (gCa K (d + 1) 220 [.ref l0, .ref l1] G) := by
  have h : gent (gMx 220) [.ref l0, .ref l1] = [some (.ref l0), some (.ref l1), none, none, none, none] := by
    show gent (gT 220).2.2.2.1 _ = _
    rw [m_220]; rfl
  exact fun r e => (congrArg (fun q => gRn K d 220 0 q [] G) h).trans (e_220_0 r e)
noncomputable def t_220_10_1 (K : gK) (d : Nat) (l0 : Nat) (l1 : Nat) (l2 : Nat) (l3 : Int32) (a6 : Nat) (G15 : gH) : Option gO := gRn K d 220 10 [some (.ref l0), some (.ref l1), some (.ref l2), some (.int (l3 + 1)), some (.ref a6), some (.int (0 : Int32))] [] G15
noncomputable def t_220_10_2 (K : gK) (d : Nat) (l0 : Nat) (l1 : Nat) (l2 : Nat) (l3 : Int32) (a6 : Nat) (G19 : gH) : Option gO := gRn K d 220 10 [some (.ref l0), some (.ref l1), some (.ref l2), some (.int (l3 + 1)), some (.ref a6), some (.int (0 : Int32))] [] G19
noncomputable def t_220_10_3 (K : gK) (d : Nat) (l2 : Nat) (a12 : Nat) (G10 : gH) (l0 : Nat) (l1 : Nat) (l3 : Int32) (a6 : Nat) (v18 : Int32) : Option gO := cV (gCa K d 240 [.ref l2, .ref a12, .int (1 : Int32), .int v18] G10) (t_220_10_2 K d l0 l1 l2 l3 a6)
noncomputable def t_220_10_4 (K : gK) (d : Nat) (l0 : Nat) (l1 : Nat) (l2 : Nat) (l3 : Int32) (a6 : Nat) (G21 : gH) : Option gO := gRn K d 220 10 [some (.ref l0), some (.ref l1), some (.ref l2), some (.int (l3 + 1)), some (.ref a6), some (.int (0 : Int32))] [] G21
noncomputable def t_220_10_5 (K : gK) (d : Nat) (G10 : gH) (a6 : Nat) (l2 : Nat) (a12 : Nat) (l0 : Nat) (l1 : Nat) (l3 : Int32) (v17 : Int32) : Option gO := if v17 = 0 then (rI G10 a6 9 1 (t_220_10_3 K d l2 a12 G10 l0 l1 l3 a6)) else (cV (gCa K d 240 [.ref l2, .ref a12, .int (1 : Int32), .int (0 : Int32)] G10) (t_220_10_4 K d l0 l1 l2 l3 a6))
noncomputable def t_220_10_6 (K : gK) (d : Nat) (l2 : Nat) (a12 : Nat) (G10 : gH) (l0 : Nat) (l1 : Nat) (l3 : Int32) (a6 : Nat) (v14 : Int32) : Option gO := if v14 = 0 then (cV (gCa K d 240 [.ref l2, .ref a12, .int (1 : Int32), .int (0 : Int32)] G10) (t_220_10_1 K d l0 l1 l2 l3 a6)) else (rI G10 l0 0 10 (t_220_10_5 K d G10 a6 l2 a12 l0 l1 l3))
noncomputable def t_220_10_7 (K : gK) (d : Nat) (G10 : gH) (l2 : Nat) (a12 : Nat) (l0 : Nat) (l1 : Nat) (l3 : Int32) (a6 : Nat) (a13 : Nat) : Option gO := rI G10 a13 4 1 (t_220_10_6 K d l2 a12 G10 l0 l1 l3 a6)
noncomputable def t_220_10_8 (K : gK) (d : Nat) (G10 : gH) (a6 : Nat) (l2 : Nat) (l0 : Nat) (l1 : Nat) (l3 : Int32) (a12 : Nat) : Option gO := rR G10 a6 9 0 (t_220_10_7 K d G10 l2 a12 l0 l1 l3 a6)
noncomputable def t_220_10_9 (K : gK) (d : Nat) (a6 : Nat) (l2 : Nat) (l0 : Nat) (l1 : Nat) (l3 : Int32) (G10 : gH) : Option gO := rR G10 a6 9 0 (t_220_10_8 K d G10 a6 l2 l0 l1 l3)
noncomputable def t_220_10_10 (K : gK) (d : Nat) (l2 : Nat) (a8 : Nat) (G5 : gH) (a6 : Nat) (l0 : Nat) (l1 : Nat) (l3 : Int32) (v9 : Int32) : Option gO := cV (gCa K d 240 [.ref l2, .ref a8, .int (0 : Int32), .int v9] G5) (t_220_10_9 K d a6 l2 l0 l1 l3)
noncomputable def t_220_10_11 (K : gK) (d : Nat) (l0 : Nat) (l1 : Nat) (l2 : Nat) (l3 : Int32) (a6 : Nat) (G29 : gH) : Option gO := gRn K d 220 10 [some (.ref l0), some (.ref l1), some (.ref l2), some (.int (l3 + 1)), some (.ref a6), some (.int (0 : Int32))] [] G29
noncomputable def t_220_10_12 (K : gK) (d : Nat) (l0 : Nat) (l1 : Nat) (l2 : Nat) (l3 : Int32) (a6 : Nat) (G33 : gH) : Option gO := gRn K d 220 10 [some (.ref l0), some (.ref l1), some (.ref l2), some (.int (l3 + 1)), some (.ref a6), some (.int (0 : Int32))] [] G33
noncomputable def t_220_10_13 (K : gK) (d : Nat) (l2 : Nat) (a26 : Nat) (G24 : gH) (l0 : Nat) (l1 : Nat) (l3 : Int32) (a6 : Nat) (v32 : Int32) : Option gO := cV (gCa K d 240 [.ref l2, .ref a26, .int (1 : Int32), .int v32] G24) (t_220_10_12 K d l0 l1 l2 l3 a6)
noncomputable def t_220_10_14 (K : gK) (d : Nat) (l0 : Nat) (l1 : Nat) (l2 : Nat) (l3 : Int32) (a6 : Nat) (G35 : gH) : Option gO := gRn K d 220 10 [some (.ref l0), some (.ref l1), some (.ref l2), some (.int (l3 + 1)), some (.ref a6), some (.int (0 : Int32))] [] G35
noncomputable def t_220_10_15 (K : gK) (d : Nat) (G24 : gH) (a6 : Nat) (l2 : Nat) (a26 : Nat) (l0 : Nat) (l1 : Nat) (l3 : Int32) (v31 : Int32) : Option gO := if v31 = 0 then (rI G24 a6 9 1 (t_220_10_13 K d l2 a26 G24 l0 l1 l3 a6)) else (cV (gCa K d 240 [.ref l2, .ref a26, .int (1 : Int32), .int (0 : Int32)] G24) (t_220_10_14 K d l0 l1 l2 l3 a6))
noncomputable def t_220_10_16 (K : gK) (d : Nat) (l2 : Nat) (a26 : Nat) (G24 : gH) (l0 : Nat) (l1 : Nat) (l3 : Int32) (a6 : Nat) (v28 : Int32) : Option gO := if v28 = 0 then (cV (gCa K d 240 [.ref l2, .ref a26, .int (1 : Int32), .int (0 : Int32)] G24) (t_220_10_11 K d l0 l1 l2 l3 a6)) else (rI G24 l0 0 10 (t_220_10_15 K d G24 a6 l2 a26 l0 l1 l3))
noncomputable def t_220_10_17 (K : gK) (d : Nat) (G24 : gH) (l2 : Nat) (a26 : Nat) (l0 : Nat) (l1 : Nat) (l3 : Int32) (a6 : Nat) (a27 : Nat) : Option gO := rI G24 a27 4 1 (t_220_10_16 K d l2 a26 G24 l0 l1 l3 a6)
noncomputable def t_220_10_18 (K : gK) (d : Nat) (G24 : gH) (a6 : Nat) (l2 : Nat) (l0 : Nat) (l1 : Nat) (l3 : Int32) (a26 : Nat) : Option gO := rR G24 a6 9 0 (t_220_10_17 K d G24 l2 a26 l0 l1 l3 a6)
noncomputable def t_220_10_19 (K : gK) (d : Nat) (a6 : Nat) (l2 : Nat) (l0 : Nat) (l1 : Nat) (l3 : Int32) (G24 : gH) : Option gO := rR G24 a6 9 0 (t_220_10_18 K d G24 a6 l2 l0 l1 l3)
noncomputable def t_220_10_20 (K : gK) (d : Nat) (l2 : Nat) (a8 : Nat) (G5 : gH) (a6 : Nat) (l0 : Nat) (l1 : Nat) (l3 : Int32) (v23 : Int32) : Option gO := if (2 : Int32) = 0 then none else (cV (gCa K d 240 [.ref l2, .ref a8, .int (0 : Int32), .int ((v23 + (1 : Int32)) / (2 : Int32))] G5) (t_220_10_19 K d a6 l2 l0 l1 l3))
noncomputable def t_220_10_21 (K : gK) (d : Nat) (G5 : gH) (a6 : Nat) (l2 : Nat) (l0 : Nat) (l1 : Nat) (l3 : Int32) (a8 : Nat) : Option gO := if (0 : Int32) = 0 then (rI G5 a6 9 1 (t_220_10_10 K d l2 a8 G5 a6 l0 l1 l3)) else (rI G5 a6 9 1 (t_220_10_20 K d l2 a8 G5 a6 l0 l1 l3))
noncomputable def t_220_10_22 (K : gK) (d : Nat) (l0 : Nat) (l1 : Nat) (l2 : Nat) (l3 : Int32) (a6 : Nat) (G46 : gH) : Option gO := gRn K d 220 10 [some (.ref l0), some (.ref l1), some (.ref l2), some (.int (l3 + 1)), some (.ref a6), some (.int (1 : Int32))] [] G46
noncomputable def t_220_10_23 (K : gK) (d : Nat) (l0 : Nat) (l1 : Nat) (l2 : Nat) (l3 : Int32) (a6 : Nat) (G50 : gH) : Option gO := gRn K d 220 10 [some (.ref l0), some (.ref l1), some (.ref l2), some (.int (l3 + 1)), some (.ref a6), some (.int (1 : Int32))] [] G50
noncomputable def t_220_10_24 (K : gK) (d : Nat) (l2 : Nat) (a43 : Nat) (G41 : gH) (l0 : Nat) (l1 : Nat) (l3 : Int32) (a6 : Nat) (v49 : Int32) : Option gO := cV (gCa K d 240 [.ref l2, .ref a43, .int (1 : Int32), .int v49] G41) (t_220_10_23 K d l0 l1 l2 l3 a6)
noncomputable def t_220_10_25 (K : gK) (d : Nat) (l0 : Nat) (l1 : Nat) (l2 : Nat) (l3 : Int32) (a6 : Nat) (G52 : gH) : Option gO := gRn K d 220 10 [some (.ref l0), some (.ref l1), some (.ref l2), some (.int (l3 + 1)), some (.ref a6), some (.int (1 : Int32))] [] G52
noncomputable def t_220_10_26 (K : gK) (d : Nat) (G41 : gH) (a6 : Nat) (l2 : Nat) (a43 : Nat) (l0 : Nat) (l1 : Nat) (l3 : Int32) (v48 : Int32) : Option gO := if v48 = 0 then (rI G41 a6 9 1 (t_220_10_24 K d l2 a43 G41 l0 l1 l3 a6)) else (cV (gCa K d 240 [.ref l2, .ref a43, .int (1 : Int32), .int (0 : Int32)] G41) (t_220_10_25 K d l0 l1 l2 l3 a6))
noncomputable def t_220_10_27 (K : gK) (d : Nat) (l2 : Nat) (a43 : Nat) (G41 : gH) (l0 : Nat) (l1 : Nat) (l3 : Int32) (a6 : Nat) (v45 : Int32) : Option gO := if v45 = 0 then (cV (gCa K d 240 [.ref l2, .ref a43, .int (1 : Int32), .int (0 : Int32)] G41) (t_220_10_22 K d l0 l1 l2 l3 a6)) else (rI G41 l0 0 10 (t_220_10_26 K d G41 a6 l2 a43 l0 l1 l3))
noncomputable def t_220_10_28 (K : gK) (d : Nat) (G41 : gH) (l2 : Nat) (a43 : Nat) (l0 : Nat) (l1 : Nat) (l3 : Int32) (a6 : Nat) (a44 : Nat) : Option gO := rI G41 a44 4 1 (t_220_10_27 K d l2 a43 G41 l0 l1 l3 a6)
noncomputable def t_220_10_29 (K : gK) (d : Nat) (G41 : gH) (a6 : Nat) (l2 : Nat) (l0 : Nat) (l1 : Nat) (l3 : Int32) (a43 : Nat) : Option gO := rR G41 a6 9 0 (t_220_10_28 K d G41 l2 a43 l0 l1 l3 a6)
noncomputable def t_220_10_30 (K : gK) (d : Nat) (a6 : Nat) (l2 : Nat) (l0 : Nat) (l1 : Nat) (l3 : Int32) (G41 : gH) : Option gO := rR G41 a6 9 0 (t_220_10_29 K d G41 a6 l2 l0 l1 l3)
noncomputable def t_220_10_31 (K : gK) (d : Nat) (l2 : Nat) (a39 : Nat) (G5 : gH) (a6 : Nat) (l0 : Nat) (l1 : Nat) (l3 : Int32) (v40 : Int32) : Option gO := cV (gCa K d 240 [.ref l2, .ref a39, .int (0 : Int32), .int v40] G5) (t_220_10_30 K d a6 l2 l0 l1 l3)
noncomputable def t_220_10_32 (K : gK) (d : Nat) (l0 : Nat) (l1 : Nat) (l2 : Nat) (l3 : Int32) (a6 : Nat) (G60 : gH) : Option gO := gRn K d 220 10 [some (.ref l0), some (.ref l1), some (.ref l2), some (.int (l3 + 1)), some (.ref a6), some (.int (1 : Int32))] [] G60
noncomputable def t_220_10_33 (K : gK) (d : Nat) (l0 : Nat) (l1 : Nat) (l2 : Nat) (l3 : Int32) (a6 : Nat) (G64 : gH) : Option gO := gRn K d 220 10 [some (.ref l0), some (.ref l1), some (.ref l2), some (.int (l3 + 1)), some (.ref a6), some (.int (1 : Int32))] [] G64
noncomputable def t_220_10_34 (K : gK) (d : Nat) (l2 : Nat) (a57 : Nat) (G55 : gH) (l0 : Nat) (l1 : Nat) (l3 : Int32) (a6 : Nat) (v63 : Int32) : Option gO := cV (gCa K d 240 [.ref l2, .ref a57, .int (1 : Int32), .int v63] G55) (t_220_10_33 K d l0 l1 l2 l3 a6)
noncomputable def t_220_10_35 (K : gK) (d : Nat) (l0 : Nat) (l1 : Nat) (l2 : Nat) (l3 : Int32) (a6 : Nat) (G66 : gH) : Option gO := gRn K d 220 10 [some (.ref l0), some (.ref l1), some (.ref l2), some (.int (l3 + 1)), some (.ref a6), some (.int (1 : Int32))] [] G66
noncomputable def t_220_10_36 (K : gK) (d : Nat) (G55 : gH) (a6 : Nat) (l2 : Nat) (a57 : Nat) (l0 : Nat) (l1 : Nat) (l3 : Int32) (v62 : Int32) : Option gO := if v62 = 0 then (rI G55 a6 9 1 (t_220_10_34 K d l2 a57 G55 l0 l1 l3 a6)) else (cV (gCa K d 240 [.ref l2, .ref a57, .int (1 : Int32), .int (0 : Int32)] G55) (t_220_10_35 K d l0 l1 l2 l3 a6))
noncomputable def t_220_10_37 (K : gK) (d : Nat) (l2 : Nat) (a57 : Nat) (G55 : gH) (l0 : Nat) (l1 : Nat) (l3 : Int32) (a6 : Nat) (v59 : Int32) : Option gO := if v59 = 0 then (cV (gCa K d 240 [.ref l2, .ref a57, .int (1 : Int32), .int (0 : Int32)] G55) (t_220_10_32 K d l0 l1 l2 l3 a6)) else (rI G55 l0 0 10 (t_220_10_36 K d G55 a6 l2 a57 l0 l1 l3))
noncomputable def t_220_10_38 (K : gK) (d : Nat) (G55 : gH) (l2 : Nat) (a57 : Nat) (l0 : Nat) (l1 : Nat) (l3 : Int32) (a6 : Nat) (a58 : Nat) : Option gO := rI G55 a58 4 1 (t_220_10_37 K d l2 a57 G55 l0 l1 l3 a6)
noncomputable def t_220_10_39 (K : gK) (d : Nat) (G55 : gH) (a6 : Nat) (l2 : Nat) (l0 : Nat) (l1 : Nat) (l3 : Int32) (a57 : Nat) : Option gO := rR G55 a6 9 0 (t_220_10_38 K d G55 l2 a57 l0 l1 l3 a6)
noncomputable def t_220_10_40 (K : gK) (d : Nat) (a6 : Nat) (l2 : Nat) (l0 : Nat) (l1 : Nat) (l3 : Int32) (G55 : gH) : Option gO := rR G55 a6 9 0 (t_220_10_39 K d G55 a6 l2 l0 l1 l3)
noncomputable def t_220_10_41 (K : gK) (d : Nat) (l2 : Nat) (a39 : Nat) (G5 : gH) (a6 : Nat) (l0 : Nat) (l1 : Nat) (l3 : Int32) (v54 : Int32) : Option gO := if (2 : Int32) = 0 then none else (cV (gCa K d 240 [.ref l2, .ref a39, .int (0 : Int32), .int ((v54 + (1 : Int32)) / (2 : Int32))] G5) (t_220_10_40 K d a6 l2 l0 l1 l3))
noncomputable def t_220_10_42 (K : gK) (d : Nat) (G5 : gH) (a6 : Nat) (l2 : Nat) (l0 : Nat) (l1 : Nat) (l3 : Int32) (a39 : Nat) : Option gO := if (1 : Int32) = 0 then (rI G5 a6 9 1 (t_220_10_31 K d l2 a39 G5 a6 l0 l1 l3)) else (rI G5 a6 9 1 (t_220_10_41 K d l2 a39 G5 a6 l0 l1 l3))
noncomputable def t_220_10_43 (K : gK) (d : Nat) (l0 : Nat) (l1 : Nat) (l2 : Nat) (l3 : Int32) (a6 : Nat) (G75 : gH) : Option gO := gRn K d 220 10 [some (.ref l0), some (.ref l1), some (.ref l2), some (.int (l3 + 1)), some (.ref a6), some (.int (0 : Int32))] [] G75
noncomputable def t_220_10_44 (K : gK) (d : Nat) (l0 : Nat) (l1 : Nat) (l2 : Nat) (l3 : Int32) (a6 : Nat) (G79 : gH) : Option gO := gRn K d 220 10 [some (.ref l0), some (.ref l1), some (.ref l2), some (.int (l3 + 1)), some (.ref a6), some (.int (0 : Int32))] [] G79
noncomputable def t_220_10_45 (K : gK) (d : Nat) (l2 : Nat) (a72 : Nat) (G70 : gH) (l0 : Nat) (l1 : Nat) (l3 : Int32) (a6 : Nat) (v78 : Int32) : Option gO := cV (gCa K d 240 [.ref l2, .ref a72, .int (1 : Int32), .int v78] G70) (t_220_10_44 K d l0 l1 l2 l3 a6)
noncomputable def t_220_10_46 (K : gK) (d : Nat) (l0 : Nat) (l1 : Nat) (l2 : Nat) (l3 : Int32) (a6 : Nat) (G81 : gH) : Option gO := gRn K d 220 10 [some (.ref l0), some (.ref l1), some (.ref l2), some (.int (l3 + 1)), some (.ref a6), some (.int (0 : Int32))] [] G81
noncomputable def t_220_10_47 (K : gK) (d : Nat) (G70 : gH) (a6 : Nat) (l2 : Nat) (a72 : Nat) (l0 : Nat) (l1 : Nat) (l3 : Int32) (v77 : Int32) : Option gO := if v77 = 0 then (rI G70 a6 9 1 (t_220_10_45 K d l2 a72 G70 l0 l1 l3 a6)) else (cV (gCa K d 240 [.ref l2, .ref a72, .int (1 : Int32), .int (0 : Int32)] G70) (t_220_10_46 K d l0 l1 l2 l3 a6))
noncomputable def t_220_10_48 (K : gK) (d : Nat) (l2 : Nat) (a72 : Nat) (G70 : gH) (l0 : Nat) (l1 : Nat) (l3 : Int32) (a6 : Nat) (v74 : Int32) : Option gO := if v74 = 0 then (cV (gCa K d 240 [.ref l2, .ref a72, .int (1 : Int32), .int (0 : Int32)] G70) (t_220_10_43 K d l0 l1 l2 l3 a6)) else (rI G70 l0 0 10 (t_220_10_47 K d G70 a6 l2 a72 l0 l1 l3))
noncomputable def t_220_10_49 (K : gK) (d : Nat) (G70 : gH) (l2 : Nat) (a72 : Nat) (l0 : Nat) (l1 : Nat) (l3 : Int32) (a6 : Nat) (a73 : Nat) : Option gO := rI G70 a73 4 1 (t_220_10_48 K d l2 a72 G70 l0 l1 l3 a6)
noncomputable def t_220_10_50 (K : gK) (d : Nat) (G70 : gH) (a6 : Nat) (l2 : Nat) (l0 : Nat) (l1 : Nat) (l3 : Int32) (a72 : Nat) : Option gO := rR G70 a6 9 0 (t_220_10_49 K d G70 l2 a72 l0 l1 l3 a6)
noncomputable def t_220_10_51 (K : gK) (d : Nat) (a6 : Nat) (l2 : Nat) (l0 : Nat) (l1 : Nat) (l3 : Int32) (G70 : gH) : Option gO := rR G70 a6 9 0 (t_220_10_50 K d G70 a6 l2 l0 l1 l3)
noncomputable def t_220_10_52 (K : gK) (d : Nat) (l2 : Nat) (a68 : Nat) (G5 : gH) (a6 : Nat) (l0 : Nat) (l1 : Nat) (l3 : Int32) (v69 : Int32) : Option gO := cV (gCa K d 240 [.ref l2, .ref a68, .int (0 : Int32), .int v69] G5) (t_220_10_51 K d a6 l2 l0 l1 l3)
noncomputable def t_220_10_53 (K : gK) (d : Nat) (l0 : Nat) (l1 : Nat) (l2 : Nat) (l3 : Int32) (a6 : Nat) (G89 : gH) : Option gO := gRn K d 220 10 [some (.ref l0), some (.ref l1), some (.ref l2), some (.int (l3 + 1)), some (.ref a6), some (.int (0 : Int32))] [] G89
noncomputable def t_220_10_54 (K : gK) (d : Nat) (l0 : Nat) (l1 : Nat) (l2 : Nat) (l3 : Int32) (a6 : Nat) (G93 : gH) : Option gO := gRn K d 220 10 [some (.ref l0), some (.ref l1), some (.ref l2), some (.int (l3 + 1)), some (.ref a6), some (.int (0 : Int32))] [] G93
noncomputable def t_220_10_55 (K : gK) (d : Nat) (l2 : Nat) (a86 : Nat) (G84 : gH) (l0 : Nat) (l1 : Nat) (l3 : Int32) (a6 : Nat) (v92 : Int32) : Option gO := cV (gCa K d 240 [.ref l2, .ref a86, .int (1 : Int32), .int v92] G84) (t_220_10_54 K d l0 l1 l2 l3 a6)
noncomputable def t_220_10_56 (K : gK) (d : Nat) (l0 : Nat) (l1 : Nat) (l2 : Nat) (l3 : Int32) (a6 : Nat) (G95 : gH) : Option gO := gRn K d 220 10 [some (.ref l0), some (.ref l1), some (.ref l2), some (.int (l3 + 1)), some (.ref a6), some (.int (0 : Int32))] [] G95
noncomputable def t_220_10_57 (K : gK) (d : Nat) (G84 : gH) (a6 : Nat) (l2 : Nat) (a86 : Nat) (l0 : Nat) (l1 : Nat) (l3 : Int32) (v91 : Int32) : Option gO := if v91 = 0 then (rI G84 a6 9 1 (t_220_10_55 K d l2 a86 G84 l0 l1 l3 a6)) else (cV (gCa K d 240 [.ref l2, .ref a86, .int (1 : Int32), .int (0 : Int32)] G84) (t_220_10_56 K d l0 l1 l2 l3 a6))
noncomputable def t_220_10_58 (K : gK) (d : Nat) (l2 : Nat) (a86 : Nat) (G84 : gH) (l0 : Nat) (l1 : Nat) (l3 : Int32) (a6 : Nat) (v88 : Int32) : Option gO := if v88 = 0 then (cV (gCa K d 240 [.ref l2, .ref a86, .int (1 : Int32), .int (0 : Int32)] G84) (t_220_10_53 K d l0 l1 l2 l3 a6)) else (rI G84 l0 0 10 (t_220_10_57 K d G84 a6 l2 a86 l0 l1 l3))
noncomputable def t_220_10_59 (K : gK) (d : Nat) (G84 : gH) (l2 : Nat) (a86 : Nat) (l0 : Nat) (l1 : Nat) (l3 : Int32) (a6 : Nat) (a87 : Nat) : Option gO := rI G84 a87 4 1 (t_220_10_58 K d l2 a86 G84 l0 l1 l3 a6)
noncomputable def t_220_10_60 (K : gK) (d : Nat) (G84 : gH) (a6 : Nat) (l2 : Nat) (l0 : Nat) (l1 : Nat) (l3 : Int32) (a86 : Nat) : Option gO := rR G84 a6 9 0 (t_220_10_59 K d G84 l2 a86 l0 l1 l3 a6)
noncomputable def t_220_10_61 (K : gK) (d : Nat) (a6 : Nat) (l2 : Nat) (l0 : Nat) (l1 : Nat) (l3 : Int32) (G84 : gH) : Option gO := rR G84 a6 9 0 (t_220_10_60 K d G84 a6 l2 l0 l1 l3)
noncomputable def t_220_10_62 (K : gK) (d : Nat) (l2 : Nat) (a68 : Nat) (G5 : gH) (a6 : Nat) (l0 : Nat) (l1 : Nat) (l3 : Int32) (v83 : Int32) : Option gO := if (2 : Int32) = 0 then none else (cV (gCa K d 240 [.ref l2, .ref a68, .int (0 : Int32), .int ((v83 + (1 : Int32)) / (2 : Int32))] G5) (t_220_10_61 K d a6 l2 l0 l1 l3))
noncomputable def t_220_10_63 (K : gK) (d : Nat) (G5 : gH) (a6 : Nat) (l2 : Nat) (l0 : Nat) (l1 : Nat) (l3 : Int32) (a68 : Nat) : Option gO := if (0 : Int32) = 0 then (rI G5 a6 9 1 (t_220_10_52 K d l2 a68 G5 a6 l0 l1 l3)) else (rI G5 a6 9 1 (t_220_10_62 K d l2 a68 G5 a6 l0 l1 l3))
noncomputable def t_220_10_64 (K : gK) (d : Nat) (G5 : gH) (a6 : Nat) (l2 : Nat) (l0 : Nat) (l1 : Nat) (l3 : Int32) (v38 : Int32) : Option gO := if v38 = 0 then (rR G5 a6 9 0 (t_220_10_42 K d G5 a6 l2 l0 l1 l3)) else (rR G5 a6 9 0 (t_220_10_63 K d G5 a6 l2 l0 l1 l3))
noncomputable def t_220_10_65 (K : gK) (d : Nat) (G5 : gH) (a6 : Nat) (l2 : Nat) (l0 : Nat) (l1 : Nat) (l3 : Int32) (a37 : Nat) : Option gO := rI G5 a37 4 1 (t_220_10_64 K d G5 a6 l2 l0 l1 l3)
noncomputable def t_220_10_66 (K : gK) (d : Nat) (G5 : gH) (a6 : Nat) (l2 : Nat) (l0 : Nat) (l1 : Nat) (l3 : Int32) (v7 : Int32) : Option gO := if v7 = 0 then (rR G5 a6 9 0 (t_220_10_21 K d G5 a6 l2 l0 l1 l3)) else (rR G5 a6 9 0 (t_220_10_65 K d G5 a6 l2 l0 l1 l3))
noncomputable def t_220_10_67 (K : gK) (d : Nat) (l0 : Nat) (l2 : Nat) (l1 : Nat) (l3 : Int32) (a6 : Nat) (G5 : gH) : Option gO := if g_cls G5 a6 = some 9 then (rI G5 l0 0 10 (t_220_10_66 K d G5 a6 l2 l0 l1 l3)) else none
noncomputable def t_220_10_68 (K : gK) (d : Nat) (G2 : gH) (l3 : Int32) (l0 : Nat) (l2 : Nat) (l1 : Nat) (a4 : Nat) : Option gO := if g_cls G2 a4 = some 12 then (cR (gCa K d 178 [.ref a4, .int l3] G2) (t_220_10_67 K d l0 l2 l1 l3)) else none
noncomputable def t_220_10_69 (K : gK) (d : Nat) (l3 : Int32) (l2 : Nat) (l1 : Nat) (l0 : Nat) (v3 : Int32) (G2 : gH) : Option gO := if v3 ≤ l3 then (some (.inl (some (.ref l2)), G2)) else (rR G2 l1 8 0 (t_220_10_68 K d G2 l3 l0 l2 l1))
noncomputable def t_220_10_70 (K : gK) (d : Nat) (G : gH) (l3 : Int32) (l2 : Nat) (l1 : Nat) (l0 : Nat) (a1 : Nat) : Option gO := if g_cls G a1 = some 12 then (cI (gCa K d 110 [.ref a1] G) (t_220_10_69 K d l3 l2 l1 l0)) else none
noncomputable def t_220_10 (K : gK) (d : Nat) (l0 : Nat) (l1 : Nat) (l2 : Nat) (l3 : Int32) (o4 : Option Value) (o5 : Option Value) (G : gH) : Option gO := rR G l1 8 0 (t_220_10_70 K d G l3 l2 l1 l0)
theorem e_220_10 {K : gK} {d : Nat} {l0 : Nat} {l1 : Nat} {l2 : Nat} {l3 : Int32} {o4 : Option Value} {o5 : Option Value} {G : gH} : gle (t_220_10 K d l0 l1 l2 l3 o4 o5 G) (gRn K d 220 10 [some (.ref l0), some (.ref l1), some (.ref l2), some (.int l3), o4, o5] [] G) := by
  unfold t_220_10
  refine g_iload ((q_220 _).trans rfl) rfl ?_
  refine g_aload ((q_220 _).trans rfl) rfl ?_
  refine g_getR ((q_220 _).trans rfl) (fun a1 => ?_)
  refine g_callV (kk := 0) ((q_220 _).trans rfl) (gHn m_220) rfl (by exact ⟨Nat.le_of_ble_eq_true rfl, rfl⟩) rfl (fun w G2 => gm_I (fun v3 hw => ?_))
  subst hw
  refine g_cmpge ((q_220 _).trans rfl) (fun _ => ?_) (fun _ => ?_)
  · refine g_aload ((q_220 _).trans rfl) rfl ?_
    exact g_aret ((q_220 _).trans rfl)
  · refine g_aload ((q_220 _).trans rfl) rfl ?_
    refine g_getR ((q_220 _).trans rfl) (fun a4 => ?_)
    refine g_iload ((q_220 _).trans rfl) rfl ?_
    refine g_callV (kk := 1) ((q_220 _).trans rfl) (gHn m_220) rfl (by exact ⟨Nat.le_of_ble_eq_true rfl, rfl⟩) rfl (fun w G5 => gm_R (fun a6 hw => ?_))
    subst hw
    refine g_ccast ((q_220 _).trans rfl) ?_
    refine g_astore ((q_220 _).trans rfl) ?_
    refine g_aload ((q_220 _).trans rfl) rfl ?_
    refine g_getI ((q_220 _).trans rfl) (fun v7 => ?_)
    refine g_ifeq ((q_220 _).trans rfl) (fun _ => ?_) (fun _ => ?_)
    · refine g_push ((q_220 _).trans rfl) ?_
      refine g_istore ((q_220 _).trans rfl) ?_
      refine g_aload ((q_220 _).trans rfl) rfl ?_
      refine g_aload ((q_220 _).trans rfl) rfl ?_
      refine g_getR ((q_220 _).trans rfl) (fun a8 => ?_)
      refine g_push ((q_220 _).trans rfl) ?_
      refine g_iload ((q_220 _).trans rfl) rfl ?_
      refine g_ifeq ((q_220 _).trans rfl) (fun _ => ?_) (fun _ => ?_)
      · refine g_aload ((q_220 _).trans rfl) rfl ?_
        refine g_getI ((q_220 _).trans rfl) (fun v9 => ?_)
        refine g_callS (kk := 4) ((q_220 _).trans rfl) (gHn m_220) (by exact ⟨Nat.le_of_ble_eq_true rfl, Nat.le_of_ble_eq_true rfl, rfl⟩) rfl (fun w G10 => gm_V (fun hw => ?_))
        subst hw
        refine g_aload ((q_220 _).trans rfl) rfl ?_
        refine g_aload ((q_220 _).trans rfl) rfl ?_
        refine g_getR ((q_220 _).trans rfl) (fun a12 => ?_)
        refine g_push ((q_220 _).trans rfl) ?_
        refine g_aload ((q_220 _).trans rfl) rfl ?_
        refine g_getR ((q_220 _).trans rfl) (fun a13 => ?_)
        refine g_getI ((q_220 _).trans rfl) (fun v14 => ?_)
        refine g_ifeq ((q_220 _).trans rfl) (fun _ => ?_) (fun _ => ?_)
        · refine g_push ((q_220 _).trans rfl) ?_
          refine g_callS (kk := 4) ((q_220 _).trans rfl) (gHn m_220) (by exact ⟨Nat.le_of_ble_eq_true rfl, Nat.le_of_ble_eq_true rfl, rfl⟩) rfl (fun w G15 => gm_V (fun hw => ?_))
          subst hw
          refine g_iinc ((q_220 _).trans rfl) rfl ?_
          refine g_goto ((q_220 _).trans rfl) ?_
          exact gle.rf _
        · refine g_aload ((q_220 _).trans rfl) rfl ?_
          refine g_getI ((q_220 _).trans rfl) (fun v17 => ?_)
          refine g_ifne ((q_220 _).trans rfl) (fun _ => ?_) (fun _ => ?_)
          · refine g_aload ((q_220 _).trans rfl) rfl ?_
            refine g_getI ((q_220 _).trans rfl) (fun v18 => ?_)
            refine g_goto ((q_220 _).trans rfl) ?_
            refine g_callS (kk := 4) ((q_220 _).trans rfl) (gHn m_220) (by exact ⟨Nat.le_of_ble_eq_true rfl, Nat.le_of_ble_eq_true rfl, rfl⟩) rfl (fun w G19 => gm_V (fun hw => ?_))
            subst hw
            refine g_iinc ((q_220 _).trans rfl) rfl ?_
            refine g_goto ((q_220 _).trans rfl) ?_
            exact gle.rf _
          · refine g_push ((q_220 _).trans rfl) ?_
            refine g_callS (kk := 4) ((q_220 _).trans rfl) (gHn m_220) (by exact ⟨Nat.le_of_ble_eq_true rfl, Nat.le_of_ble_eq_true rfl, rfl⟩) rfl (fun w G21 => gm_V (fun hw => ?_))
            subst hw
            refine g_iinc ((q_220 _).trans rfl) rfl ?_
            refine g_goto ((q_220 _).trans rfl) ?_
            exact gle.rf _
      · refine g_aload ((q_220 _).trans rfl) rfl ?_
        refine g_getI ((q_220 _).trans rfl) (fun v23 => ?_)
        refine g_push ((q_220 _).trans rfl) ?_
        refine g_iadd ((q_220 _).trans rfl) ?_
        refine g_push ((q_220 _).trans rfl) ?_
        refine g_idiv ((q_220 _).trans rfl) (fun _ => ?_)
        refine g_goto ((q_220 _).trans rfl) ?_
        refine g_callS (kk := 4) ((q_220 _).trans rfl) (gHn m_220) (by exact ⟨Nat.le_of_ble_eq_true rfl, Nat.le_of_ble_eq_true rfl, rfl⟩) rfl (fun w G24 => gm_V (fun hw => ?_))
        subst hw
        refine g_aload ((q_220 _).trans rfl) rfl ?_
        refine g_aload ((q_220 _).trans rfl) rfl ?_
        refine g_getR ((q_220 _).trans rfl) (fun a26 => ?_)
        refine g_push ((q_220 _).trans rfl) ?_
        refine g_aload ((q_220 _).trans rfl) rfl ?_
        refine g_getR ((q_220 _).trans rfl) (fun a27 => ?_)
        refine g_getI ((q_220 _).trans rfl) (fun v28 => ?_)
        refine g_ifeq ((q_220 _).trans rfl) (fun _ => ?_) (fun _ => ?_)
        · refine g_push ((q_220 _).trans rfl) ?_
          refine g_callS (kk := 4) ((q_220 _).trans rfl) (gHn m_220) (by exact ⟨Nat.le_of_ble_eq_true rfl, Nat.le_of_ble_eq_true rfl, rfl⟩) rfl (fun w G29 => gm_V (fun hw => ?_))
          subst hw
          refine g_iinc ((q_220 _).trans rfl) rfl ?_
          refine g_goto ((q_220 _).trans rfl) ?_
          exact gle.rf _
        · refine g_aload ((q_220 _).trans rfl) rfl ?_
          refine g_getI ((q_220 _).trans rfl) (fun v31 => ?_)
          refine g_ifne ((q_220 _).trans rfl) (fun _ => ?_) (fun _ => ?_)
          · refine g_aload ((q_220 _).trans rfl) rfl ?_
            refine g_getI ((q_220 _).trans rfl) (fun v32 => ?_)
            refine g_goto ((q_220 _).trans rfl) ?_
            refine g_callS (kk := 4) ((q_220 _).trans rfl) (gHn m_220) (by exact ⟨Nat.le_of_ble_eq_true rfl, Nat.le_of_ble_eq_true rfl, rfl⟩) rfl (fun w G33 => gm_V (fun hw => ?_))
            subst hw
            refine g_iinc ((q_220 _).trans rfl) rfl ?_
            refine g_goto ((q_220 _).trans rfl) ?_
            exact gle.rf _
          · refine g_push ((q_220 _).trans rfl) ?_
            refine g_callS (kk := 4) ((q_220 _).trans rfl) (gHn m_220) (by exact ⟨Nat.le_of_ble_eq_true rfl, Nat.le_of_ble_eq_true rfl, rfl⟩) rfl (fun w G35 => gm_V (fun hw => ?_))
            subst hw
            refine g_iinc ((q_220 _).trans rfl) rfl ?_
            refine g_goto ((q_220 _).trans rfl) ?_
            exact gle.rf _
    · refine g_aload ((q_220 _).trans rfl) rfl ?_
      refine g_getR ((q_220 _).trans rfl) (fun a37 => ?_)
      refine g_getI ((q_220 _).trans rfl) (fun v38 => ?_)
      refine g_ifne ((q_220 _).trans rfl) (fun _ => ?_) (fun _ => ?_)
      · refine g_push ((q_220 _).trans rfl) ?_
        refine g_goto ((q_220 _).trans rfl) ?_
        refine g_istore ((q_220 _).trans rfl) ?_
        refine g_aload ((q_220 _).trans rfl) rfl ?_
        refine g_aload ((q_220 _).trans rfl) rfl ?_
        refine g_getR ((q_220 _).trans rfl) (fun a39 => ?_)
        refine g_push ((q_220 _).trans rfl) ?_
        refine g_iload ((q_220 _).trans rfl) rfl ?_
        refine g_ifeq ((q_220 _).trans rfl) (fun _ => ?_) (fun _ => ?_)
        · refine g_aload ((q_220 _).trans rfl) rfl ?_
          refine g_getI ((q_220 _).trans rfl) (fun v40 => ?_)
          refine g_callS (kk := 4) ((q_220 _).trans rfl) (gHn m_220) (by exact ⟨Nat.le_of_ble_eq_true rfl, Nat.le_of_ble_eq_true rfl, rfl⟩) rfl (fun w G41 => gm_V (fun hw => ?_))
          subst hw
          refine g_aload ((q_220 _).trans rfl) rfl ?_
          refine g_aload ((q_220 _).trans rfl) rfl ?_
          refine g_getR ((q_220 _).trans rfl) (fun a43 => ?_)
          refine g_push ((q_220 _).trans rfl) ?_
          refine g_aload ((q_220 _).trans rfl) rfl ?_
          refine g_getR ((q_220 _).trans rfl) (fun a44 => ?_)
          refine g_getI ((q_220 _).trans rfl) (fun v45 => ?_)
          refine g_ifeq ((q_220 _).trans rfl) (fun _ => ?_) (fun _ => ?_)
          · refine g_push ((q_220 _).trans rfl) ?_
            refine g_callS (kk := 4) ((q_220 _).trans rfl) (gHn m_220) (by exact ⟨Nat.le_of_ble_eq_true rfl, Nat.le_of_ble_eq_true rfl, rfl⟩) rfl (fun w G46 => gm_V (fun hw => ?_))
            subst hw
            refine g_iinc ((q_220 _).trans rfl) rfl ?_
            refine g_goto ((q_220 _).trans rfl) ?_
            exact gle.rf _
          · refine g_aload ((q_220 _).trans rfl) rfl ?_
            refine g_getI ((q_220 _).trans rfl) (fun v48 => ?_)
            refine g_ifne ((q_220 _).trans rfl) (fun _ => ?_) (fun _ => ?_)
            · refine g_aload ((q_220 _).trans rfl) rfl ?_
              refine g_getI ((q_220 _).trans rfl) (fun v49 => ?_)
              refine g_goto ((q_220 _).trans rfl) ?_
              refine g_callS (kk := 4) ((q_220 _).trans rfl) (gHn m_220) (by exact ⟨Nat.le_of_ble_eq_true rfl, Nat.le_of_ble_eq_true rfl, rfl⟩) rfl (fun w G50 => gm_V (fun hw => ?_))
              subst hw
              refine g_iinc ((q_220 _).trans rfl) rfl ?_
              refine g_goto ((q_220 _).trans rfl) ?_
              exact gle.rf _
            · refine g_push ((q_220 _).trans rfl) ?_
              refine g_callS (kk := 4) ((q_220 _).trans rfl) (gHn m_220) (by exact ⟨Nat.le_of_ble_eq_true rfl, Nat.le_of_ble_eq_true rfl, rfl⟩) rfl (fun w G52 => gm_V (fun hw => ?_))
              subst hw
              refine g_iinc ((q_220 _).trans rfl) rfl ?_
              refine g_goto ((q_220 _).trans rfl) ?_
              exact gle.rf _
        · refine g_aload ((q_220 _).trans rfl) rfl ?_
          refine g_getI ((q_220 _).trans rfl) (fun v54 => ?_)
          refine g_push ((q_220 _).trans rfl) ?_
          refine g_iadd ((q_220 _).trans rfl) ?_
          refine g_push ((q_220 _).trans rfl) ?_
          refine g_idiv ((q_220 _).trans rfl) (fun _ => ?_)
          refine g_goto ((q_220 _).trans rfl) ?_
          refine g_callS (kk := 4) ((q_220 _).trans rfl) (gHn m_220) (by exact ⟨Nat.le_of_ble_eq_true rfl, Nat.le_of_ble_eq_true rfl, rfl⟩) rfl (fun w G55 => gm_V (fun hw => ?_))
          subst hw
          refine g_aload ((q_220 _).trans rfl) rfl ?_
          refine g_aload ((q_220 _).trans rfl) rfl ?_
          refine g_getR ((q_220 _).trans rfl) (fun a57 => ?_)
          refine g_push ((q_220 _).trans rfl) ?_
          refine g_aload ((q_220 _).trans rfl) rfl ?_
          refine g_getR ((q_220 _).trans rfl) (fun a58 => ?_)
          refine g_getI ((q_220 _).trans rfl) (fun v59 => ?_)
          refine g_ifeq ((q_220 _).trans rfl) (fun _ => ?_) (fun _ => ?_)
          · refine g_push ((q_220 _).trans rfl) ?_
            refine g_callS (kk := 4) ((q_220 _).trans rfl) (gHn m_220) (by exact ⟨Nat.le_of_ble_eq_true rfl, Nat.le_of_ble_eq_true rfl, rfl⟩) rfl (fun w G60 => gm_V (fun hw => ?_))
            subst hw
            refine g_iinc ((q_220 _).trans rfl) rfl ?_
            refine g_goto ((q_220 _).trans rfl) ?_
            exact gle.rf _
          · refine g_aload ((q_220 _).trans rfl) rfl ?_
            refine g_getI ((q_220 _).trans rfl) (fun v62 => ?_)
            refine g_ifne ((q_220 _).trans rfl) (fun _ => ?_) (fun _ => ?_)
            · refine g_aload ((q_220 _).trans rfl) rfl ?_
              refine g_getI ((q_220 _).trans rfl) (fun v63 => ?_)
              refine g_goto ((q_220 _).trans rfl) ?_
              refine g_callS (kk := 4) ((q_220 _).trans rfl) (gHn m_220) (by exact ⟨Nat.le_of_ble_eq_true rfl, Nat.le_of_ble_eq_true rfl, rfl⟩) rfl (fun w G64 => gm_V (fun hw => ?_))
              subst hw
              refine g_iinc ((q_220 _).trans rfl) rfl ?_
              refine g_goto ((q_220 _).trans rfl) ?_
              exact gle.rf _
            · refine g_push ((q_220 _).trans rfl) ?_
              refine g_callS (kk := 4) ((q_220 _).trans rfl) (gHn m_220) (by exact ⟨Nat.le_of_ble_eq_true rfl, Nat.le_of_ble_eq_true rfl, rfl⟩) rfl (fun w G66 => gm_V (fun hw => ?_))
              subst hw
              refine g_iinc ((q_220 _).trans rfl) rfl ?_
              refine g_goto ((q_220 _).trans rfl) ?_
              exact gle.rf _
      · refine g_push ((q_220 _).trans rfl) ?_
        refine g_istore ((q_220 _).trans rfl) ?_
        refine g_aload ((q_220 _).trans rfl) rfl ?_
        refine g_aload ((q_220 _).trans rfl) rfl ?_
        refine g_getR ((q_220 _).trans rfl) (fun a68 => ?_)
        refine g_push ((q_220 _).trans rfl) ?_
        refine g_iload ((q_220 _).trans rfl) rfl ?_
        refine g_ifeq ((q_220 _).trans rfl) (fun _ => ?_) (fun _ => ?_)
        · refine g_aload ((q_220 _).trans rfl) rfl ?_
          refine g_getI ((q_220 _).trans rfl) (fun v69 => ?_)
          refine g_callS (kk := 4) ((q_220 _).trans rfl) (gHn m_220) (by exact ⟨Nat.le_of_ble_eq_true rfl, Nat.le_of_ble_eq_true rfl, rfl⟩) rfl (fun w G70 => gm_V (fun hw => ?_))
          subst hw
          refine g_aload ((q_220 _).trans rfl) rfl ?_
          refine g_aload ((q_220 _).trans rfl) rfl ?_
          refine g_getR ((q_220 _).trans rfl) (fun a72 => ?_)
          refine g_push ((q_220 _).trans rfl) ?_
          refine g_aload ((q_220 _).trans rfl) rfl ?_
          refine g_getR ((q_220 _).trans rfl) (fun a73 => ?_)
          refine g_getI ((q_220 _).trans rfl) (fun v74 => ?_)
          refine g_ifeq ((q_220 _).trans rfl) (fun _ => ?_) (fun _ => ?_)
          · refine g_push ((q_220 _).trans rfl) ?_
            refine g_callS (kk := 4) ((q_220 _).trans rfl) (gHn m_220) (by exact ⟨Nat.le_of_ble_eq_true rfl, Nat.le_of_ble_eq_true rfl, rfl⟩) rfl (fun w G75 => gm_V (fun hw => ?_))
            subst hw
            refine g_iinc ((q_220 _).trans rfl) rfl ?_
            refine g_goto ((q_220 _).trans rfl) ?_
            exact gle.rf _
          · refine g_aload ((q_220 _).trans rfl) rfl ?_
            refine g_getI ((q_220 _).trans rfl) (fun v77 => ?_)
            refine g_ifne ((q_220 _).trans rfl) (fun _ => ?_) (fun _ => ?_)
            · refine g_aload ((q_220 _).trans rfl) rfl ?_
              refine g_getI ((q_220 _).trans rfl) (fun v78 => ?_)
              refine g_goto ((q_220 _).trans rfl) ?_
              refine g_callS (kk := 4) ((q_220 _).trans rfl) (gHn m_220) (by exact ⟨Nat.le_of_ble_eq_true rfl, Nat.le_of_ble_eq_true rfl, rfl⟩) rfl (fun w G79 => gm_V (fun hw => ?_))
              subst hw
              refine g_iinc ((q_220 _).trans rfl) rfl ?_
              refine g_goto ((q_220 _).trans rfl) ?_
              exact gle.rf _
            · refine g_push ((q_220 _).trans rfl) ?_
              refine g_callS (kk := 4) ((q_220 _).trans rfl) (gHn m_220) (by exact ⟨Nat.le_of_ble_eq_true rfl, Nat.le_of_ble_eq_true rfl, rfl⟩) rfl (fun w G81 => gm_V (fun hw => ?_))
              subst hw
              refine g_iinc ((q_220 _).trans rfl) rfl ?_
              refine g_goto ((q_220 _).trans rfl) ?_
              exact gle.rf _
        · refine g_aload ((q_220 _).trans rfl) rfl ?_
          refine g_getI ((q_220 _).trans rfl) (fun v83 => ?_)
          refine g_push ((q_220 _).trans rfl) ?_
          refine g_iadd ((q_220 _).trans rfl) ?_
          refine g_push ((q_220 _).trans rfl) ?_
          refine g_idiv ((q_220 _).trans rfl) (fun _ => ?_)
          refine g_goto ((q_220 _).trans rfl) ?_
          refine g_callS (kk := 4) ((q_220 _).trans rfl) (gHn m_220) (by exact ⟨Nat.le_of_ble_eq_true rfl, Nat.le_of_ble_eq_true rfl, rfl⟩) rfl (fun w G84 => gm_V (fun hw => ?_))
          subst hw
          refine g_aload ((q_220 _).trans rfl) rfl ?_
          refine g_aload ((q_220 _).trans rfl) rfl ?_
          refine g_getR ((q_220 _).trans rfl) (fun a86 => ?_)
          refine g_push ((q_220 _).trans rfl) ?_
          refine g_aload ((q_220 _).trans rfl) rfl ?_
          refine g_getR ((q_220 _).trans rfl) (fun a87 => ?_)
          refine g_getI ((q_220 _).trans rfl) (fun v88 => ?_)
          refine g_ifeq ((q_220 _).trans rfl) (fun _ => ?_) (fun _ => ?_)
          · refine g_push ((q_220 _).trans rfl) ?_
            refine g_callS (kk := 4) ((q_220 _).trans rfl) (gHn m_220) (by exact ⟨Nat.le_of_ble_eq_true rfl, Nat.le_of_ble_eq_true rfl, rfl⟩) rfl (fun w G89 => gm_V (fun hw => ?_))
            subst hw
            refine g_iinc ((q_220 _).trans rfl) rfl ?_
            refine g_goto ((q_220 _).trans rfl) ?_
            exact gle.rf _
          · refine g_aload ((q_220 _).trans rfl) rfl ?_
            refine g_getI ((q_220 _).trans rfl) (fun v91 => ?_)
            refine g_ifne ((q_220 _).trans rfl) (fun _ => ?_) (fun _ => ?_)
            · refine g_aload ((q_220 _).trans rfl) rfl ?_
              refine g_getI ((q_220 _).trans rfl) (fun v92 => ?_)
              refine g_goto ((q_220 _).trans rfl) ?_
              refine g_callS (kk := 4) ((q_220 _).trans rfl) (gHn m_220) (by exact ⟨Nat.le_of_ble_eq_true rfl, Nat.le_of_ble_eq_true rfl, rfl⟩) rfl (fun w G93 => gm_V (fun hw => ?_))
              subst hw
              refine g_iinc ((q_220 _).trans rfl) rfl ?_
              refine g_goto ((q_220 _).trans rfl) ?_
              exact gle.rf _
            · refine g_push ((q_220 _).trans rfl) ?_
              refine g_callS (kk := 4) ((q_220 _).trans rfl) (gHn m_220) (by exact ⟨Nat.le_of_ble_eq_true rfl, Nat.le_of_ble_eq_true rfl, rfl⟩) rfl (fun w G95 => gm_V (fun hw => ?_))
              subst hw
              refine g_iinc ((q_220 _).trans rfl) rfl ?_
              refine g_goto ((q_220 _).trans rfl) ?_
              exact gle.rf _
theorem q_221 {K : gK} (pc : Nat) : gP K 221 pc = ((gL_221 K).lookup pc).getD o_none := rfl
noncomputable def t_221_0_1 (K : gK) (d : Nat) (G7 : gH) : Option gO := some (.inl none, G7)
noncomputable def t_221_0_2 (K : gK) (d : Nat) (l0 : Nat) (v6 : Int32) (G5 : gH) : Option gO := if v6 < 0 ∨ 100000 < (v6).toNatClampNeg then none else (if narrow (.array .int) (.ref (G5.2.1)) = .ref (G5.2.1) ∧ fits (.array .int) (.ref (G5.2.1)) = true then wF (gnew G5 (.inl (0, (v6).toNatClampNeg, .inl (fun _ => 0))) (v6).toNatClampNeg) l0 11 2 (.ref (G5.2.1)) (t_221_0_1 K d) else none)
noncomputable def t_221_0_3 (K : gK) (d : Nat) (l2 : Nat) (l0 : Nat) (G4 : gH) : Option gO := if g_cls G4 l2 = some 12 then (cI (gCa K d 110 [.ref l2] G4) (t_221_0_2 K d l0)) else none
noncomputable def t_221_0_4 (K : gK) (d : Nat) (l3 : Int32) (l0 : Nat) (l2 : Nat) (G3 : gH) : Option gO := if narrow .boolean (.int l3) = .int l3 ∧ fits .boolean (.int l3) = true then wF G3 l0 11 1 (.int l3) (t_221_0_3 K d l2 l0) else none
noncomputable def t_221_0_5 (K : gK) (d : Nat) (l2 : Nat) (l0 : Nat) (l3 : Int32) (G2 : gH) : Option gO := if narrow (.object "java/util/List") (.ref l2) = .ref l2 ∧ fits (.object "java/util/List") (.ref l2) = true then wF G2 l0 11 0 (.ref l2) (t_221_0_4 K d l3 l0 l2) else none
noncomputable def t_221_0_6 (K : gK) (d : Nat) (l0 : Nat) (l2 : Nat) (l3 : Int32) (G1 : gH) : Option gO := if narrow .int (.int (61 : Int32)) = .int (61 : Int32) ∧ fits .int (.int (61 : Int32)) = true then wF G1 l0 11 3 (.int (61 : Int32)) (t_221_0_5 K d l2 l0 l3) else none
noncomputable def t_221_0 (K : gK) (d : Nat) (l0 : Nat) (l1 : Nat) (l2 : Nat) (l3 : Int32) (G : gH) : Option gO := if narrow (.object "CuttingRoom") (.ref l1) = .ref l1 ∧ fits (.object "CuttingRoom") (.ref l1) = true then wF G l0 11 4 (.ref l1) (t_221_0_6 K d l0 l2 l3) else none
theorem e_221_0 {K : gK} {d : Nat} {l0 : Nat} {l1 : Nat} {l2 : Nat} {l3 : Int32} {G : gH} : gle (t_221_0 K d l0 l1 l2 l3 G) (gRn K d 221 0 [some (.ref l0), some (.ref l1), some (.ref l2), some (.int l3)] [] G) := by
  unfold t_221_0
  refine g_aload ((q_221 _).trans rfl) rfl ?_
  refine g_aload ((q_221 _).trans rfl) rfl ?_
  refine g_putf ((q_221 _).trans rfl) (fun G1 => ?_)
  refine g_aload ((q_221 _).trans rfl) rfl ?_
  refine g_objinit ((q_221 _).trans rfl) (Nat.le_of_ble_eq_true rfl) ?_
  refine g_aload ((q_221 _).trans rfl) rfl ?_
  refine g_push ((q_221 _).trans rfl) ?_
  refine g_putf ((q_221 _).trans rfl) (fun G2 => ?_)
  refine g_aload ((q_221 _).trans rfl) rfl ?_
  refine g_aload ((q_221 _).trans rfl) rfl ?_
  refine g_putf ((q_221 _).trans rfl) (fun G3 => ?_)
  refine g_aload ((q_221 _).trans rfl) rfl ?_
  refine g_iload ((q_221 _).trans rfl) rfl ?_
  refine g_putf ((q_221 _).trans rfl) (fun G4 => ?_)
  refine g_aload ((q_221 _).trans rfl) rfl ?_
  refine g_aload ((q_221 _).trans rfl) rfl ?_
  refine g_callV (kk := 0) ((q_221 _).trans rfl) (gHn m_221) rfl (by exact ⟨Nat.le_of_ble_eq_true rfl, rfl⟩) rfl (fun w G5 => gm_I (fun v6 hw => ?_))
  subst hw
  refine g_newi ((q_221 _).trans rfl) (fun _ => ?_)
  refine g_putf ((q_221 _).trans rfl) (fun G7 => ?_)
  exact g_vret ((q_221 _).trans rfl)
theorem c_221 {K : gK} {d : Nat} {l0 : Nat} {l1 : Nat} {l2 : Nat} {l3 : Int32} {G : gH} : gle (t_221_0 K d l0 l1 l2 l3 G) (gCa K (d + 1) 221 [.ref l0, .ref l1, .ref l2, .int l3] G) := by
  have h : gent (gMx 221) [.ref l0, .ref l1, .ref l2, .int l3] = [some (.ref l0), some (.ref l1), some (.ref l2), some (.int l3)] := by
    show gent (gT 221).2.2.2.1 _ = _
    rw [m_221]; rfl
  exact fun r e => (congrArg (fun q => gRn K d 221 0 q [] G) h).trans (e_221_0 r e)
theorem q_222 {K : gK} (pc : Nat) : gP K 222 pc = ((gL_222 K).lookup pc).getD o_none := rfl
noncomputable def t_222_0_1 (K : gK) (d : Nat) (G8 : gH) : Option gO := some (.inl none, G8)
noncomputable def t_222_0_2 (K : gK) (d : Nat) (l0 : Nat) (v7 : Int32) (G6 : gH) : Option gO := if narrow .int (.int v7) = .int v7 ∧ fits .int (.int v7) = true then wF G6 l0 11 3 (.int v7) (t_222_0_1 K d) else none
noncomputable def t_222_0_3 (K : gK) (d : Nat) (v3 : Int32) (l0 : Nat) (v5 : Int32) (G4 : gH) : Option gO := cI (gCa K d 224 [.int v3, .int v5] G4) (t_222_0_2 K d l0)
noncomputable def t_222_0_4 (K : gK) (d : Nat) (G : gH) (l0 : Nat) (l1 : Int32) (v3 : Int32) : Option gO := if g_cls G l0 = some 11 then (cI (gCa K d 241 [.ref l0, .int l1] G) (t_222_0_3 K d v3 l0)) else none
noncomputable def t_222_0_5 (K : gK) (d : Nat) (l1 : Int32) (G : gH) (l0 : Nat) (v2 : Int32) : Option gO := if l1 = v2 then (rI G l0 11 3 (t_222_0_4 K d G l0 l1)) else (gRn K d 222 28 [some (.ref l0), some (.int l1), some (.int (0 : Int32))] [] G)
noncomputable def t_222_0_6 (K : gK) (d : Nat) (G : gH) (l1 : Int32) (l0 : Nat) (a1 : Nat) : Option gO := xL K G a1 (t_222_0_5 K d l1 G l0)
noncomputable def t_222_0 (K : gK) (d : Nat) (l0 : Nat) (l1 : Int32) (G : gH) : Option gO := rR G l0 11 2 (t_222_0_6 K d G l1 l0)
theorem e_222_0 {K : gK} {d : Nat} {l0 : Nat} {l1 : Int32} {G : gH} : gle (t_222_0 K d l0 l1 G) (gRn K d 222 0 [some (.ref l0), some (.int l1), none] [] G) := by
  unfold t_222_0
  refine g_iload ((q_222 _).trans rfl) rfl ?_
  refine g_aload ((q_222 _).trans rfl) rfl ?_
  refine g_getR ((q_222 _).trans rfl) (fun a1 => ?_)
  refine g_alen ((q_222 _).trans rfl) (fun v2 => ?_)
  refine g_cmpne ((q_222 _).trans rfl) (fun _ => ?_) (fun _ => ?_)
  · refine g_aload ((q_222 _).trans rfl) rfl ?_
    refine g_aload ((q_222 _).trans rfl) rfl ?_
    refine g_getI ((q_222 _).trans rfl) (fun v3 => ?_)
    refine g_aload ((q_222 _).trans rfl) rfl ?_
    refine g_iload ((q_222 _).trans rfl) rfl ?_
    refine g_callV (kk := 1) ((q_222 _).trans rfl) (gHn m_222) rfl (by exact ⟨Nat.le_of_ble_eq_true rfl, rfl⟩) rfl (fun w G4 => gm_I (fun v5 hw => ?_))
    subst hw
    refine g_callS (kk := 2) ((q_222 _).trans rfl) (gHn m_222) (by exact ⟨Nat.le_of_ble_eq_true rfl, Nat.le_of_ble_eq_true rfl, rfl⟩) rfl (fun w G6 => gm_I (fun v7 hw => ?_))
    subst hw
    refine g_putf ((q_222 _).trans rfl) (fun G8 => ?_)
    exact g_vret ((q_222 _).trans rfl)
  · refine g_push ((q_222 _).trans rfl) ?_
    refine g_istore ((q_222 _).trans rfl) ?_
    exact gle.rf _
theorem c_222 {K : gK} {d : Nat} {l0 : Nat} {l1 : Int32} {G : gH} : gle (t_222_0 K d l0 l1 G) (gCa K (d + 1) 222 [.ref l0, .int l1] G) := by
  have h : gent (gMx 222) [.ref l0, .int l1] = [some (.ref l0), some (.int l1), none] := by
    show gent (gT 222).2.2.2.1 _ = _
    rw [m_222]; rfl
  exact fun r e => (congrArg (fun q => gRn K d 222 0 q [] G) h).trans (e_222_0 r e)
noncomputable def t_222_28_1 (K : gK) (d : Nat) (l0 : Nat) (l1 : Int32) (l2 : Int32) (G8 : gH) : Option gO := gRn K d 222 28 [some (.ref l0), some (.int l1), some (.int (l2 + 1))] [] G8
noncomputable def t_222_28_2 (K : gK) (d : Nat) (l0 : Nat) (l1 : Int32) (l2 : Int32) (G13 : gH) : Option gO := gRn K d 222 28 [some (.ref l0), some (.int l1), some (.int (l2 + 1))] [] G13
noncomputable def t_222_28_3 (K : gK) (d : Nat) (v11 : Int32) (l0 : Nat) (l1 : Int32) (l2 : Int32) (G10 : gH) (v12 : Int32) : Option gO := if v12 ≤ v11 then (gRn K d 222 28 [some (.ref l0), some (.int l1), some (.int (l2 + 1))] [] G10) else (if g_cls G10 l0 = some 11 then (cV (gCa K d 222 [.ref l0, .int (l1 + (1 : Int32))] G10) (t_222_28_2 K d l0 l1 l2)) else none)
noncomputable def t_222_28_4 (K : gK) (d : Nat) (l0 : Nat) (l1 : Int32) (l2 : Int32) (v11 : Int32) (G10 : gH) : Option gO := rI G10 l0 11 3 (t_222_28_3 K d v11 l0 l1 l2 G10)
noncomputable def t_222_28_5 (K : gK) (d : Nat) (G6 : gH) (l0 : Nat) (l1 : Int32) (l2 : Int32) (v7 : Int32) : Option gO := if v7 = 0 then (if g_cls G6 l0 = some 11 then (cV (gCa K d 222 [.ref l0, .int (l1 + (1 : Int32))] G6) (t_222_28_1 K d l0 l1 l2)) else none) else (if g_cls G6 l0 = some 11 then (cI (gCa K d 241 [.ref l0, .int (l1 + (1 : Int32))] G6) (t_222_28_4 K d l0 l1 l2)) else none)
noncomputable def t_222_28_6 (K : gK) (d : Nat) (l0 : Nat) (l1 : Int32) (l2 : Int32) (G6 : gH) : Option gO := rI G6 l0 11 1 (t_222_28_5 K d G6 l0 l1 l2)
noncomputable def t_222_28_7 (K : gK) (d : Nat) (G3 : gH) (l1 : Int32) (l2 : Int32) (l0 : Nat) (a5 : Nat) : Option gO := yI G3 a5 0 l1 l2 (t_222_28_6 K d l0 l1 l2)
noncomputable def t_222_28_8 (K : gK) (d : Nat) (l0 : Nat) (l1 : Int32) (l2 : Int32) (v4 : Int32) (G3 : gH) : Option gO := if v4 = 0 then (rR G3 l0 11 2 (t_222_28_7 K d G3 l1 l2 l0)) else (gRn K d 222 28 [some (.ref l0), some (.int l1), some (.int (l2 + 1))] [] G3)
noncomputable def t_222_28_9 (K : gK) (d : Nat) (l2 : Int32) (G : gH) (l0 : Nat) (l1 : Int32) (v2 : Int32) : Option gO := if v2 ≤ l2 then (some (.inl none, G)) else (if g_cls G l0 = some 11 then (cI (gCa K d 242 [.ref l0, .int l2, .int l1] G) (t_222_28_8 K d l0 l1 l2)) else none)
noncomputable def t_222_28_10 (K : gK) (d : Nat) (G : gH) (l2 : Int32) (l0 : Nat) (l1 : Int32) (a1 : Nat) : Option gO := xL K G a1 (t_222_28_9 K d l2 G l0 l1)
noncomputable def t_222_28 (K : gK) (d : Nat) (l0 : Nat) (l1 : Int32) (l2 : Int32) (G : gH) : Option gO := rR G l0 11 2 (t_222_28_10 K d G l2 l0 l1)
theorem e_222_28 {K : gK} {d : Nat} {l0 : Nat} {l1 : Int32} {l2 : Int32} {G : gH} : gle (t_222_28 K d l0 l1 l2 G) (gRn K d 222 28 [some (.ref l0), some (.int l1), some (.int l2)] [] G) := by
  unfold t_222_28
  refine g_iload ((q_222 _).trans rfl) rfl ?_
  refine g_aload ((q_222 _).trans rfl) rfl ?_
  refine g_getR ((q_222 _).trans rfl) (fun a1 => ?_)
  refine g_alen ((q_222 _).trans rfl) (fun v2 => ?_)
  refine g_cmpge ((q_222 _).trans rfl) (fun _ => ?_) (fun _ => ?_)
  · exact g_vret ((q_222 _).trans rfl)
  · refine g_aload ((q_222 _).trans rfl) rfl ?_
    refine g_iload ((q_222 _).trans rfl) rfl ?_
    refine g_iload ((q_222 _).trans rfl) rfl ?_
    refine g_callV (kk := 2) ((q_222 _).trans rfl) (gHn m_222) rfl (by exact ⟨Nat.le_of_ble_eq_true rfl, rfl⟩) rfl (fun w G3 => gm_I (fun v4 hw => ?_))
    subst hw
    refine g_ifne ((q_222 _).trans rfl) (fun _ => ?_) (fun _ => ?_)
    · refine g_aload ((q_222 _).trans rfl) rfl ?_
      refine g_getR ((q_222 _).trans rfl) (fun a5 => ?_)
      refine g_iload ((q_222 _).trans rfl) rfl ?_
      refine g_iload ((q_222 _).trans rfl) rfl ?_
      refine g_iast ((q_222 _).trans rfl) (fun G6 => ?_)
      refine g_aload ((q_222 _).trans rfl) rfl ?_
      refine g_getI ((q_222 _).trans rfl) (fun v7 => ?_)
      refine g_ifeq ((q_222 _).trans rfl) (fun _ => ?_) (fun _ => ?_)
      · refine g_aload ((q_222 _).trans rfl) rfl ?_
        refine g_iload ((q_222 _).trans rfl) rfl ?_
        refine g_push ((q_222 _).trans rfl) ?_
        refine g_iadd ((q_222 _).trans rfl) ?_
        refine g_callV (kk := 1) ((q_222 _).trans rfl) (gHn m_222) rfl (by exact ⟨Nat.le_of_ble_eq_true rfl, rfl⟩) rfl (fun w G8 => gm_V (fun hw => ?_))
        subst hw
        refine g_iinc ((q_222 _).trans rfl) rfl ?_
        refine g_goto ((q_222 _).trans rfl) ?_
        exact gle.rf _
      · refine g_aload ((q_222 _).trans rfl) rfl ?_
        refine g_iload ((q_222 _).trans rfl) rfl ?_
        refine g_push ((q_222 _).trans rfl) ?_
        refine g_iadd ((q_222 _).trans rfl) ?_
        refine g_callV (kk := 1) ((q_222 _).trans rfl) (gHn m_222) rfl (by exact ⟨Nat.le_of_ble_eq_true rfl, rfl⟩) rfl (fun w G10 => gm_I (fun v11 hw => ?_))
        subst hw
        refine g_aload ((q_222 _).trans rfl) rfl ?_
        refine g_getI ((q_222 _).trans rfl) (fun v12 => ?_)
        refine g_cmpge ((q_222 _).trans rfl) (fun _ => ?_) (fun _ => ?_)
        · refine g_iinc ((q_222 _).trans rfl) rfl ?_
          refine g_goto ((q_222 _).trans rfl) ?_
          exact gle.rf _
        · refine g_aload ((q_222 _).trans rfl) rfl ?_
          refine g_iload ((q_222 _).trans rfl) rfl ?_
          refine g_push ((q_222 _).trans rfl) ?_
          refine g_iadd ((q_222 _).trans rfl) ?_
          refine g_callV (kk := 1) ((q_222 _).trans rfl) (gHn m_222) rfl (by exact ⟨Nat.le_of_ble_eq_true rfl, rfl⟩) rfl (fun w G13 => gm_V (fun hw => ?_))
          subst hw
          refine g_iinc ((q_222 _).trans rfl) rfl ?_
          refine g_goto ((q_222 _).trans rfl) ?_
          exact gle.rf _
    · refine g_iinc ((q_222 _).trans rfl) rfl ?_
      refine g_goto ((q_222 _).trans rfl) ?_
      exact gle.rf _
theorem q_223 {K : gK} (pc : Nat) : gP K 223 pc = ((gL_223 K).lookup pc).getD o_none := rfl
noncomputable def t_223_0_1 (K : gK) (d : Nat) (l1 : Int32) (G : gH) (v2 : Int32) : Option gO := if l1 = 0 then none else (some (.inl (some (.int (v2 / l1))), G))
noncomputable def t_223_0_2 (K : gK) (d : Nat) (l1 : Int32) (v6 : Int32) (G5 : gH) : Option gO := if l1 = 0 then none else (some (.inl (some (.int (v6 / l1))), G5))
noncomputable def t_223_0_3 (K : gK) (d : Nat) (v3 : Int32) (G : gH) (l1 : Int32) (v4 : Int32) : Option gO := cI (gCa K d 224 [.int v3, .int v4] G) (t_223_0_2 K d l1)
noncomputable def t_223_0_4 (K : gK) (d : Nat) (G : gH) (l0 : Nat) (l1 : Int32) (v3 : Int32) : Option gO := rI G l0 4 6 (t_223_0_3 K d v3 G l1)
noncomputable def t_223_0_5 (K : gK) (d : Nat) (G : gH) (l0 : Nat) (l1 : Int32) (v1 : Int32) : Option gO := if v1 = 0 then (rI G l0 4 5 (t_223_0_1 K d l1 G)) else (rI G l0 4 5 (t_223_0_4 K d G l0 l1))
noncomputable def t_223_0 (K : gK) (d : Nat) (l0 : Nat) (l1 : Int32) (G : gH) : Option gO := rI G l0 4 1 (t_223_0_5 K d G l0 l1)
theorem e_223_0 {K : gK} {d : Nat} {l0 : Nat} {l1 : Int32} {G : gH} : gle (t_223_0 K d l0 l1 G) (gRn K d 223 0 [some (.ref l0), some (.int l1)] [] G) := by
  unfold t_223_0
  refine g_aload ((q_223 _).trans rfl) rfl ?_
  refine g_getI ((q_223 _).trans rfl) (fun v1 => ?_)
  refine g_ifeq ((q_223 _).trans rfl) (fun _ => ?_) (fun _ => ?_)
  · refine g_aload ((q_223 _).trans rfl) rfl ?_
    refine g_getI ((q_223 _).trans rfl) (fun v2 => ?_)
    refine g_iload ((q_223 _).trans rfl) rfl ?_
    refine g_idiv ((q_223 _).trans rfl) (fun _ => ?_)
    exact g_iret ((q_223 _).trans rfl)
  · refine g_aload ((q_223 _).trans rfl) rfl ?_
    refine g_getI ((q_223 _).trans rfl) (fun v3 => ?_)
    refine g_aload ((q_223 _).trans rfl) rfl ?_
    refine g_getI ((q_223 _).trans rfl) (fun v4 => ?_)
    refine g_callS (kk := 2) ((q_223 _).trans rfl) (gHn m_223) (by exact ⟨Nat.le_of_ble_eq_true rfl, Nat.le_of_ble_eq_true rfl, rfl⟩) rfl (fun w G5 => gm_I (fun v6 hw => ?_))
    subst hw
    refine g_goto ((q_223 _).trans rfl) ?_
    refine g_iload ((q_223 _).trans rfl) rfl ?_
    refine g_idiv ((q_223 _).trans rfl) (fun _ => ?_)
    exact g_iret ((q_223 _).trans rfl)
theorem c_223 {K : gK} {d : Nat} {l0 : Nat} {l1 : Int32} {G : gH} : gle (t_223_0 K d l0 l1 G) (gCa K (d + 1) 223 [.ref l0, .int l1] G) := by
  have h : gent (gMx 223) [.ref l0, .int l1] = [some (.ref l0), some (.int l1)] := by
    show gent (gT 223).2.2.2.1 _ = _
    rw [m_223]; rfl
  exact fun r e => (congrArg (fun q => gRn K d 223 0 q [] G) h).trans (e_223_0 r e)
theorem q_224 {K : gK} (pc : Nat) : gP K 224 pc = ((gL_224 K).lookup pc).getD o_none := rfl
noncomputable def t_224_0 (K : gK) (d : Nat) (l0 : Int32) (l1 : Int32) (G : gH) : Option gO := if l1 < l0 then (some (.inl (some (.int l1)), G)) else (some (.inl (some (.int l0)), G))
theorem e_224_0 {K : gK} {d : Nat} {l0 : Int32} {l1 : Int32} {G : gH} : gle (t_224_0 K d l0 l1 G) (gRn K d 224 0 [some (.int l0), some (.int l1)] [] G) := by
  unfold t_224_0
  refine g_iload ((q_224 _).trans rfl) rfl ?_
  refine g_iload ((q_224 _).trans rfl) rfl ?_
  refine g_cmpgt ((q_224 _).trans rfl) (fun _ => ?_) (fun _ => ?_)
  · refine g_iload ((q_224 _).trans rfl) rfl ?_
    exact g_iret ((q_224 _).trans rfl)
  · refine g_iload ((q_224 _).trans rfl) rfl ?_
    refine g_goto ((q_224 _).trans rfl) ?_
    exact g_iret ((q_224 _).trans rfl)
theorem c_224 {K : gK} {d : Nat} {l0 : Int32} {l1 : Int32} {G : gH} : gle (t_224_0 K d l0 l1 G) (gCa K (d + 1) 224 [.int l0, .int l1] G) := by
  have h : gent (gMx 224) [.int l0, .int l1] = [some (.int l0), some (.int l1)] := by
    show gent (gT 224).2.2.2.1 _ = _
    rw [m_224]; rfl
  exact fun r e => (congrArg (fun q => gRn K d 224 0 q [] G) h).trans (e_224_0 r e)
theorem q_225 {K : gK} (pc : Nat) : gP K 225 pc = ((gL_225 K).lookup pc).getD o_none := rfl
noncomputable def t_225_0_1 (K : gK) (d : Nat) (G5 : gH) : Option gO := some (.inl none, G5)
noncomputable def t_225_0_2 (K : gK) (d : Nat) (G6 : gH) : Option gO := some (.inl none, G6)
noncomputable def t_225_0_3 (K : gK) (d : Nat) (v3 : Int32) (G2 : gH) (l0 : Nat) (l1 : Int32) (v4 : Int32) : Option gO := if v4 = 0 then (if narrow .int (.int (v3 - (0 : Int32))) = .int (v3 - (0 : Int32)) ∧ fits .int (.int (v3 - (0 : Int32))) = true then wF G2 l0 4 6 (.int (v3 - (0 : Int32))) (t_225_0_1 K d) else none) else (if narrow .int (.int (v3 - l1)) = .int (v3 - l1) ∧ fits .int (.int (v3 - l1)) = true then wF G2 l0 4 6 (.int (v3 - l1)) (t_225_0_2 K d) else none)
noncomputable def t_225_0_4 (K : gK) (d : Nat) (G2 : gH) (l0 : Nat) (l1 : Int32) (v3 : Int32) : Option gO := rI G2 l0 4 1 (t_225_0_3 K d v3 G2 l0 l1)
noncomputable def t_225_0_5 (K : gK) (d : Nat) (l0 : Nat) (l1 : Int32) (G2 : gH) : Option gO := rI G2 l0 4 6 (t_225_0_4 K d G2 l0 l1)
noncomputable def t_225_0_6 (K : gK) (d : Nat) (l1 : Int32) (G : gH) (l0 : Nat) (v1 : Int32) : Option gO := if narrow .int (.int (v1 - l1)) = .int (v1 - l1) ∧ fits .int (.int (v1 - l1)) = true then wF G l0 4 5 (.int (v1 - l1)) (t_225_0_5 K d l0 l1) else none
noncomputable def t_225_0 (K : gK) (d : Nat) (l0 : Nat) (l1 : Int32) (G : gH) : Option gO := rI G l0 4 5 (t_225_0_6 K d l1 G l0)
theorem e_225_0 {K : gK} {d : Nat} {l0 : Nat} {l1 : Int32} {G : gH} : gle (t_225_0 K d l0 l1 G) (gRn K d 225 0 [some (.ref l0), some (.int l1)] [] G) := by
  unfold t_225_0
  refine g_aload ((q_225 _).trans rfl) rfl ?_
  refine g_dup_ref ((q_225 _).trans rfl) ?_
  refine g_getI ((q_225 _).trans rfl) (fun v1 => ?_)
  refine g_iload ((q_225 _).trans rfl) rfl ?_
  refine g_isub ((q_225 _).trans rfl) ?_
  refine g_putf ((q_225 _).trans rfl) (fun G2 => ?_)
  refine g_aload ((q_225 _).trans rfl) rfl ?_
  refine g_dup_ref ((q_225 _).trans rfl) ?_
  refine g_getI ((q_225 _).trans rfl) (fun v3 => ?_)
  refine g_aload ((q_225 _).trans rfl) rfl ?_
  refine g_getI ((q_225 _).trans rfl) (fun v4 => ?_)
  refine g_ifeq ((q_225 _).trans rfl) (fun _ => ?_) (fun _ => ?_)
  · refine g_push ((q_225 _).trans rfl) ?_
    refine g_isub ((q_225 _).trans rfl) ?_
    refine g_putf ((q_225 _).trans rfl) (fun G5 => ?_)
    exact g_vret ((q_225 _).trans rfl)
  · refine g_iload ((q_225 _).trans rfl) rfl ?_
    refine g_goto ((q_225 _).trans rfl) ?_
    refine g_isub ((q_225 _).trans rfl) ?_
    refine g_putf ((q_225 _).trans rfl) (fun G6 => ?_)
    exact g_vret ((q_225 _).trans rfl)
theorem c_225 {K : gK} {d : Nat} {l0 : Nat} {l1 : Int32} {G : gH} : gle (t_225_0 K d l0 l1 G) (gCa K (d + 1) 225 [.ref l0, .int l1] G) := by
  have h : gent (gMx 225) [.ref l0, .int l1] = [some (.ref l0), some (.int l1)] := by
    show gent (gT 225).2.2.2.1 _ = _
    rw [m_225]; rfl
  exact fun r e => (congrArg (fun q => gRn K d 225 0 q [] G) h).trans (e_225_0 r e)
theorem q_226 {K : gK} (pc : Nat) : gP K 226 pc = ((gL_226 K).lookup pc).getD o_none := rfl
noncomputable def t_226_0_1 (K : gK) (d : Nat) (a3 : Nat) (G2 : gH) : Option gO := some (.inl (some (.ref a3)), G2)
noncomputable def t_226_0_2 (K : gK) (d : Nat) (G : gH) (l0 : Nat) (v1 : Int32) : Option gO := if g_cls G l0 = some 12 then (cR (gCa K d 243 [.ref l0, .int (v1 + (1 : Int32))] G) (t_226_0_1 K d)) else none
noncomputable def t_226_0 (K : gK) (d : Nat) (l0 : Nat) (G : gH) : Option gO := rI G l0 12 2 (t_226_0_2 K d G l0)
theorem e_226_0 {K : gK} {d : Nat} {l0 : Nat} {G : gH} : gle (t_226_0 K d l0 G) (gRn K d 226 0 [some (.ref l0)] [] G) := by
  unfold t_226_0
  refine g_aload ((q_226 _).trans rfl) rfl ?_
  refine g_aload ((q_226 _).trans rfl) rfl ?_
  refine g_getI ((q_226 _).trans rfl) (fun v1 => ?_)
  refine g_push ((q_226 _).trans rfl) ?_
  refine g_iadd ((q_226 _).trans rfl) ?_
  refine g_callV (kk := 1) ((q_226 _).trans rfl) (gHn m_226) rfl (by exact ⟨Nat.le_of_ble_eq_true rfl, rfl⟩) rfl (fun w G2 => gm_R (fun a3 hw => ?_))
  subst hw
  exact g_aret ((q_226 _).trans rfl)
theorem c_226 {K : gK} {d : Nat} {l0 : Nat} {G : gH} : gle (t_226_0 K d l0 G) (gCa K (d + 1) 226 [.ref l0] G) := by
  have h : gent (gMx 226) [.ref l0] = [some (.ref l0)] := by
    show gent (gT 226).2.2.2.1 _ = _
    rw [m_226]; rfl
  exact fun r e => (congrArg (fun q => gRn K d 226 0 q [] G) h).trans (e_226_0 r e)
theorem q_227 {K : gK} (pc : Nat) : gP K 227 pc = ((gL_227 K).lookup pc).getD o_none := rfl
noncomputable def t_227_0_1 (K : gK) (d : Nat) (l0 : Nat) (l1 : Int32) (l2 : Int32) (G : gH) (G3 : gH) : Option gO := gRn K d 227 29 [some (.ref l0), some (.int l1), some (.int l2), some (.ref (G.2.1)), some (.int (0 : Int32))] [] G3
noncomputable def t_227_0_2 (K : gK) (d : Nat) (G : gH) (v1 : Int32) (l0 : Nat) (l1 : Int32) (l2 : Int32) (v2 : Int32) : Option gO := cV (gCa K d 161 [.ref (G.2.1), .int v1, .int ((4 : Int32) - v2)] (gnew G (.inr (5, [.int 0, .int 0])) 2)) (t_227_0_1 K d l0 l1 l2 G)
noncomputable def t_227_0_3 (K : gK) (d : Nat) (G : gH) (l0 : Nat) (l1 : Int32) (l2 : Int32) (v1 : Int32) : Option gO := rI (gnew G (.inr (5, [.int 0, .int 0])) 2) l0 5 1 (t_227_0_2 K d G v1 l0 l1 l2)
noncomputable def t_227_0 (K : gK) (d : Nat) (l0 : Nat) (l1 : Int32) (l2 : Int32) (G : gH) : Option gO := if l1 = 0 then (gRn K d 227 29 [some (.ref l0), some (.int l1), some (.int l2), some (.ref l0), some (.int (0 : Int32))] [] G) else (rI (gnew G (.inr (5, [.int 0, .int 0])) 2) l0 5 0 (t_227_0_3 K d G l0 l1 l2))
theorem e_227_0 {K : gK} {d : Nat} {l0 : Nat} {l1 : Int32} {l2 : Int32} {G : gH} : gle (t_227_0 K d l0 l1 l2 G) (gRn K d 227 0 [some (.ref l0), some (.int l1), some (.int l2), none, none] [] G) := by
  unfold t_227_0
  refine g_iload ((q_227 _).trans rfl) rfl ?_
  refine g_ifeq ((q_227 _).trans rfl) (fun _ => ?_) (fun _ => ?_)
  · refine g_aload ((q_227 _).trans rfl) rfl ?_
    refine g_astore ((q_227 _).trans rfl) ?_
    refine g_push ((q_227 _).trans rfl) ?_
    refine g_istore ((q_227 _).trans rfl) ?_
    exact gle.rf _
  · refine g_new ((q_227 _).trans rfl) ?_
    refine g_dup_ref ((q_227 _).trans rfl) ?_
    refine g_aload ((q_227 _).trans rfl) rfl ?_
    refine g_getI ((q_227 _).trans rfl) (fun v1 => ?_)
    refine g_push ((q_227 _).trans rfl) ?_
    refine g_aload ((q_227 _).trans rfl) rfl ?_
    refine g_getI ((q_227 _).trans rfl) (fun v2 => ?_)
    refine g_isub ((q_227 _).trans rfl) ?_
    refine g_callI (kk := 2) ((q_227 _).trans rfl) (gHn m_227) rfl (by exact ⟨Nat.le_of_ble_eq_true rfl, rfl⟩) rfl (fun w G3 => gm_V (fun hw => ?_))
    subst hw
    refine g_goto ((q_227 _).trans rfl) ?_
    refine g_astore ((q_227 _).trans rfl) ?_
    refine g_push ((q_227 _).trans rfl) ?_
    refine g_istore ((q_227 _).trans rfl) ?_
    exact gle.rf _
theorem c_227 {K : gK} {d : Nat} {l0 : Nat} {l1 : Int32} {l2 : Int32} {G : gH} : gle (t_227_0 K d l0 l1 l2 G) (gCa K (d + 1) 227 [.ref l0, .int l1, .int l2] G) := by
  have h : gent (gMx 227) [.ref l0, .int l1, .int l2] = [some (.ref l0), some (.int l1), some (.int l2), none, none] := by
    show gent (gT 227).2.2.2.1 _ = _
    rw [m_227]; rfl
  exact fun r e => (congrArg (fun q => gRn K d 227 0 q [] G) h).trans (e_227_0 r e)
noncomputable def t_227_29_1 (K : gK) (d : Nat) (l0 : Nat) (l1 : Int32) (l2 : Int32) (G : gH) (l4 : Int32) (G3 : gH) : Option gO := gRn K d 227 29 [some (.ref l0), some (.int l1), some (.int l2), some (.ref (G.2.1)), some (.int (l4 + 1))] [] G3
noncomputable def t_227_29_2 (K : gK) (d : Nat) (G : gH) (v1 : Int32) (l0 : Nat) (l1 : Int32) (l2 : Int32) (l4 : Int32) (v2 : Int32) : Option gO := cV (gCa K d 161 [.ref (G.2.1), .int v1, .int ((4 : Int32) - v2)] (gnew G (.inr (5, [.int 0, .int 0])) 2)) (t_227_29_1 K d l0 l1 l2 G l4)
noncomputable def t_227_29_3 (K : gK) (d : Nat) (G : gH) (l3 : Nat) (l0 : Nat) (l1 : Int32) (l2 : Int32) (l4 : Int32) (v1 : Int32) : Option gO := rI (gnew G (.inr (5, [.int 0, .int 0])) 2) l3 5 0 (t_227_29_2 K d G v1 l0 l1 l2 l4)
noncomputable def t_227_29 (K : gK) (d : Nat) (l0 : Nat) (l1 : Int32) (l2 : Int32) (l3 : Nat) (l4 : Int32) (G : gH) : Option gO := if l2 ≤ l4 then (some (.inl (some (.ref l3)), G)) else (rI (gnew G (.inr (5, [.int 0, .int 0])) 2) l3 5 1 (t_227_29_3 K d G l3 l0 l1 l2 l4))
theorem e_227_29 {K : gK} {d : Nat} {l0 : Nat} {l1 : Int32} {l2 : Int32} {l3 : Nat} {l4 : Int32} {G : gH} : gle (t_227_29 K d l0 l1 l2 l3 l4 G) (gRn K d 227 29 [some (.ref l0), some (.int l1), some (.int l2), some (.ref l3), some (.int l4)] [] G) := by
  unfold t_227_29
  refine g_iload ((q_227 _).trans rfl) rfl ?_
  refine g_iload ((q_227 _).trans rfl) rfl ?_
  refine g_cmpge ((q_227 _).trans rfl) (fun _ => ?_) (fun _ => ?_)
  · refine g_aload ((q_227 _).trans rfl) rfl ?_
    exact g_aret ((q_227 _).trans rfl)
  · refine g_new ((q_227 _).trans rfl) ?_
    refine g_dup_ref ((q_227 _).trans rfl) ?_
    refine g_aload ((q_227 _).trans rfl) rfl ?_
    refine g_getI ((q_227 _).trans rfl) (fun v1 => ?_)
    refine g_push ((q_227 _).trans rfl) ?_
    refine g_aload ((q_227 _).trans rfl) rfl ?_
    refine g_getI ((q_227 _).trans rfl) (fun v2 => ?_)
    refine g_isub ((q_227 _).trans rfl) ?_
    refine g_callI (kk := 2) ((q_227 _).trans rfl) (gHn m_227) rfl (by exact ⟨Nat.le_of_ble_eq_true rfl, rfl⟩) rfl (fun w G3 => gm_V (fun hw => ?_))
    subst hw
    refine g_astore ((q_227 _).trans rfl) ?_
    refine g_iinc ((q_227 _).trans rfl) rfl ?_
    refine g_goto ((q_227 _).trans rfl) ?_
    exact gle.rf _
theorem q_228 {K : gK} (pc : Nat) : gP K 228 pc = ((gL_228 K).lookup pc).getD o_none := rfl
noncomputable def t_228_0_1 (K : gK) (d : Nat) (v4 : Int32) (G3 : gH) : Option gO := some (.inl (some (.int v4)), G3)
noncomputable def t_228_0_2 (K : gK) (d : Nat) (G : gH) (a2 : Nat) : Option gO := if g_cls G a2 = some 12 then (cI (gCa K d 110 [.ref a2] G) (t_228_0_1 K d)) else none
noncomputable def t_228_0_3 (K : gK) (d : Nat) (G : gH) (a1 : Nat) : Option gO := rR G a1 4 2 (t_228_0_2 K d G)
noncomputable def t_228_0 (K : gK) (d : Nat) (l0 : Nat) (G : gH) : Option gO := rR G l0 1 0 (t_228_0_3 K d G)
theorem e_228_0 {K : gK} {d : Nat} {l0 : Nat} {G : gH} : gle (t_228_0 K d l0 G) (gRn K d 228 0 [some (.ref l0)] [] G) := by
  unfold t_228_0
  refine g_aload ((q_228 _).trans rfl) rfl ?_
  refine g_getR ((q_228 _).trans rfl) (fun a1 => ?_)
  refine g_getR ((q_228 _).trans rfl) (fun a2 => ?_)
  refine g_callV (kk := 0) ((q_228 _).trans rfl) (gHn m_228) rfl (by exact ⟨Nat.le_of_ble_eq_true rfl, rfl⟩) rfl (fun w G3 => gm_I (fun v4 hw => ?_))
  subst hw
  exact g_iret ((q_228 _).trans rfl)
theorem c_228 {K : gK} {d : Nat} {l0 : Nat} {G : gH} : gle (t_228_0 K d l0 G) (gCa K (d + 1) 228 [.ref l0] G) := by
  have h : gent (gMx 228) [.ref l0] = [some (.ref l0)] := by
    show gent (gT 228).2.2.2.1 _ = _
    rw [m_228]; rfl
  exact fun r e => (congrArg (fun q => gRn K d 228 0 q [] G) h).trans (e_228_0 r e)
theorem q_229 {K : gK} (pc : Nat) : gP K 229 pc = ((gL_229 K).lookup pc).getD o_none := rfl
noncomputable def t_229_0_1 (K : gK) (d : Nat) (v8 : Int32) (G7 : gH) : Option gO := if narrow .boolean (.int v8) = .int v8 then some (.inl (some (.int v8)), G7) else none
noncomputable def t_229_0_2 (K : gK) (d : Nat) (G : gH) (a4 : Nat) (v6 : Int32) : Option gO := xAl K d G a4 v6 244 245 246 (kI (t_229_0_1 K d))
noncomputable def t_229_0_3 (K : gK) (d : Nat) (G : gH) (a4 : Nat) (a5 : Nat) : Option gO := rI G a5 1 1 (t_229_0_2 K d G a4)
noncomputable def t_229_0_4 (K : gK) (d : Nat) (G : gH) (l0 : Nat) (a4 : Nat) : Option gO := rR G l0 0 5 (t_229_0_3 K d G a4)
noncomputable def t_229_0_5 (K : gK) (d : Nat) (G : gH) (l0 : Nat) (a3 : Nat) : Option gO := rR G a3 4 0 (t_229_0_4 K d G l0)
noncomputable def t_229_0_6 (K : gK) (d : Nat) (G : gH) (l0 : Nat) (a2 : Nat) : Option gO := rR G a2 1 0 (t_229_0_5 K d G l0)
noncomputable def t_229_0_7 (K : gK) (d : Nat) (G : gH) (v10 : Int32) : Option gO := if v10 = 0 then (if narrow .boolean (.int (1 : Int32)) = .int (1 : Int32) then some (.inl (some (.int (1 : Int32))), G) else none) else (if narrow .boolean (.int (0 : Int32)) = .int (0 : Int32) then some (.inl (some (.int (0 : Int32))), G) else none)
noncomputable def t_229_0_8 (K : gK) (d : Nat) (G : gH) (a9 : Nat) : Option gO := rI G a9 1 1 (t_229_0_7 K d G)
noncomputable def t_229_0_9 (K : gK) (d : Nat) (G : gH) (l0 : Nat) (v1 : Int32) : Option gO := if v1 = 0 then (rR G l0 0 5 (t_229_0_6 K d G l0)) else (rR G l0 0 5 (t_229_0_8 K d G))
noncomputable def t_229_0 (K : gK) (d : Nat) (l0 : Nat) (G : gH) : Option gO := rI G l0 0 9 (t_229_0_9 K d G l0)
theorem e_229_0 {K : gK} {d : Nat} {l0 : Nat} {G : gH} : gle (t_229_0 K d l0 G) (gRn K d 229 0 [some (.ref l0)] [] G) := by
  unfold t_229_0
  refine g_aload ((q_229 _).trans rfl) rfl ?_
  refine g_getI ((q_229 _).trans rfl) (fun v1 => ?_)
  refine g_ifeq ((q_229 _).trans rfl) (fun _ => ?_) (fun _ => ?_)
  · refine g_aload ((q_229 _).trans rfl) rfl ?_
    refine g_getR ((q_229 _).trans rfl) (fun a2 => ?_)
    refine g_getR ((q_229 _).trans rfl) (fun a3 => ?_)
    refine g_getR ((q_229 _).trans rfl) (fun a4 => ?_)
    refine g_aload ((q_229 _).trans rfl) rfl ?_
    refine g_getR ((q_229 _).trans rfl) (fun a5 => ?_)
    refine g_getI ((q_229 _).trans rfl) (fun v6 => ?_)
    refine g_allows ((q_229 _).trans rfl) (gHn m_229) (Nat.le_of_ble_eq_true rfl) (fun w G7 => gm_I (fun v8 hw => ?_))
    subst hw
    exact g_zret ((q_229 _).trans rfl)
  · refine g_aload ((q_229 _).trans rfl) rfl ?_
    refine g_getR ((q_229 _).trans rfl) (fun a9 => ?_)
    refine g_getI ((q_229 _).trans rfl) (fun v10 => ?_)
    refine g_ifne ((q_229 _).trans rfl) (fun _ => ?_) (fun _ => ?_)
    · refine g_push ((q_229 _).trans rfl) ?_
      refine g_goto ((q_229 _).trans rfl) ?_
      exact g_zret ((q_229 _).trans rfl)
    · refine g_push ((q_229 _).trans rfl) ?_
      refine g_goto ((q_229 _).trans rfl) ?_
      exact g_zret ((q_229 _).trans rfl)
theorem c_229 {K : gK} {d : Nat} {l0 : Nat} {G : gH} : gle (t_229_0 K d l0 G) (gCa K (d + 1) 229 [.ref l0] G) := by
  have h : gent (gMx 229) [.ref l0] = [some (.ref l0)] := by
    show gent (gT 229).2.2.2.1 _ = _
    rw [m_229]; rfl
  exact fun r e => (congrArg (fun q => gRn K d 229 0 q [] G) h).trans (e_229_0 r e)
theorem q_230 {K : gK} (pc : Nat) : gP K 230 pc = ((gL_230 K).lookup pc).getD o_none := rfl
noncomputable def t_230_0_1 (K : gK) (d : Nat) (l0 : Nat) (v10 : Int32) (G9 : gH) : Option gO := if v10 = 0 then (if narrow .boolean (.int (0 : Int32)) = .int (0 : Int32) then some (.inl (some (.int (0 : Int32))), G9) else none) else (gRn K d 230 40 [some (.ref l0), some (.int (0 : Int32))] [] G9)
noncomputable def t_230_0_2 (K : gK) (d : Nat) (v6 : Int32) (l0 : Nat) (v8 : Int32) (G7 : gH) : Option gO := cI (gCa K d 148 [.int v6, .int (0 : Int32), .int (v8 - (1 : Int32))] G7) (t_230_0_1 K d l0)
noncomputable def t_230_0_3 (K : gK) (d : Nat) (G3 : gH) (l0 : Nat) (v6 : Int32) : Option gO := if g_cls G3 l0 = some 0 then (cI (gCa K d 194 [.ref l0] G3) (t_230_0_2 K d v6 l0)) else none
noncomputable def t_230_0_4 (K : gK) (d : Nat) (G3 : gH) (l0 : Nat) (a5 : Nat) : Option gO := rI G3 a5 1 4 (t_230_0_3 K d G3 l0)
noncomputable def t_230_0_5 (K : gK) (d : Nat) (l0 : Nat) (v4 : Int32) (G3 : gH) : Option gO := if v4 = 0 then (if narrow .boolean (.int (0 : Int32)) = .int (0 : Int32) then some (.inl (some (.int (0 : Int32))), G3) else none) else (rR G3 l0 0 5 (t_230_0_4 K d G3 l0))
noncomputable def t_230_0_6 (K : gK) (d : Nat) (G : gH) (l0 : Nat) (v2 : Int32) : Option gO := cI (gCa K d 148 [.int v2, .int (0 : Int32), .int (59 : Int32)] G) (t_230_0_5 K d l0)
noncomputable def t_230_0_7 (K : gK) (d : Nat) (G : gH) (l0 : Nat) (a1 : Nat) : Option gO := rI G a1 1 3 (t_230_0_6 K d G l0)
noncomputable def t_230_0 (K : gK) (d : Nat) (l0 : Nat) (G : gH) : Option gO := rR G l0 0 5 (t_230_0_7 K d G l0)
theorem e_230_0 {K : gK} {d : Nat} {l0 : Nat} {G : gH} : gle (t_230_0 K d l0 G) (gRn K d 230 0 [some (.ref l0), none] [] G) := by
  unfold t_230_0
  refine g_aload ((q_230 _).trans rfl) rfl ?_
  refine g_getR ((q_230 _).trans rfl) (fun a1 => ?_)
  refine g_getI ((q_230 _).trans rfl) (fun v2 => ?_)
  refine g_push ((q_230 _).trans rfl) ?_
  refine g_push ((q_230 _).trans rfl) ?_
  refine g_callS (kk := 3) ((q_230 _).trans rfl) (gHn m_230) (by exact ⟨Nat.le_of_ble_eq_true rfl, Nat.le_of_ble_eq_true rfl, rfl⟩) rfl (fun w G3 => gm_I (fun v4 hw => ?_))
  subst hw
  refine g_ifeq ((q_230 _).trans rfl) (fun _ => ?_) (fun _ => ?_)
  · refine g_push ((q_230 _).trans rfl) ?_
    exact g_zret ((q_230 _).trans rfl)
  · refine g_aload ((q_230 _).trans rfl) rfl ?_
    refine g_getR ((q_230 _).trans rfl) (fun a5 => ?_)
    refine g_getI ((q_230 _).trans rfl) (fun v6 => ?_)
    refine g_push ((q_230 _).trans rfl) ?_
    refine g_aload ((q_230 _).trans rfl) rfl ?_
    refine g_callV (kk := 0) ((q_230 _).trans rfl) (gHn m_230) rfl (by exact ⟨Nat.le_of_ble_eq_true rfl, rfl⟩) rfl (fun w G7 => gm_I (fun v8 hw => ?_))
    subst hw
    refine g_push ((q_230 _).trans rfl) ?_
    refine g_isub ((q_230 _).trans rfl) ?_
    refine g_callS (kk := 3) ((q_230 _).trans rfl) (gHn m_230) (by exact ⟨Nat.le_of_ble_eq_true rfl, Nat.le_of_ble_eq_true rfl, rfl⟩) rfl (fun w G9 => gm_I (fun v10 hw => ?_))
    subst hw
    refine g_ifne ((q_230 _).trans rfl) (fun _ => ?_) (fun _ => ?_)
    · refine g_push ((q_230 _).trans rfl) ?_
      exact g_zret ((q_230 _).trans rfl)
    · refine g_push ((q_230 _).trans rfl) ?_
      refine g_istore ((q_230 _).trans rfl) ?_
      exact gle.rf _
theorem c_230 {K : gK} {d : Nat} {l0 : Nat} {G : gH} : gle (t_230_0 K d l0 G) (gCa K (d + 1) 230 [.ref l0] G) := by
  have h : gent (gMx 230) [.ref l0] = [some (.ref l0), none] := by
    show gent (gT 230).2.2.2.1 _ = _
    rw [m_230]; rfl
  exact fun r e => (congrArg (fun q => gRn K d 230 0 q [] G) h).trans (e_230_0 r e)
noncomputable def t_230_40_1 (K : gK) (d : Nat) (v9 : Int32) (l0 : Nat) (l1 : Int32) (v11 : Int32) (G10 : gH) : Option gO := if v9 < v11 then (gRn K d 230 40 [some (.ref l0), some (.int (l1 + 1))] [] G10) else (if narrow .boolean (.int (0 : Int32)) = .int (0 : Int32) then some (.inl (some (.int (0 : Int32))), G10) else none)
noncomputable def t_230_40_2 (K : gK) (d : Nat) (l0 : Nat) (l1 : Int32) (v9 : Int32) (G8 : gH) : Option gO := if g_cls G8 l0 = some 0 then (cI (gCa K d 194 [.ref l0] G8) (t_230_40_1 K d v9 l0 l1)) else none
noncomputable def t_230_40_3 (K : gK) (d : Nat) (G5 : gH) (l1 : Int32) (l0 : Nat) (a7 : Nat) : Option gO := if g_cls G5 a7 = some 1 then (cI (gCa K d 235 [.ref a7, .int l1] G5) (t_230_40_2 K d l0 l1)) else none
noncomputable def t_230_40_4 (K : gK) (d : Nat) (l0 : Nat) (l1 : Int32) (v6 : Int32) (G5 : gH) : Option gO := if (60 : Int32) ≤ v6 then (if narrow .boolean (.int (0 : Int32)) = .int (0 : Int32) then some (.inl (some (.int (0 : Int32))), G5) else none) else (rR G5 l0 0 5 (t_230_40_3 K d G5 l1 l0))
noncomputable def t_230_40_5 (K : gK) (d : Nat) (G2 : gH) (l1 : Int32) (l0 : Nat) (a4 : Nat) : Option gO := if g_cls G2 a4 = some 1 then (cI (gCa K d 234 [.ref a4, .int l1] G2) (t_230_40_4 K d l0 l1)) else none
noncomputable def t_230_40_6 (K : gK) (d : Nat) (l1 : Int32) (l0 : Nat) (v3 : Int32) (G2 : gH) : Option gO := if v3 ≤ l1 then (if narrow .boolean (.int (1 : Int32)) = .int (1 : Int32) then some (.inl (some (.int (1 : Int32))), G2) else none) else (rR G2 l0 0 5 (t_230_40_5 K d G2 l1 l0))
noncomputable def t_230_40_7 (K : gK) (d : Nat) (G : gH) (l1 : Int32) (l0 : Nat) (a1 : Nat) : Option gO := if g_cls G a1 = some 1 then (cI (gCa K d 228 [.ref a1] G) (t_230_40_6 K d l1 l0)) else none
noncomputable def t_230_40 (K : gK) (d : Nat) (l0 : Nat) (l1 : Int32) (G : gH) : Option gO := rR G l0 0 5 (t_230_40_7 K d G l1 l0)
theorem e_230_40 {K : gK} {d : Nat} {l0 : Nat} {l1 : Int32} {G : gH} : gle (t_230_40 K d l0 l1 G) (gRn K d 230 40 [some (.ref l0), some (.int l1)] [] G) := by
  unfold t_230_40
  refine g_iload ((q_230 _).trans rfl) rfl ?_
  refine g_aload ((q_230 _).trans rfl) rfl ?_
  refine g_getR ((q_230 _).trans rfl) (fun a1 => ?_)
  refine g_callV (kk := 0) ((q_230 _).trans rfl) (gHn m_230) rfl (by exact ⟨Nat.le_of_ble_eq_true rfl, rfl⟩) rfl (fun w G2 => gm_I (fun v3 hw => ?_))
  subst hw
  refine g_cmpge ((q_230 _).trans rfl) (fun _ => ?_) (fun _ => ?_)
  · refine g_push ((q_230 _).trans rfl) ?_
    exact g_zret ((q_230 _).trans rfl)
  · refine g_aload ((q_230 _).trans rfl) rfl ?_
    refine g_getR ((q_230 _).trans rfl) (fun a4 => ?_)
    refine g_iload ((q_230 _).trans rfl) rfl ?_
    refine g_callV (kk := 1) ((q_230 _).trans rfl) (gHn m_230) rfl (by exact ⟨Nat.le_of_ble_eq_true rfl, rfl⟩) rfl (fun w G5 => gm_I (fun v6 hw => ?_))
    subst hw
    refine g_push ((q_230 _).trans rfl) ?_
    refine g_cmpge ((q_230 _).trans rfl) (fun _ => ?_) (fun _ => ?_)
    · refine g_push ((q_230 _).trans rfl) ?_
      exact g_zret ((q_230 _).trans rfl)
    · refine g_aload ((q_230 _).trans rfl) rfl ?_
      refine g_getR ((q_230 _).trans rfl) (fun a7 => ?_)
      refine g_iload ((q_230 _).trans rfl) rfl ?_
      refine g_callV (kk := 1) ((q_230 _).trans rfl) (gHn m_230) rfl (by exact ⟨Nat.le_of_ble_eq_true rfl, rfl⟩) rfl (fun w G8 => gm_I (fun v9 hw => ?_))
      subst hw
      refine g_aload ((q_230 _).trans rfl) rfl ?_
      refine g_callV (kk := 0) ((q_230 _).trans rfl) (gHn m_230) rfl (by exact ⟨Nat.le_of_ble_eq_true rfl, rfl⟩) rfl (fun w G10 => gm_I (fun v11 hw => ?_))
      subst hw
      refine g_cmplt ((q_230 _).trans rfl) (fun _ => ?_) (fun _ => ?_)
      · refine g_iinc ((q_230 _).trans rfl) rfl ?_
        refine g_goto ((q_230 _).trans rfl) ?_
        exact gle.rf _
      · refine g_push ((q_230 _).trans rfl) ?_
        exact g_zret ((q_230 _).trans rfl)
theorem q_231 {K : gK} (pc : Nat) : gP K 231 pc = ((gL_231 K).lookup pc).getD o_none := rfl
noncomputable def t_231_0 (K : gK) (d : Nat) (l0 : Nat) (G : gH) : Option gO := gRn K d 231 2 [some (.ref l0), some (.int (0 : Int32))] [] G
theorem e_231_0 {K : gK} {d : Nat} {l0 : Nat} {G : gH} : gle (t_231_0 K d l0 G) (gRn K d 231 0 [some (.ref l0), none] [] G) := by
  unfold t_231_0
  refine g_push ((q_231 _).trans rfl) ?_
  refine g_istore ((q_231 _).trans rfl) ?_
  exact gle.rf _
theorem c_231 {K : gK} {d : Nat} {l0 : Nat} {G : gH} : gle (t_231_0 K d l0 G) (gCa K (d + 1) 231 [.ref l0] G) := by
  have h : gent (gMx 231) [.ref l0] = [some (.ref l0), none] := by
    show gent (gT 231).2.2.2.1 _ = _
    rw [m_231]; rfl
  exact fun r e => (congrArg (fun q => gRn K d 231 0 q [] G) h).trans (e_231_0 r e)
noncomputable def t_231_2_1 (K : gK) (d : Nat) (l0 : Nat) (l1 : Int32) (v11 : Int32) (G10 : gH) : Option gO := if v11 = 0 then (gRn K d 231 2 [some (.ref l0), some (.int (l1 + 1))] [] G10) else (if narrow .boolean (.int (1 : Int32)) = .int (1 : Int32) then some (.inl (some (.int (1 : Int32))), G10) else none)
noncomputable def t_231_2_2 (K : gK) (d : Nat) (l0 : Nat) (v6 : Int32) (l1 : Int32) (v9 : Int32) (G8 : gH) : Option gO := if g_cls G8 l0 = some 0 then (cI (gCa K d 247 [.ref l0, .int v6, .int v9] G8) (t_231_2_1 K d l0 l1)) else none
noncomputable def t_231_2_3 (K : gK) (d : Nat) (G5 : gH) (l1 : Int32) (l0 : Nat) (v6 : Int32) (a7 : Nat) : Option gO := if g_cls G5 a7 = some 1 then (cI (gCa K d 235 [.ref a7, .int l1] G5) (t_231_2_2 K d l0 v6 l1)) else none
noncomputable def t_231_2_4 (K : gK) (d : Nat) (l0 : Nat) (l1 : Int32) (v6 : Int32) (G5 : gH) : Option gO := rR G5 l0 0 5 (t_231_2_3 K d G5 l1 l0 v6)
noncomputable def t_231_2_5 (K : gK) (d : Nat) (G2 : gH) (l1 : Int32) (l0 : Nat) (a4 : Nat) : Option gO := if g_cls G2 a4 = some 1 then (cI (gCa K d 234 [.ref a4, .int l1] G2) (t_231_2_4 K d l0 l1)) else none
noncomputable def t_231_2_6 (K : gK) (d : Nat) (l1 : Int32) (l0 : Nat) (v3 : Int32) (G2 : gH) : Option gO := if v3 ≤ l1 then (if narrow .boolean (.int (0 : Int32)) = .int (0 : Int32) then some (.inl (some (.int (0 : Int32))), G2) else none) else (rR G2 l0 0 5 (t_231_2_5 K d G2 l1 l0))
noncomputable def t_231_2_7 (K : gK) (d : Nat) (G : gH) (l1 : Int32) (l0 : Nat) (a1 : Nat) : Option gO := if g_cls G a1 = some 1 then (cI (gCa K d 228 [.ref a1] G) (t_231_2_6 K d l1 l0)) else none
noncomputable def t_231_2 (K : gK) (d : Nat) (l0 : Nat) (l1 : Int32) (G : gH) : Option gO := rR G l0 0 5 (t_231_2_7 K d G l1 l0)
theorem e_231_2 {K : gK} {d : Nat} {l0 : Nat} {l1 : Int32} {G : gH} : gle (t_231_2 K d l0 l1 G) (gRn K d 231 2 [some (.ref l0), some (.int l1)] [] G) := by
  unfold t_231_2
  refine g_iload ((q_231 _).trans rfl) rfl ?_
  refine g_aload ((q_231 _).trans rfl) rfl ?_
  refine g_getR ((q_231 _).trans rfl) (fun a1 => ?_)
  refine g_callV (kk := 0) ((q_231 _).trans rfl) (gHn m_231) rfl (by exact ⟨Nat.le_of_ble_eq_true rfl, rfl⟩) rfl (fun w G2 => gm_I (fun v3 hw => ?_))
  subst hw
  refine g_cmpge ((q_231 _).trans rfl) (fun _ => ?_) (fun _ => ?_)
  · refine g_push ((q_231 _).trans rfl) ?_
    exact g_zret ((q_231 _).trans rfl)
  · refine g_aload ((q_231 _).trans rfl) rfl ?_
    refine g_aload ((q_231 _).trans rfl) rfl ?_
    refine g_getR ((q_231 _).trans rfl) (fun a4 => ?_)
    refine g_iload ((q_231 _).trans rfl) rfl ?_
    refine g_callV (kk := 1) ((q_231 _).trans rfl) (gHn m_231) rfl (by exact ⟨Nat.le_of_ble_eq_true rfl, rfl⟩) rfl (fun w G5 => gm_I (fun v6 hw => ?_))
    subst hw
    refine g_aload ((q_231 _).trans rfl) rfl ?_
    refine g_getR ((q_231 _).trans rfl) (fun a7 => ?_)
    refine g_iload ((q_231 _).trans rfl) rfl ?_
    refine g_callV (kk := 1) ((q_231 _).trans rfl) (gHn m_231) rfl (by exact ⟨Nat.le_of_ble_eq_true rfl, rfl⟩) rfl (fun w G8 => gm_I (fun v9 hw => ?_))
    subst hw
    refine g_callV (kk := 2) ((q_231 _).trans rfl) (gHn m_231) rfl (by exact ⟨Nat.le_of_ble_eq_true rfl, rfl⟩) rfl (fun w G10 => gm_I (fun v11 hw => ?_))
    subst hw
    refine g_ifeq ((q_231 _).trans rfl) (fun _ => ?_) (fun _ => ?_)
    · refine g_iinc ((q_231 _).trans rfl) rfl ?_
      refine g_goto ((q_231 _).trans rfl) ?_
      exact gle.rf _
    · refine g_push ((q_231 _).trans rfl) ?_
      exact g_zret ((q_231 _).trans rfl)
theorem q_232 {K : gK} (pc : Nat) : gP K 232 pc = ((gL_232 K).lookup pc).getD o_none := rfl
noncomputable def t_232_0 (K : gK) (d : Nat) (l0 : Nat) (G : gH) : Option gO := gRn K d 232 2 [some (.ref l0), some (.int (0 : Int32))] [] G
theorem e_232_0 {K : gK} {d : Nat} {l0 : Nat} {G : gH} : gle (t_232_0 K d l0 G) (gRn K d 232 0 [some (.ref l0), none] [] G) := by
  unfold t_232_0
  refine g_push ((q_232 _).trans rfl) ?_
  refine g_istore ((q_232 _).trans rfl) ?_
  exact gle.rf _
theorem c_232 {K : gK} {d : Nat} {l0 : Nat} {G : gH} : gle (t_232_0 K d l0 G) (gCa K (d + 1) 232 [.ref l0] G) := by
  have h : gent (gMx 232) [.ref l0] = [some (.ref l0), none] := by
    show gent (gT 232).2.2.2.1 _ = _
    rw [m_232]; rfl
  exact fun r e => (congrArg (fun q => gRn K d 232 0 q [] G) h).trans (e_232_0 r e)
noncomputable def t_232_2_1 (K : gK) (d : Nat) (l0 : Nat) (l1 : Int32) (v14 : Int32) (G13 : gH) : Option gO := if v14 = ((-1) : Int32) then (gRn K d 232 2 [some (.ref l0), some (.int (l1 + 1))] [] G13) else (if narrow .boolean (.int (1 : Int32)) = .int (1 : Int32) then some (.inl (some (.int (1 : Int32))), G13) else none)
noncomputable def t_232_2_2 (K : gK) (d : Nat) (l0 : Nat) (v8 : Int32) (l1 : Int32) (v12 : Int32) (G11 : gH) : Option gO := if g_cls G11 l0 = some 2 then (cI (gCa K d 152 [.ref l0, .int v8, .int v12] G11) (t_232_2_1 K d l0 l1)) else none
noncomputable def t_232_2_3 (K : gK) (d : Nat) (G7 : gH) (l1 : Int32) (l0 : Nat) (v8 : Int32) (a10 : Nat) : Option gO := if g_cls G7 a10 = some 1 then (cI (gCa K d 235 [.ref a10, .int l1] G7) (t_232_2_2 K d l0 v8 l1)) else none
noncomputable def t_232_2_4 (K : gK) (d : Nat) (G7 : gH) (l1 : Int32) (l0 : Nat) (v8 : Int32) (a9 : Nat) : Option gO := rR G7 a9 0 5 (t_232_2_3 K d G7 l1 l0 v8)
noncomputable def t_232_2_5 (K : gK) (d : Nat) (l0 : Nat) (l1 : Int32) (v8 : Int32) (G7 : gH) : Option gO := rR G7 l0 2 3 (t_232_2_4 K d G7 l1 l0 v8)
noncomputable def t_232_2_6 (K : gK) (d : Nat) (G3 : gH) (l1 : Int32) (l0 : Nat) (a6 : Nat) : Option gO := if g_cls G3 a6 = some 1 then (cI (gCa K d 234 [.ref a6, .int l1] G3) (t_232_2_5 K d l0 l1)) else none
noncomputable def t_232_2_7 (K : gK) (d : Nat) (G3 : gH) (l1 : Int32) (l0 : Nat) (a5 : Nat) : Option gO := rR G3 a5 0 5 (t_232_2_6 K d G3 l1 l0)
noncomputable def t_232_2_8 (K : gK) (d : Nat) (l1 : Int32) (l0 : Nat) (v4 : Int32) (G3 : gH) : Option gO := if v4 ≤ l1 then (if narrow .boolean (.int (0 : Int32)) = .int (0 : Int32) then some (.inl (some (.int (0 : Int32))), G3) else none) else (rR G3 l0 2 3 (t_232_2_7 K d G3 l1 l0))
noncomputable def t_232_2_9 (K : gK) (d : Nat) (G : gH) (l1 : Int32) (l0 : Nat) (a2 : Nat) : Option gO := if g_cls G a2 = some 1 then (cI (gCa K d 228 [.ref a2] G) (t_232_2_8 K d l1 l0)) else none
noncomputable def t_232_2_10 (K : gK) (d : Nat) (G : gH) (l1 : Int32) (l0 : Nat) (a1 : Nat) : Option gO := rR G a1 0 5 (t_232_2_9 K d G l1 l0)
noncomputable def t_232_2 (K : gK) (d : Nat) (l0 : Nat) (l1 : Int32) (G : gH) : Option gO := rR G l0 2 3 (t_232_2_10 K d G l1 l0)
theorem e_232_2 {K : gK} {d : Nat} {l0 : Nat} {l1 : Int32} {G : gH} : gle (t_232_2 K d l0 l1 G) (gRn K d 232 2 [some (.ref l0), some (.int l1)] [] G) := by
  unfold t_232_2
  refine g_iload ((q_232 _).trans rfl) rfl ?_
  refine g_aload ((q_232 _).trans rfl) rfl ?_
  refine g_getR ((q_232 _).trans rfl) (fun a1 => ?_)
  refine g_getR ((q_232 _).trans rfl) (fun a2 => ?_)
  refine g_callV (kk := 0) ((q_232 _).trans rfl) (gHn m_232) rfl (by exact ⟨Nat.le_of_ble_eq_true rfl, rfl⟩) rfl (fun w G3 => gm_I (fun v4 hw => ?_))
  subst hw
  refine g_cmpge ((q_232 _).trans rfl) (fun _ => ?_) (fun _ => ?_)
  · refine g_push ((q_232 _).trans rfl) ?_
    exact g_zret ((q_232 _).trans rfl)
  · refine g_aload ((q_232 _).trans rfl) rfl ?_
    refine g_aload ((q_232 _).trans rfl) rfl ?_
    refine g_getR ((q_232 _).trans rfl) (fun a5 => ?_)
    refine g_getR ((q_232 _).trans rfl) (fun a6 => ?_)
    refine g_iload ((q_232 _).trans rfl) rfl ?_
    refine g_callV (kk := 1) ((q_232 _).trans rfl) (gHn m_232) rfl (by exact ⟨Nat.le_of_ble_eq_true rfl, rfl⟩) rfl (fun w G7 => gm_I (fun v8 hw => ?_))
    subst hw
    refine g_aload ((q_232 _).trans rfl) rfl ?_
    refine g_getR ((q_232 _).trans rfl) (fun a9 => ?_)
    refine g_getR ((q_232 _).trans rfl) (fun a10 => ?_)
    refine g_iload ((q_232 _).trans rfl) rfl ?_
    refine g_callV (kk := 1) ((q_232 _).trans rfl) (gHn m_232) rfl (by exact ⟨Nat.le_of_ble_eq_true rfl, rfl⟩) rfl (fun w G11 => gm_I (fun v12 hw => ?_))
    subst hw
    refine g_callV (kk := 2) ((q_232 _).trans rfl) (gHn m_232) rfl (by exact ⟨Nat.le_of_ble_eq_true rfl, rfl⟩) rfl (fun w G13 => gm_I (fun v14 hw => ?_))
    subst hw
    refine g_push ((q_232 _).trans rfl) ?_
    refine g_cmpeq ((q_232 _).trans rfl) (fun _ => ?_) (fun _ => ?_)
    · refine g_iinc ((q_232 _).trans rfl) rfl ?_
      refine g_goto ((q_232 _).trans rfl) ?_
      exact gle.rf _
    · refine g_push ((q_232 _).trans rfl) ?_
      exact g_zret ((q_232 _).trans rfl)
theorem q_233 {K : gK} (pc : Nat) : gP K 233 pc = ((gL_233 K).lookup pc).getD o_none := rfl
noncomputable def t_233_0_1 (K : gK) (d : Nat) (v14 : Int32) (v16 : Int32) (G15 : gH) : Option gO := if v14 = v16 then (if narrow .boolean (.int (1 : Int32)) = .int (1 : Int32) then some (.inl (some (.int (1 : Int32))), G15) else none) else (if narrow .boolean (.int (0 : Int32)) = .int (0 : Int32) then some (.inl (some (.int (0 : Int32))), G15) else none)
noncomputable def t_233_0_2 (K : gK) (d : Nat) (G1 : gH) (l0 : Nat) (v14 : Int32) : Option gO := if g_cls G1 l0 = some 2 then (cI (gCa K d 238 [.ref l0] G1) (t_233_0_1 K d v14)) else none
noncomputable def t_233_0_3 (K : gK) (d : Nat) (G1 : gH) (a9 : Nat) (l0 : Nat) (v13 : Int32) : Option gO := xI G1 a9 0 v13 (t_233_0_2 K d G1 l0)
noncomputable def t_233_0_4 (K : gK) (d : Nat) (G1 : gH) (a9 : Nat) (l0 : Nat) (a12 : Nat) : Option gO := rI G1 a12 4 3 (t_233_0_3 K d G1 a9 l0)
noncomputable def t_233_0_5 (K : gK) (d : Nat) (G1 : gH) (a9 : Nat) (l0 : Nat) (a11 : Nat) : Option gO := rR G1 a11 1 0 (t_233_0_4 K d G1 a9 l0)
noncomputable def t_233_0_6 (K : gK) (d : Nat) (G1 : gH) (a9 : Nat) (l0 : Nat) (a10 : Nat) : Option gO := rR G1 a10 0 5 (t_233_0_5 K d G1 a9 l0)
noncomputable def t_233_0_7 (K : gK) (d : Nat) (G1 : gH) (l0 : Nat) (a9 : Nat) : Option gO := rR G1 l0 2 3 (t_233_0_6 K d G1 a9 l0)
noncomputable def t_233_0_8 (K : gK) (d : Nat) (G1 : gH) (l0 : Nat) (v8 : Int32) : Option gO := if v8 = ((-1) : Int32) then (if narrow .boolean (.int (1 : Int32)) = .int (1 : Int32) then some (.inl (some (.int (1 : Int32))), G1) else none) else (rR G1 l0 2 1 (t_233_0_7 K d G1 l0))
noncomputable def t_233_0_9 (K : gK) (d : Nat) (G1 : gH) (a3 : Nat) (l0 : Nat) (v7 : Int32) : Option gO := xI G1 a3 0 v7 (t_233_0_8 K d G1 l0)
noncomputable def t_233_0_10 (K : gK) (d : Nat) (G1 : gH) (a3 : Nat) (l0 : Nat) (a6 : Nat) : Option gO := rI G1 a6 4 3 (t_233_0_9 K d G1 a3 l0)
noncomputable def t_233_0_11 (K : gK) (d : Nat) (G1 : gH) (a3 : Nat) (l0 : Nat) (a5 : Nat) : Option gO := rR G1 a5 1 0 (t_233_0_10 K d G1 a3 l0)
noncomputable def t_233_0_12 (K : gK) (d : Nat) (G1 : gH) (a3 : Nat) (l0 : Nat) (a4 : Nat) : Option gO := rR G1 a4 0 5 (t_233_0_11 K d G1 a3 l0)
noncomputable def t_233_0_13 (K : gK) (d : Nat) (G1 : gH) (l0 : Nat) (a3 : Nat) : Option gO := rR G1 l0 2 3 (t_233_0_12 K d G1 a3 l0)
noncomputable def t_233_0_14 (K : gK) (d : Nat) (l0 : Nat) (v2 : Int32) (G1 : gH) : Option gO := if v2 = 0 then (if narrow .boolean (.int (1 : Int32)) = .int (1 : Int32) then some (.inl (some (.int (1 : Int32))), G1) else none) else (rR G1 l0 2 1 (t_233_0_13 K d G1 l0))
noncomputable def t_233_0 (K : gK) (d : Nat) (l0 : Nat) (G : gH) : Option gO := if g_cls G l0 = some 2 then (cI (gCa K d 237 [.ref l0] G) (t_233_0_14 K d l0)) else none
theorem e_233_0 {K : gK} {d : Nat} {l0 : Nat} {G : gH} : gle (t_233_0 K d l0 G) (gRn K d 233 0 [some (.ref l0)] [] G) := by
  unfold t_233_0
  refine g_aload ((q_233 _).trans rfl) rfl ?_
  refine g_callV (kk := 0) ((q_233 _).trans rfl) (gHn m_233) rfl (by exact ⟨Nat.le_of_ble_eq_true rfl, rfl⟩) rfl (fun w G1 => gm_I (fun v2 hw => ?_))
  subst hw
  refine g_ifeq ((q_233 _).trans rfl) (fun _ => ?_) (fun _ => ?_)
  · refine g_push ((q_233 _).trans rfl) ?_
    refine g_goto ((q_233 _).trans rfl) ?_
    exact g_zret ((q_233 _).trans rfl)
  · refine g_aload ((q_233 _).trans rfl) rfl ?_
    refine g_getR ((q_233 _).trans rfl) (fun a3 => ?_)
    refine g_aload ((q_233 _).trans rfl) rfl ?_
    refine g_getR ((q_233 _).trans rfl) (fun a4 => ?_)
    refine g_getR ((q_233 _).trans rfl) (fun a5 => ?_)
    refine g_getR ((q_233 _).trans rfl) (fun a6 => ?_)
    refine g_getI ((q_233 _).trans rfl) (fun v7 => ?_)
    refine g_iald ((q_233 _).trans rfl) (fun v8 => ?_)
    refine g_push ((q_233 _).trans rfl) ?_
    refine g_cmpeq ((q_233 _).trans rfl) (fun _ => ?_) (fun _ => ?_)
    · refine g_push ((q_233 _).trans rfl) ?_
      refine g_goto ((q_233 _).trans rfl) ?_
      exact g_zret ((q_233 _).trans rfl)
    · refine g_aload ((q_233 _).trans rfl) rfl ?_
      refine g_getR ((q_233 _).trans rfl) (fun a9 => ?_)
      refine g_aload ((q_233 _).trans rfl) rfl ?_
      refine g_getR ((q_233 _).trans rfl) (fun a10 => ?_)
      refine g_getR ((q_233 _).trans rfl) (fun a11 => ?_)
      refine g_getR ((q_233 _).trans rfl) (fun a12 => ?_)
      refine g_getI ((q_233 _).trans rfl) (fun v13 => ?_)
      refine g_iald ((q_233 _).trans rfl) (fun v14 => ?_)
      refine g_aload ((q_233 _).trans rfl) rfl ?_
      refine g_callV (kk := 0) ((q_233 _).trans rfl) (gHn m_233) rfl (by exact ⟨Nat.le_of_ble_eq_true rfl, rfl⟩) rfl (fun w G15 => gm_I (fun v16 hw => ?_))
      subst hw
      refine g_cmpne ((q_233 _).trans rfl) (fun _ => ?_) (fun _ => ?_)
      · refine g_push ((q_233 _).trans rfl) ?_
        refine g_goto ((q_233 _).trans rfl) ?_
        exact g_zret ((q_233 _).trans rfl)
      · refine g_push ((q_233 _).trans rfl) ?_
        exact g_zret ((q_233 _).trans rfl)
theorem c_233 {K : gK} {d : Nat} {l0 : Nat} {G : gH} : gle (t_233_0 K d l0 G) (gCa K (d + 1) 233 [.ref l0] G) := by
  have h : gent (gMx 233) [.ref l0] = [some (.ref l0)] := by
    show gent (gT 233).2.2.2.1 _ = _
    rw [m_233]; rfl
  exact fun r e => (congrArg (fun q => gRn K d 233 0 q [] G) h).trans (e_233_0 r e)
theorem q_234 {K : gK} (pc : Nat) : gP K 234 pc = ((gL_234 K).lookup pc).getD o_none := rfl
noncomputable def t_234_0_1 (K : gK) (d : Nat) (v1 : Int32) (G2 : gH) (v5 : Int32) : Option gO := some (.inl (some (.int (v1 + v5))), G2)
noncomputable def t_234_0_2 (K : gK) (d : Nat) (G2 : gH) (l1 : Int32) (v1 : Int32) (a4 : Nat) : Option gO := xI G2 a4 0 l1 (t_234_0_1 K d v1 G2)
noncomputable def t_234_0_3 (K : gK) (d : Nat) (l1 : Int32) (v1 : Int32) (a3 : Nat) (G2 : gH) : Option gO := rR G2 a3 6 0 (t_234_0_2 K d G2 l1 v1)
noncomputable def t_234_0_4 (K : gK) (d : Nat) (G : gH) (l0 : Nat) (l1 : Int32) (v1 : Int32) : Option gO := if g_cls G l0 = some 1 then (cR (gCa K d 248 [.ref l0] G) (t_234_0_3 K d l1 v1)) else none
noncomputable def t_234_0 (K : gK) (d : Nat) (l0 : Nat) (l1 : Int32) (G : gH) : Option gO := rI G l0 1 3 (t_234_0_4 K d G l0 l1)
theorem e_234_0 {K : gK} {d : Nat} {l0 : Nat} {l1 : Int32} {G : gH} : gle (t_234_0 K d l0 l1 G) (gRn K d 234 0 [some (.ref l0), some (.int l1)] [] G) := by
  unfold t_234_0
  refine g_aload ((q_234 _).trans rfl) rfl ?_
  refine g_getI ((q_234 _).trans rfl) (fun v1 => ?_)
  refine g_aload ((q_234 _).trans rfl) rfl ?_
  refine g_callV (kk := 0) ((q_234 _).trans rfl) (gHn m_234) rfl (by exact ⟨Nat.le_of_ble_eq_true rfl, rfl⟩) rfl (fun w G2 => gm_R (fun a3 hw => ?_))
  subst hw
  refine g_getR ((q_234 _).trans rfl) (fun a4 => ?_)
  refine g_iload ((q_234 _).trans rfl) rfl ?_
  refine g_iald ((q_234 _).trans rfl) (fun v5 => ?_)
  refine g_iadd ((q_234 _).trans rfl) ?_
  exact g_iret ((q_234 _).trans rfl)
theorem c_234 {K : gK} {d : Nat} {l0 : Nat} {l1 : Int32} {G : gH} : gle (t_234_0 K d l0 l1 G) (gCa K (d + 1) 234 [.ref l0, .int l1] G) := by
  have h : gent (gMx 234) [.ref l0, .int l1] = [some (.ref l0), some (.int l1)] := by
    show gent (gT 234).2.2.2.1 _ = _
    rw [m_234]; rfl
  exact fun r e => (congrArg (fun q => gRn K d 234 0 q [] G) h).trans (e_234_0 r e)
theorem q_235 {K : gK} (pc : Nat) : gP K 235 pc = ((gL_235 K).lookup pc).getD o_none := rfl
noncomputable def t_235_0_1 (K : gK) (d : Nat) (v1 : Int32) (G2 : gH) (v5 : Int32) : Option gO := some (.inl (some (.int (v1 + v5))), G2)
noncomputable def t_235_0_2 (K : gK) (d : Nat) (G2 : gH) (l1 : Int32) (v1 : Int32) (a4 : Nat) : Option gO := xI G2 a4 0 l1 (t_235_0_1 K d v1 G2)
noncomputable def t_235_0_3 (K : gK) (d : Nat) (l1 : Int32) (v1 : Int32) (a3 : Nat) (G2 : gH) : Option gO := rR G2 a3 6 1 (t_235_0_2 K d G2 l1 v1)
noncomputable def t_235_0_4 (K : gK) (d : Nat) (G : gH) (l0 : Nat) (l1 : Int32) (v1 : Int32) : Option gO := if g_cls G l0 = some 1 then (cR (gCa K d 248 [.ref l0] G) (t_235_0_3 K d l1 v1)) else none
noncomputable def t_235_0 (K : gK) (d : Nat) (l0 : Nat) (l1 : Int32) (G : gH) : Option gO := rI G l0 1 4 (t_235_0_4 K d G l0 l1)
theorem e_235_0 {K : gK} {d : Nat} {l0 : Nat} {l1 : Int32} {G : gH} : gle (t_235_0 K d l0 l1 G) (gRn K d 235 0 [some (.ref l0), some (.int l1)] [] G) := by
  unfold t_235_0
  refine g_aload ((q_235 _).trans rfl) rfl ?_
  refine g_getI ((q_235 _).trans rfl) (fun v1 => ?_)
  refine g_aload ((q_235 _).trans rfl) rfl ?_
  refine g_callV (kk := 0) ((q_235 _).trans rfl) (gHn m_235) rfl (by exact ⟨Nat.le_of_ble_eq_true rfl, rfl⟩) rfl (fun w G2 => gm_R (fun a3 hw => ?_))
  subst hw
  refine g_getR ((q_235 _).trans rfl) (fun a4 => ?_)
  refine g_iload ((q_235 _).trans rfl) rfl ?_
  refine g_iald ((q_235 _).trans rfl) (fun v5 => ?_)
  refine g_iadd ((q_235 _).trans rfl) ?_
  exact g_iret ((q_235 _).trans rfl)
theorem c_235 {K : gK} {d : Nat} {l0 : Nat} {l1 : Int32} {G : gH} : gle (t_235_0 K d l0 l1 G) (gCa K (d + 1) 235 [.ref l0, .int l1] G) := by
  have h : gent (gMx 235) [.ref l0, .int l1] = [some (.ref l0), some (.int l1)] := by
    show gent (gT 235).2.2.2.1 _ = _
    rw [m_235]; rfl
  exact fun r e => (congrArg (fun q => gRn K d 235 0 q [] G) h).trans (e_235_0 r e)
theorem q_236 {K : gK} (pc : Nat) : gP K 236 pc = ((gL_236 K).lookup pc).getD o_none := rfl
noncomputable def t_236_0 (K : gK) (d : Nat) (l0 : Int32) (l1 : Int32) (G : gH) : Option gO := if l0 < l1 then (some (.inl (some (.int l1)), G)) else (some (.inl (some (.int l0)), G))
theorem e_236_0 {K : gK} {d : Nat} {l0 : Int32} {l1 : Int32} {G : gH} : gle (t_236_0 K d l0 l1 G) (gRn K d 236 0 [some (.int l0), some (.int l1)] [] G) := by
  unfold t_236_0
  refine g_iload ((q_236 _).trans rfl) rfl ?_
  refine g_iload ((q_236 _).trans rfl) rfl ?_
  refine g_cmplt ((q_236 _).trans rfl) (fun _ => ?_) (fun _ => ?_)
  · refine g_iload ((q_236 _).trans rfl) rfl ?_
    exact g_iret ((q_236 _).trans rfl)
  · refine g_iload ((q_236 _).trans rfl) rfl ?_
    refine g_goto ((q_236 _).trans rfl) ?_
    exact g_iret ((q_236 _).trans rfl)
theorem c_236 {K : gK} {d : Nat} {l0 : Int32} {l1 : Int32} {G : gH} : gle (t_236_0 K d l0 l1 G) (gCa K (d + 1) 236 [.int l0, .int l1] G) := by
  have h : gent (gMx 236) [.int l0, .int l1] = [some (.int l0), some (.int l1)] := by
    show gent (gT 236).2.2.2.1 _ = _
    rw [m_236]; rfl
  exact fun r e => (congrArg (fun q => gRn K d 236 0 q [] G) h).trans (e_236_0 r e)
theorem q_237 {K : gK} (pc : Nat) : gP K 237 pc = ((gL_237 K).lookup pc).getD o_none := rfl
noncomputable def t_237_0_1 (K : gK) (d : Nat) (G : gH) (v6 : Int32) : Option gO := if v6 = ((-1) : Int32) then (if narrow .boolean (.int (0 : Int32)) = .int (0 : Int32) then some (.inl (some (.int (0 : Int32))), G) else none) else (if narrow .boolean (.int (1 : Int32)) = .int (1 : Int32) then some (.inl (some (.int (1 : Int32))), G) else none)
noncomputable def t_237_0_2 (K : gK) (d : Nat) (G : gH) (a5 : Nat) : Option gO := rI G a5 4 3 (t_237_0_1 K d G)
noncomputable def t_237_0_3 (K : gK) (d : Nat) (G : gH) (a4 : Nat) : Option gO := rR G a4 1 0 (t_237_0_2 K d G)
noncomputable def t_237_0_4 (K : gK) (d : Nat) (G : gH) (a3 : Nat) : Option gO := rR G a3 0 5 (t_237_0_3 K d G)
noncomputable def t_237_0_5 (K : gK) (d : Nat) (G : gH) (l0 : Nat) (v2 : Int32) : Option gO := if v2 < (2 : Int32) then (if narrow .boolean (.int (0 : Int32)) = .int (0 : Int32) then some (.inl (some (.int (0 : Int32))), G) else none) else (rR G l0 2 3 (t_237_0_4 K d G))
noncomputable def t_237_0_6 (K : gK) (d : Nat) (G : gH) (l0 : Nat) (a1 : Nat) : Option gO := rI G a1 0 11 (t_237_0_5 K d G l0)
noncomputable def t_237_0 (K : gK) (d : Nat) (l0 : Nat) (G : gH) : Option gO := rR G l0 2 3 (t_237_0_6 K d G l0)
theorem e_237_0 {K : gK} {d : Nat} {l0 : Nat} {G : gH} : gle (t_237_0 K d l0 G) (gRn K d 237 0 [some (.ref l0)] [] G) := by
  unfold t_237_0
  refine g_aload ((q_237 _).trans rfl) rfl ?_
  refine g_getR ((q_237 _).trans rfl) (fun a1 => ?_)
  refine g_getI ((q_237 _).trans rfl) (fun v2 => ?_)
  refine g_push ((q_237 _).trans rfl) ?_
  refine g_cmplt ((q_237 _).trans rfl) (fun _ => ?_) (fun _ => ?_)
  · refine g_push ((q_237 _).trans rfl) ?_
    exact g_zret ((q_237 _).trans rfl)
  · refine g_aload ((q_237 _).trans rfl) rfl ?_
    refine g_getR ((q_237 _).trans rfl) (fun a3 => ?_)
    refine g_getR ((q_237 _).trans rfl) (fun a4 => ?_)
    refine g_getR ((q_237 _).trans rfl) (fun a5 => ?_)
    refine g_getI ((q_237 _).trans rfl) (fun v6 => ?_)
    refine g_push ((q_237 _).trans rfl) ?_
    refine g_cmpeq ((q_237 _).trans rfl) (fun _ => ?_) (fun _ => ?_)
    · refine g_push ((q_237 _).trans rfl) ?_
      exact g_zret ((q_237 _).trans rfl)
    · refine g_push ((q_237 _).trans rfl) ?_
      refine g_goto ((q_237 _).trans rfl) ?_
      exact g_zret ((q_237 _).trans rfl)
theorem c_237 {K : gK} {d : Nat} {l0 : Nat} {G : gH} : gle (t_237_0 K d l0 G) (gCa K (d + 1) 237 [.ref l0] G) := by
  have h : gent (gMx 237) [.ref l0] = [some (.ref l0)] := by
    show gent (gT 237).2.2.2.1 _ = _
    rw [m_237]; rfl
  exact fun r e => (congrArg (fun q => gRn K d 237 0 q [] G) h).trans (e_237_0 r e)
theorem q_238 {K : gK} (pc : Nat) : gP K 238 pc = ((gL_238 K).lookup pc).getD o_none := rfl
noncomputable def t_238_0_1 (K : gK) (d : Nat) (v8 : Int32) (G7 : gH) : Option gO := some (.inl (some (.int v8)), G7)
noncomputable def t_238_0_2 (K : gK) (d : Nat) (v4 : Int32) (G3 : gH) (v6 : Int32) : Option gO := cI (gCa K d 250 [.int v4, .int v6] G3) (t_238_0_1 K d)
noncomputable def t_238_0_3 (K : gK) (d : Nat) (G3 : gH) (v4 : Int32) (a5 : Nat) : Option gO := rI G3 a5 0 11 (t_238_0_2 K d v4 G3)
noncomputable def t_238_0_4 (K : gK) (d : Nat) (l0 : Nat) (v4 : Int32) (G3 : gH) : Option gO := rR G3 l0 2 3 (t_238_0_3 K d G3 v4)
noncomputable def t_238_0_5 (K : gK) (d : Nat) (G : gH) (l0 : Nat) (a2 : Nat) : Option gO := if g_cls G a2 = some 1 then (cI (gCa K d 249 [.ref a2] G) (t_238_0_4 K d l0)) else none
noncomputable def t_238_0_6 (K : gK) (d : Nat) (G : gH) (l0 : Nat) (a1 : Nat) : Option gO := rR G a1 0 5 (t_238_0_5 K d G l0)
noncomputable def t_238_0 (K : gK) (d : Nat) (l0 : Nat) (G : gH) : Option gO := rR G l0 2 3 (t_238_0_6 K d G l0)
theorem e_238_0 {K : gK} {d : Nat} {l0 : Nat} {G : gH} : gle (t_238_0 K d l0 G) (gRn K d 238 0 [some (.ref l0)] [] G) := by
  unfold t_238_0
  refine g_aload ((q_238 _).trans rfl) rfl ?_
  refine g_getR ((q_238 _).trans rfl) (fun a1 => ?_)
  refine g_getR ((q_238 _).trans rfl) (fun a2 => ?_)
  refine g_callV (kk := 0) ((q_238 _).trans rfl) (gHn m_238) rfl (by exact ⟨Nat.le_of_ble_eq_true rfl, rfl⟩) rfl (fun w G3 => gm_I (fun v4 hw => ?_))
  subst hw
  refine g_aload ((q_238 _).trans rfl) rfl ?_
  refine g_getR ((q_238 _).trans rfl) (fun a5 => ?_)
  refine g_getI ((q_238 _).trans rfl) (fun v6 => ?_)
  refine g_callS (kk := 2) ((q_238 _).trans rfl) (gHn m_238) (by exact ⟨Nat.le_of_ble_eq_true rfl, Nat.le_of_ble_eq_true rfl, rfl⟩) rfl (fun w G7 => gm_I (fun v8 hw => ?_))
  subst hw
  exact g_iret ((q_238 _).trans rfl)
theorem c_238 {K : gK} {d : Nat} {l0 : Nat} {G : gH} : gle (t_238_0 K d l0 G) (gCa K (d + 1) 238 [.ref l0] G) := by
  have h : gent (gMx 238) [.ref l0] = [some (.ref l0)] := by
    show gent (gT 238).2.2.2.1 _ = _
    rw [m_238]; rfl
  exact fun r e => (congrArg (fun q => gRn K d 238 0 q [] G) h).trans (e_238_0 r e)
theorem q_239 {K : gK} (pc : Nat) : gP K 239 pc = ((gL_239 K).lookup pc).getD o_none := rfl
noncomputable def t_239_0 (K : gK) (d : Nat) (l0 : Int32) (l1 : Int32) (G : gH) : Option gO := if l0 < 0 then (none) else (if l0 < l1 then (some (.inl (some (.int l0)), G)) else (none))
theorem e_239_0 {K : gK} {d : Nat} {l0 : Int32} {l1 : Int32} {G : gH} : gle (t_239_0 K d l0 l1 G) (gRn K d 239 0 [some (.int l0), some (.int l1), some (.null)] [] G) := by
  unfold t_239_0
  refine g_iload ((q_239 _).trans rfl) rfl ?_
  refine g_iflt ((q_239 _).trans rfl) (fun _ => ?_) (fun _ => ?_)
  · refine g_aloadN ((q_239 _).trans rfl) rfl ?_
    refine g_iload ((q_239 _).trans rfl) rfl ?_
    refine g_iload ((q_239 _).trans rfl) rfl ?_
    exact gle.no
  · refine g_iload ((q_239 _).trans rfl) rfl ?_
    refine g_iload ((q_239 _).trans rfl) rfl ?_
    refine g_cmplt ((q_239 _).trans rfl) (fun _ => ?_) (fun _ => ?_)
    · refine g_iload ((q_239 _).trans rfl) rfl ?_
      exact g_iret ((q_239 _).trans rfl)
    · refine g_aloadN ((q_239 _).trans rfl) rfl ?_
      refine g_iload ((q_239 _).trans rfl) rfl ?_
      refine g_iload ((q_239 _).trans rfl) rfl ?_
      exact gle.no
theorem c_239 {K : gK} {d : Nat} {l0 : Int32} {l1 : Int32} {G : gH} : gle (t_239_0 K d l0 l1 G) (gCa K (d + 1) 239 [.int l0, .int l1, .null] G) := by
  have h : gent (gMx 239) [.int l0, .int l1, .null] = [some (.int l0), some (.int l1), some (.null)] := by
    show gent (gT 239).2.2.2.1 _ = _
    rw [m_239]; rfl
  exact fun r e => (congrArg (fun q => gRn K d 239 0 q [] G) h).trans (e_239_0 r e)
theorem q_240 {K : gK} (pc : Nat) : gP K 240 pc = ((gL_240 K).lookup pc).getD o_none := rfl
noncomputable def t_240_0 (K : gK) (d : Nat) (l0 : Nat) (l1 : Nat) (l2 : Int32) (l3 : Int32) (G : gH) : Option gO := gRn K d 240 3 [some (.ref l0), some (.ref l1), some (.int l2), some (.int l3), some (.int (0 : Int32))] [] G
theorem e_240_0 {K : gK} {d : Nat} {l0 : Nat} {l1 : Nat} {l2 : Int32} {l3 : Int32} {G : gH} : gle (t_240_0 K d l0 l1 l2 l3 G) (gRn K d 240 0 [some (.ref l0), some (.ref l1), some (.int l2), some (.int l3), none] [] G) := by
  unfold t_240_0
  refine g_push ((q_240 _).trans rfl) ?_
  refine g_istore ((q_240 _).trans rfl) ?_
  exact gle.rf _
theorem c_240 {K : gK} {d : Nat} {l0 : Nat} {l1 : Nat} {l2 : Int32} {l3 : Int32} {G : gH} : gle (t_240_0 K d l0 l1 l2 l3 G) (gCa K (d + 1) 240 [.ref l0, .ref l1, .int l2, .int l3] G) := by
  have h : gent (gMx 240) [.ref l0, .ref l1, .int l2, .int l3] = [some (.ref l0), some (.ref l1), some (.int l2), some (.int l3), none] := by
    show gent (gT 240).2.2.2.1 _ = _
    rw [m_240]; rfl
  exact fun r e => (congrArg (fun q => gRn K d 240 0 q [] G) h).trans (e_240_0 r e)
noncomputable def t_240_3_1 (K : gK) (d : Nat) (l0 : Nat) (l1 : Nat) (l2 : Int32) (l3 : Int32) (l4 : Int32) (v4 : Int32) (G3 : gH) : Option gO := gRn K d 240 3 [some (.ref l0), some (.ref l1), some (.int l2), some (.int l3), some (.int (l4 + 1))] [] G3
noncomputable def t_240_3_2 (K : gK) (d : Nat) (l0 : Nat) (G : gH) (l1 : Nat) (l2 : Int32) (l3 : Int32) (l4 : Int32) (G1 : gH) : Option gO := if g_cls G1 l0 = some 12 then (cI (gCa K d 156 [.ref l0, .ref (G.2.1)] G1) (t_240_3_1 K d l0 l1 l2 l3 l4)) else none
noncomputable def t_240_3 (K : gK) (d : Nat) (l0 : Nat) (l1 : Nat) (l2 : Int32) (l3 : Int32) (l4 : Int32) (G : gH) : Option gO := if l3 ≤ l4 then (some (.inl none, G)) else (cV (gCa K d 251 [.ref (G.2.1), .ref l1, .int l2] (gnew G (.inr (10, [.null, .int 0])) 2)) (t_240_3_2 K d l0 G l1 l2 l3 l4))
theorem e_240_3 {K : gK} {d : Nat} {l0 : Nat} {l1 : Nat} {l2 : Int32} {l3 : Int32} {l4 : Int32} {G : gH} : gle (t_240_3 K d l0 l1 l2 l3 l4 G) (gRn K d 240 3 [some (.ref l0), some (.ref l1), some (.int l2), some (.int l3), some (.int l4)] [] G) := by
  unfold t_240_3
  refine g_iload ((q_240 _).trans rfl) rfl ?_
  refine g_iload ((q_240 _).trans rfl) rfl ?_
  refine g_cmpge ((q_240 _).trans rfl) (fun _ => ?_) (fun _ => ?_)
  · exact g_vret ((q_240 _).trans rfl)
  · refine g_aload ((q_240 _).trans rfl) rfl ?_
    refine g_new ((q_240 _).trans rfl) ?_
    refine g_dup_ref ((q_240 _).trans rfl) ?_
    refine g_aload ((q_240 _).trans rfl) rfl ?_
    refine g_iload ((q_240 _).trans rfl) rfl ?_
    refine g_callI (kk := 2) ((q_240 _).trans rfl) (gHn m_240) rfl (by exact ⟨Nat.le_of_ble_eq_true rfl, rfl⟩) rfl (fun w G1 => gm_V (fun hw => ?_))
    subst hw
    refine g_callV (kk := 1) ((q_240 _).trans rfl) (gHn m_240) rfl (by exact ⟨Nat.le_of_ble_eq_true rfl, rfl⟩) rfl (fun w G3 => gm_I (fun v4 hw => ?_))
    subst hw
    refine g_pop_int ((q_240 _).trans rfl) ?_
    refine g_iinc ((q_240 _).trans rfl) rfl ?_
    refine g_goto ((q_240 _).trans rfl) ?_
    exact gle.rf _
theorem q_241 {K : gK} (pc : Nat) : gP K 241 pc = ((gL_241 K).lookup pc).getD o_none := rfl
noncomputable def t_241_0_1 (K : gK) (d : Nat) (l0 : Nat) (l1 : Int32) (G3 : gH) : Option gO := gRn K d 241 12 [some (.ref l0), some (.int l1), some (.int (0 : Int32)), none] [] G3
noncomputable def t_241_0_2 (K : gK) (d : Nat) (G : gH) (l0 : Nat) (l1 : Int32) (a2 : Nat) : Option gO := if g_cls G a2 = some 2 then (cV (gCa K d 112 [.ref a2] G) (t_241_0_1 K d l0 l1)) else none
noncomputable def t_241_0_3 (K : gK) (d : Nat) (G : gH) (l0 : Nat) (l1 : Int32) (a1 : Nat) : Option gO := rR G a1 0 7 (t_241_0_2 K d G l0 l1)
noncomputable def t_241_0 (K : gK) (d : Nat) (l0 : Nat) (l1 : Int32) (G : gH) : Option gO := rR G l0 11 4 (t_241_0_3 K d G l0 l1)
theorem e_241_0 {K : gK} {d : Nat} {l0 : Nat} {l1 : Int32} {G : gH} : gle (t_241_0 K d l0 l1 G) (gRn K d 241 0 [some (.ref l0), some (.int l1), none, none] [] G) := by
  unfold t_241_0
  refine g_aload ((q_241 _).trans rfl) rfl ?_
  refine g_getR ((q_241 _).trans rfl) (fun a1 => ?_)
  refine g_getR ((q_241 _).trans rfl) (fun a2 => ?_)
  refine g_callV (kk := 0) ((q_241 _).trans rfl) (gHn m_241) rfl (by exact ⟨Nat.le_of_ble_eq_true rfl, rfl⟩) rfl (fun w G3 => gm_V (fun hw => ?_))
  subst hw
  refine g_push ((q_241 _).trans rfl) ?_
  refine g_istore ((q_241 _).trans rfl) ?_
  exact gle.rf _
theorem c_241 {K : gK} {d : Nat} {l0 : Nat} {l1 : Int32} {G : gH} : gle (t_241_0 K d l0 l1 G) (gCa K (d + 1) 241 [.ref l0, .int l1] G) := by
  have h : gent (gMx 241) [.ref l0, .int l1] = [some (.ref l0), some (.int l1), none, none] := by
    show gent (gT 241).2.2.2.1 _ = _
    rw [m_241]; rfl
  exact fun r e => (congrArg (fun q => gRn K d 241 0 q [] G) h).trans (e_241_0 r e)
noncomputable def t_241_12_1 (K : gK) (d : Nat) (G : gH) (v3 : Int32) : Option gO := some (.inl (some (.int v3)), G)
noncomputable def t_241_12_2 (K : gK) (d : Nat) (G : gH) (a2 : Nat) : Option gO := rI G a2 2 2 (t_241_12_1 K d G)
noncomputable def t_241_12_3 (K : gK) (d : Nat) (G : gH) (a1 : Nat) : Option gO := rR G a1 0 7 (t_241_12_2 K d G)
noncomputable def t_241_12_4 (K : gK) (d : Nat) (l0 : Nat) (l1 : Int32) (l2 : Int32) (a8 : Nat) (G22 : gH) : Option gO := gRn K d 241 12 [some (.ref l0), some (.int l1), some (.int (l2 + 1)), some (.ref a8)] [] G22
noncomputable def t_241_12_5 (K : gK) (d : Nat) (G18 : gH) (l2 : Int32) (l0 : Nat) (l1 : Int32) (a8 : Nat) (a21 : Nat) : Option gO := if g_cls G18 a21 = some 2 then (cV (gCa K d 208 [.ref a21, .int l2] G18) (t_241_12_4 K d l0 l1 l2 a8)) else none
noncomputable def t_241_12_6 (K : gK) (d : Nat) (G18 : gH) (l2 : Int32) (l0 : Nat) (l1 : Int32) (a8 : Nat) (a20 : Nat) : Option gO := rR G18 a20 0 7 (t_241_12_5 K d G18 l2 l0 l1 a8)
noncomputable def t_241_12_7 (K : gK) (d : Nat) (l0 : Nat) (l2 : Int32) (l1 : Int32) (a8 : Nat) (v19 : Int32) (G18 : gH) : Option gO := if v19 = 0 then (some (.inl (some (.int (61 : Int32))), G18)) else (rR G18 l0 11 4 (t_241_12_6 K d G18 l2 l0 l1 a8))
noncomputable def t_241_12_8 (K : gK) (d : Nat) (G13 : gH) (a15 : Nat) (l0 : Nat) (l2 : Int32) (l1 : Int32) (a8 : Nat) (a17 : Nat) : Option gO := if g_cls G13 a15 = some 0 then (cI (gCa K d 173 [.ref a15, .ref a17] G13) (t_241_12_7 K d l0 l2 l1 a8)) else none
noncomputable def t_241_12_9 (K : gK) (d : Nat) (G13 : gH) (a15 : Nat) (l0 : Nat) (l2 : Int32) (l1 : Int32) (a8 : Nat) (a16 : Nat) : Option gO := rR G13 a16 0 7 (t_241_12_8 K d G13 a15 l0 l2 l1 a8)
noncomputable def t_241_12_10 (K : gK) (d : Nat) (G13 : gH) (l0 : Nat) (l2 : Int32) (l1 : Int32) (a8 : Nat) (a15 : Nat) : Option gO := rR G13 l0 11 4 (t_241_12_9 K d G13 a15 l0 l2 l1 a8)
noncomputable def t_241_12_11 (K : gK) (d : Nat) (l0 : Nat) (l2 : Int32) (l1 : Int32) (a8 : Nat) (G13 : gH) : Option gO := rR G13 l0 11 4 (t_241_12_10 K d G13 l0 l2 l1 a8)
noncomputable def t_241_12_12 (K : gK) (d : Nat) (G7 : gH) (a10 : Nat) (a11 : Nat) (l0 : Nat) (l2 : Int32) (l1 : Int32) (a8 : Nat) (v12 : Int32) : Option gO := if g_cls G7 a10 = some 1 then (cV (gCa K d 163 [.ref a10, .ref a11, .int v12] G7) (t_241_12_11 K d l0 l2 l1 a8)) else none
noncomputable def t_241_12_13 (K : gK) (d : Nat) (G7 : gH) (a8 : Nat) (a10 : Nat) (l0 : Nat) (l2 : Int32) (l1 : Int32) (a11 : Nat) : Option gO := rI G7 a8 10 1 (t_241_12_12 K d G7 a10 a11 l0 l2 l1 a8)
noncomputable def t_241_12_14 (K : gK) (d : Nat) (G7 : gH) (a8 : Nat) (l0 : Nat) (l2 : Int32) (l1 : Int32) (a10 : Nat) : Option gO := rR G7 a8 10 0 (t_241_12_13 K d G7 a8 a10 l0 l2 l1)
noncomputable def t_241_12_15 (K : gK) (d : Nat) (G7 : gH) (a8 : Nat) (l0 : Nat) (l2 : Int32) (l1 : Int32) (a9 : Nat) : Option gO := rR G7 a9 0 5 (t_241_12_14 K d G7 a8 l0 l2 l1)
noncomputable def t_241_12_16 (K : gK) (d : Nat) (l0 : Nat) (l2 : Int32) (l1 : Int32) (a8 : Nat) (G7 : gH) : Option gO := if g_cls G7 a8 = some 10 then (rR G7 l0 11 4 (t_241_12_15 K d G7 a8 l0 l2 l1)) else none
noncomputable def t_241_12_17 (K : gK) (d : Nat) (G : gH) (a4 : Nat) (l0 : Nat) (l2 : Int32) (l1 : Int32) (v6 : Int32) : Option gO := if g_cls G a4 = some 12 then (cR (gCa K d 178 [.ref a4, .int v6] G) (t_241_12_16 K d l0 l2 l1)) else none
noncomputable def t_241_12_18 (K : gK) (d : Nat) (G : gH) (l2 : Int32) (a4 : Nat) (l0 : Nat) (l1 : Int32) (a5 : Nat) : Option gO := xI G a5 0 l2 (t_241_12_17 K d G a4 l0 l2 l1)
noncomputable def t_241_12_19 (K : gK) (d : Nat) (G : gH) (l0 : Nat) (l2 : Int32) (l1 : Int32) (a4 : Nat) : Option gO := rR G l0 11 2 (t_241_12_18 K d G l2 a4 l0 l1)
noncomputable def t_241_12 (K : gK) (d : Nat) (l0 : Nat) (l1 : Int32) (l2 : Int32) (o3 : Option Value) (G : gH) : Option gO := if l1 ≤ l2 then (rR G l0 11 4 (t_241_12_3 K d G)) else (rR G l0 11 0 (t_241_12_19 K d G l0 l2 l1))
theorem e_241_12 {K : gK} {d : Nat} {l0 : Nat} {l1 : Int32} {l2 : Int32} {o3 : Option Value} {G : gH} : gle (t_241_12 K d l0 l1 l2 o3 G) (gRn K d 241 12 [some (.ref l0), some (.int l1), some (.int l2), o3] [] G) := by
  unfold t_241_12
  refine g_iload ((q_241 _).trans rfl) rfl ?_
  refine g_iload ((q_241 _).trans rfl) rfl ?_
  refine g_cmpge ((q_241 _).trans rfl) (fun _ => ?_) (fun _ => ?_)
  · refine g_aload ((q_241 _).trans rfl) rfl ?_
    refine g_getR ((q_241 _).trans rfl) (fun a1 => ?_)
    refine g_getR ((q_241 _).trans rfl) (fun a2 => ?_)
    refine g_getI ((q_241 _).trans rfl) (fun v3 => ?_)
    exact g_iret ((q_241 _).trans rfl)
  · refine g_aload ((q_241 _).trans rfl) rfl ?_
    refine g_getR ((q_241 _).trans rfl) (fun a4 => ?_)
    refine g_aload ((q_241 _).trans rfl) rfl ?_
    refine g_getR ((q_241 _).trans rfl) (fun a5 => ?_)
    refine g_iload ((q_241 _).trans rfl) rfl ?_
    refine g_iald ((q_241 _).trans rfl) (fun v6 => ?_)
    refine g_callV (kk := 1) ((q_241 _).trans rfl) (gHn m_241) rfl (by exact ⟨Nat.le_of_ble_eq_true rfl, rfl⟩) rfl (fun w G7 => gm_R (fun a8 hw => ?_))
    subst hw
    refine g_ccast ((q_241 _).trans rfl) ?_
    refine g_astore ((q_241 _).trans rfl) ?_
    refine g_aload ((q_241 _).trans rfl) rfl ?_
    refine g_getR ((q_241 _).trans rfl) (fun a9 => ?_)
    refine g_getR ((q_241 _).trans rfl) (fun a10 => ?_)
    refine g_aload ((q_241 _).trans rfl) rfl ?_
    refine g_getR ((q_241 _).trans rfl) (fun a11 => ?_)
    refine g_aload ((q_241 _).trans rfl) rfl ?_
    refine g_getI ((q_241 _).trans rfl) (fun v12 => ?_)
    refine g_callV (kk := 2) ((q_241 _).trans rfl) (gHn m_241) rfl (by exact ⟨Nat.le_of_ble_eq_true rfl, rfl⟩) rfl (fun w G13 => gm_V (fun hw => ?_))
    subst hw
    refine g_aload ((q_241 _).trans rfl) rfl ?_
    refine g_getR ((q_241 _).trans rfl) (fun a15 => ?_)
    refine g_aload ((q_241 _).trans rfl) rfl ?_
    refine g_getR ((q_241 _).trans rfl) (fun a16 => ?_)
    refine g_getR ((q_241 _).trans rfl) (fun a17 => ?_)
    refine g_callV (kk := 1) ((q_241 _).trans rfl) (gHn m_241) rfl (by exact ⟨Nat.le_of_ble_eq_true rfl, rfl⟩) rfl (fun w G18 => gm_I (fun v19 hw => ?_))
    subst hw
    refine g_ifne ((q_241 _).trans rfl) (fun _ => ?_) (fun _ => ?_)
    · refine g_push ((q_241 _).trans rfl) ?_
      exact g_iret ((q_241 _).trans rfl)
    · refine g_aload ((q_241 _).trans rfl) rfl ?_
      refine g_getR ((q_241 _).trans rfl) (fun a20 => ?_)
      refine g_getR ((q_241 _).trans rfl) (fun a21 => ?_)
      refine g_iload ((q_241 _).trans rfl) rfl ?_
      refine g_callV (kk := 1) ((q_241 _).trans rfl) (gHn m_241) rfl (by exact ⟨Nat.le_of_ble_eq_true rfl, rfl⟩) rfl (fun w G22 => gm_V (fun hw => ?_))
      subst hw
      refine g_iinc ((q_241 _).trans rfl) rfl ?_
      refine g_goto ((q_241 _).trans rfl) ?_
      exact gle.rf _
theorem q_242 {K : gK} (pc : Nat) : gP K 242 pc = ((gL_242 K).lookup pc).getD o_none := rfl
noncomputable def t_242_0 (K : gK) (d : Nat) (l0 : Nat) (l1 : Int32) (l2 : Int32) (G : gH) : Option gO := gRn K d 242 2 [some (.ref l0), some (.int l1), some (.int l2), some (.int (0 : Int32))] [] G
theorem e_242_0 {K : gK} {d : Nat} {l0 : Nat} {l1 : Int32} {l2 : Int32} {G : gH} : gle (t_242_0 K d l0 l1 l2 G) (gRn K d 242 0 [some (.ref l0), some (.int l1), some (.int l2), none] [] G) := by
  unfold t_242_0
  refine g_push ((q_242 _).trans rfl) ?_
  refine g_istore ((q_242 _).trans rfl) ?_
  exact gle.rf _
theorem c_242 {K : gK} {d : Nat} {l0 : Nat} {l1 : Int32} {l2 : Int32} {G : gH} : gle (t_242_0 K d l0 l1 l2 G) (gCa K (d + 1) 242 [.ref l0, .int l1, .int l2] G) := by
  have h : gent (gMx 242) [.ref l0, .int l1, .int l2] = [some (.ref l0), some (.int l1), some (.int l2), none] := by
    show gent (gT 242).2.2.2.1 _ = _
    rw [m_242]; rfl
  exact fun r e => (congrArg (fun q => gRn K d 242 0 q [] G) h).trans (e_242_0 r e)
noncomputable def t_242_2_1 (K : gK) (d : Nat) (l1 : Int32) (G : gH) (l0 : Nat) (l2 : Int32) (l3 : Int32) (v2 : Int32) : Option gO := if v2 = l1 then (if narrow .boolean (.int (1 : Int32)) = .int (1 : Int32) then some (.inl (some (.int (1 : Int32))), G) else none) else (gRn K d 242 2 [some (.ref l0), some (.int l1), some (.int l2), some (.int (l3 + 1))] [] G)
noncomputable def t_242_2_2 (K : gK) (d : Nat) (G : gH) (l3 : Int32) (l1 : Int32) (l0 : Nat) (l2 : Int32) (a1 : Nat) : Option gO := xI G a1 0 l3 (t_242_2_1 K d l1 G l0 l2 l3)
noncomputable def t_242_2 (K : gK) (d : Nat) (l0 : Nat) (l1 : Int32) (l2 : Int32) (l3 : Int32) (G : gH) : Option gO := if l2 ≤ l3 then (if narrow .boolean (.int (0 : Int32)) = .int (0 : Int32) then some (.inl (some (.int (0 : Int32))), G) else none) else (rR G l0 11 2 (t_242_2_2 K d G l3 l1 l0 l2))
theorem e_242_2 {K : gK} {d : Nat} {l0 : Nat} {l1 : Int32} {l2 : Int32} {l3 : Int32} {G : gH} : gle (t_242_2 K d l0 l1 l2 l3 G) (gRn K d 242 2 [some (.ref l0), some (.int l1), some (.int l2), some (.int l3)] [] G) := by
  unfold t_242_2
  refine g_iload ((q_242 _).trans rfl) rfl ?_
  refine g_iload ((q_242 _).trans rfl) rfl ?_
  refine g_cmpge ((q_242 _).trans rfl) (fun _ => ?_) (fun _ => ?_)
  · refine g_push ((q_242 _).trans rfl) ?_
    exact g_zret ((q_242 _).trans rfl)
  · refine g_aload ((q_242 _).trans rfl) rfl ?_
    refine g_getR ((q_242 _).trans rfl) (fun a1 => ?_)
    refine g_iload ((q_242 _).trans rfl) rfl ?_
    refine g_iald ((q_242 _).trans rfl) (fun v2 => ?_)
    refine g_iload ((q_242 _).trans rfl) rfl ?_
    refine g_cmpne ((q_242 _).trans rfl) (fun _ => ?_) (fun _ => ?_)
    · refine g_push ((q_242 _).trans rfl) ?_
      exact g_zret ((q_242 _).trans rfl)
    · refine g_iinc ((q_242 _).trans rfl) rfl ?_
      refine g_goto ((q_242 _).trans rfl) ?_
      exact gle.rf _
theorem q_243 {K : gK} (pc : Nat) : gP K 243 pc = ((gL_243 K).lookup pc).getD o_none := rfl
noncomputable def t_243_0_1 (K : gK) (d : Nat) (a7 : Nat) (G8 : gH) : Option gO := some (.inl (some (.ref a7)), G8)
noncomputable def t_243_0_2 (K : gK) (d : Nat) (l0 : Nat) (a7 : Nat) (G6 : gH) : Option gO := if narrow (.array (.object "java/lang/Object")) (.ref a7) = .ref a7 ∧ fits (.array (.object "java/lang/Object")) (.ref a7) = true then wF G6 l0 12 1 (.ref a7) (t_243_0_1 K d a7) else none
noncomputable def t_243_0_3 (K : gK) (d : Nat) (v4 : Int32) (G3 : gH) (l0 : Nat) (a5 : Nat) : Option gO := cR (gCa K d 253 [.ref a5, .int v4] G3) (t_243_0_2 K d l0)
noncomputable def t_243_0_4 (K : gK) (d : Nat) (l0 : Nat) (v4 : Int32) (G3 : gH) : Option gO := rR G3 l0 12 1 (t_243_0_3 K d v4 G3 l0)
noncomputable def t_243_0_5 (K : gK) (d : Nat) (G10 : gH) (G12 : gH) : Option gO := some (.inl (some (.ref (G10.2.1))), G12)
noncomputable def t_243_0_6 (K : gK) (d : Nat) (l0 : Nat) (v11 : Int32) (G10 : gH) : Option gO := if v11 < 0 ∨ 100000 < (v11).toNatClampNeg then none else (if narrow (.array (.object "java/lang/Object")) (.ref (G10.2.1)) = .ref (G10.2.1) ∧ fits (.array (.object "java/lang/Object")) (.ref (G10.2.1)) = true then wF (gnew G10 (.inl (5, (v11).toNatClampNeg, gQ (fun _ => none))) (v11).toNatClampNeg) l0 12 1 (.ref (G10.2.1)) (t_243_0_5 K d G10) else none)
noncomputable def t_243_0_7 (K : gK) (d : Nat) (a17 : Nat) (G18 : gH) : Option gO := some (.inl (some (.ref a17)), G18)
noncomputable def t_243_0_8 (K : gK) (d : Nat) (l0 : Nat) (a17 : Nat) (G16 : gH) : Option gO := if narrow (.array (.object "java/lang/Object")) (.ref a17) = .ref a17 ∧ fits (.array (.object "java/lang/Object")) (.ref a17) = true then wF G16 l0 12 1 (.ref a17) (t_243_0_7 K d a17) else none
noncomputable def t_243_0_9 (K : gK) (d : Nat) (v14 : Int32) (G13 : gH) (l0 : Nat) (a15 : Nat) : Option gO := cR (gCa K d 253 [.ref a15, .int v14] G13) (t_243_0_8 K d l0)
noncomputable def t_243_0_10 (K : gK) (d : Nat) (l0 : Nat) (v14 : Int32) (G13 : gH) : Option gO := rR G13 l0 12 1 (t_243_0_9 K d v14 G13 l0)
noncomputable def t_243_0_11 (K : gK) (d : Nat) (l1 : Int32) (G : gH) (l0 : Nat) (v2 : Int32) (a9 : Nat) : Option gO := if a9 = (K.2 3) then (cI (gCa K d 236 [.int (10 : Int32), .int l1] G) (t_243_0_6 K d l0)) else (cI (gCa K d 252 [.int v2, .int (l1 - v2), .int (v2 >>> ((1 : Int32) &&& 31))] G) (t_243_0_10 K d l0))
noncomputable def t_243_0_12 (K : gK) (d : Nat) (l1 : Int32) (G : gH) (l0 : Nat) (v2 : Int32) : Option gO := if 0 < v2 then (cI (gCa K d 252 [.int v2, .int (l1 - v2), .int (v2 >>> ((1 : Int32) &&& 31))] G) (t_243_0_4 K d l0)) else (rR G l0 12 1 (t_243_0_11 K d l1 G l0 v2))
noncomputable def t_243_0_13 (K : gK) (d : Nat) (G : gH) (l1 : Int32) (l0 : Nat) (a1 : Nat) : Option gO := xL K G a1 (t_243_0_12 K d l1 G l0)
noncomputable def t_243_0 (K : gK) (d : Nat) (l0 : Nat) (l1 : Int32) (G : gH) : Option gO := rR G l0 12 1 (t_243_0_13 K d G l1 l0)
theorem e_243_0 {K : gK} {d : Nat} {l0 : Nat} {l1 : Int32} {G : gH} : gle (t_243_0 K d l0 l1 G) (gRn K d 243 0 [some (.ref l0), some (.int l1), none, none] [] G) := by
  unfold t_243_0
  refine g_aload ((q_243 _).trans rfl) rfl ?_
  refine g_getR ((q_243 _).trans rfl) (fun a1 => ?_)
  refine g_alen ((q_243 _).trans rfl) (fun v2 => ?_)
  refine g_istore ((q_243 _).trans rfl) ?_
  refine g_iload ((q_243 _).trans rfl) rfl ?_
  refine g_ifgt ((q_243 _).trans rfl) (fun _ => ?_) (fun _ => ?_)
  · refine g_iload ((q_243 _).trans rfl) rfl ?_
    refine g_iload ((q_243 _).trans rfl) rfl ?_
    refine g_iload ((q_243 _).trans rfl) rfl ?_
    refine g_isub ((q_243 _).trans rfl) ?_
    refine g_iload ((q_243 _).trans rfl) rfl ?_
    refine g_push ((q_243 _).trans rfl) ?_
    refine g_ishr ((q_243 _).trans rfl) ?_
    refine g_callS (kk := 3) ((q_243 _).trans rfl) (gHn m_243) (by exact ⟨Nat.le_of_ble_eq_true rfl, Nat.le_of_ble_eq_true rfl, rfl⟩) rfl (fun w G3 => gm_I (fun v4 hw => ?_))
    subst hw
    refine g_istore ((q_243 _).trans rfl) ?_
    refine g_aload ((q_243 _).trans rfl) rfl ?_
    refine g_aload ((q_243 _).trans rfl) rfl ?_
    refine g_getR ((q_243 _).trans rfl) (fun a5 => ?_)
    refine g_iload ((q_243 _).trans rfl) rfl ?_
    refine g_callS (kk := 2) ((q_243 _).trans rfl) (gHn m_243) (by exact ⟨Nat.le_of_ble_eq_true rfl, Nat.le_of_ble_eq_true rfl, rfl⟩) rfl (fun w G6 => gm_R (fun a7 hw => ?_))
    subst hw
    refine g_dup_x1_ref ((q_243 _).trans rfl) ?_
    refine g_putf ((q_243 _).trans rfl) (fun G8 => ?_)
    exact g_aret ((q_243 _).trans rfl)
  · refine g_aload ((q_243 _).trans rfl) rfl ?_
    refine g_getR ((q_243 _).trans rfl) (fun a9 => ?_)
    refine g_push ((q_243 _).trans rfl) ?_
    refine g_acmpeq ((q_243 _).trans rfl) (fun _ => ?_) (fun _ => ?_)
    · refine g_aload ((q_243 _).trans rfl) rfl ?_
      refine g_push ((q_243 _).trans rfl) ?_
      refine g_iload ((q_243 _).trans rfl) rfl ?_
      refine g_callS (kk := 2) ((q_243 _).trans rfl) (gHn m_243) (by exact ⟨Nat.le_of_ble_eq_true rfl, Nat.le_of_ble_eq_true rfl, rfl⟩) rfl (fun w G10 => gm_I (fun v11 hw => ?_))
      subst hw
      refine g_newq ((q_243 _).trans rfl) (fun _ => ?_)
      refine g_dup_x1_ref ((q_243 _).trans rfl) ?_
      refine g_putf ((q_243 _).trans rfl) (fun G12 => ?_)
      exact g_aret ((q_243 _).trans rfl)
    · refine g_iload ((q_243 _).trans rfl) rfl ?_
      refine g_iload ((q_243 _).trans rfl) rfl ?_
      refine g_iload ((q_243 _).trans rfl) rfl ?_
      refine g_isub ((q_243 _).trans rfl) ?_
      refine g_iload ((q_243 _).trans rfl) rfl ?_
      refine g_push ((q_243 _).trans rfl) ?_
      refine g_ishr ((q_243 _).trans rfl) ?_
      refine g_callS (kk := 3) ((q_243 _).trans rfl) (gHn m_243) (by exact ⟨Nat.le_of_ble_eq_true rfl, Nat.le_of_ble_eq_true rfl, rfl⟩) rfl (fun w G13 => gm_I (fun v14 hw => ?_))
      subst hw
      refine g_istore ((q_243 _).trans rfl) ?_
      refine g_aload ((q_243 _).trans rfl) rfl ?_
      refine g_aload ((q_243 _).trans rfl) rfl ?_
      refine g_getR ((q_243 _).trans rfl) (fun a15 => ?_)
      refine g_iload ((q_243 _).trans rfl) rfl ?_
      refine g_callS (kk := 2) ((q_243 _).trans rfl) (gHn m_243) (by exact ⟨Nat.le_of_ble_eq_true rfl, Nat.le_of_ble_eq_true rfl, rfl⟩) rfl (fun w G16 => gm_R (fun a17 hw => ?_))
      subst hw
      refine g_dup_x1_ref ((q_243 _).trans rfl) ?_
      refine g_putf ((q_243 _).trans rfl) (fun G18 => ?_)
      exact g_aret ((q_243 _).trans rfl)
theorem c_243 {K : gK} {d : Nat} {l0 : Nat} {l1 : Int32} {G : gH} : gle (t_243_0 K d l0 l1 G) (gCa K (d + 1) 243 [.ref l0, .int l1] G) := by
  have h : gent (gMx 243) [.ref l0, .int l1] = [some (.ref l0), some (.int l1), none, none] := by
    show gent (gT 243).2.2.2.1 _ = _
    rw [m_243]; rfl
  exact fun r e => (congrArg (fun q => gRn K d 243 0 q [] G) h).trans (e_243_0 r e)
theorem q_244 {K : gK} (pc : Nat) : gP K 244 pc = ((gL_244 K).lookup pc).getD o_none := rfl
noncomputable def t_244_0 (K : gK) (d : Nat) (l0 : Nat) (l1 : Int32) (G : gH) : Option gO := if l1 = 0 then (if narrow .boolean (.int (1 : Int32)) = .int (1 : Int32) then some (.inl (some (.int (1 : Int32))), G) else none) else (if narrow .boolean (.int (0 : Int32)) = .int (0 : Int32) then some (.inl (some (.int (0 : Int32))), G) else none)
theorem e_244_0 {K : gK} {d : Nat} {l0 : Nat} {l1 : Int32} {G : gH} : gle (t_244_0 K d l0 l1 G) (gRn K d 244 0 [some (.ref l0), some (.int l1)] [] G) := by
  unfold t_244_0
  refine g_iload ((q_244 _).trans rfl) rfl ?_
  refine g_ifne ((q_244 _).trans rfl) (fun _ => ?_) (fun _ => ?_)
  · refine g_push ((q_244 _).trans rfl) ?_
    refine g_goto ((q_244 _).trans rfl) ?_
    exact g_zret ((q_244 _).trans rfl)
  · refine g_push ((q_244 _).trans rfl) ?_
    exact g_zret ((q_244 _).trans rfl)
theorem c_244 {K : gK} {d : Nat} {l0 : Nat} {l1 : Int32} {G : gH} : gle (t_244_0 K d l0 l1 G) (gCa K (d + 1) 244 [.ref l0, .int l1] G) := by
  have h : gent (gMx 244) [.ref l0, .int l1] = [some (.ref l0), some (.int l1)] := by
    show gent (gT 244).2.2.2.1 _ = _
    rw [m_244]; rfl
  exact fun r e => (congrArg (fun q => gRn K d 244 0 q [] G) h).trans (e_244_0 r e)
theorem q_245 {K : gK} (pc : Nat) : gP K 245 pc = ((gL_245 K).lookup pc).getD o_none := rfl
noncomputable def t_245_0 (K : gK) (d : Nat) (l0 : Nat) (l1 : Int32) (G : gH) : Option gO := if (2 : Int32) = 0 then none else (if (l1 - l1 / (2 : Int32) * (2 : Int32)) = 0 then (if narrow .boolean (.int (1 : Int32)) = .int (1 : Int32) then some (.inl (some (.int (1 : Int32))), G) else none) else (if narrow .boolean (.int (0 : Int32)) = .int (0 : Int32) then some (.inl (some (.int (0 : Int32))), G) else none))
theorem e_245_0 {K : gK} {d : Nat} {l0 : Nat} {l1 : Int32} {G : gH} : gle (t_245_0 K d l0 l1 G) (gRn K d 245 0 [some (.ref l0), some (.int l1)] [] G) := by
  unfold t_245_0
  refine g_iload ((q_245 _).trans rfl) rfl ?_
  refine g_push ((q_245 _).trans rfl) ?_
  refine g_irem ((q_245 _).trans rfl) (fun _ => ?_)
  refine g_ifne ((q_245 _).trans rfl) (fun _ => ?_) (fun _ => ?_)
  · refine g_push ((q_245 _).trans rfl) ?_
    refine g_goto ((q_245 _).trans rfl) ?_
    exact g_zret ((q_245 _).trans rfl)
  · refine g_push ((q_245 _).trans rfl) ?_
    exact g_zret ((q_245 _).trans rfl)
theorem c_245 {K : gK} {d : Nat} {l0 : Nat} {l1 : Int32} {G : gH} : gle (t_245_0 K d l0 l1 G) (gCa K (d + 1) 245 [.ref l0, .int l1] G) := by
  have h : gent (gMx 245) [.ref l0, .int l1] = [some (.ref l0), some (.int l1)] := by
    show gent (gT 245).2.2.2.1 _ = _
    rw [m_245]; rfl
  exact fun r e => (congrArg (fun q => gRn K d 245 0 q [] G) h).trans (e_245_0 r e)
theorem q_246 {K : gK} (pc : Nat) : gP K 246 pc = ((gL_246 K).lookup pc).getD o_none := rfl
noncomputable def t_246_0 (K : gK) (d : Nat) (l0 : Nat) (l1 : Int32) (G : gH) : Option gO := if narrow .boolean (.int (1 : Int32)) = .int (1 : Int32) then some (.inl (some (.int (1 : Int32))), G) else none
theorem e_246_0 {K : gK} {d : Nat} {l0 : Nat} {l1 : Int32} {G : gH} : gle (t_246_0 K d l0 l1 G) (gRn K d 246 0 [some (.ref l0), some (.int l1)] [] G) := by
  unfold t_246_0
  refine g_push ((q_246 _).trans rfl) ?_
  exact g_zret ((q_246 _).trans rfl)
theorem c_246 {K : gK} {d : Nat} {l0 : Nat} {l1 : Int32} {G : gH} : gle (t_246_0 K d l0 l1 G) (gCa K (d + 1) 246 [.ref l0, .int l1] G) := by
  have h : gent (gMx 246) [.ref l0, .int l1] = [some (.ref l0), some (.int l1)] := by
    show gent (gT 246).2.2.2.1 _ = _
    rw [m_246]; rfl
  exact fun r e => (congrArg (fun q => gRn K d 246 0 q [] G) h).trans (e_246_0 r e)
theorem q_247 {K : gK} (pc : Nat) : gP K 247 pc = ((gL_247 K).lookup pc).getD o_none := rfl
noncomputable def t_247_0_1 (K : gK) (d : Nat) (G : gH) (v8 : Int32) : Option gO := if v8 = 0 then (if narrow .boolean (.int (0 : Int32)) = .int (0 : Int32) then some (.inl (some (.int (0 : Int32))), G) else none) else (if narrow .boolean (.int (1 : Int32)) = .int (1 : Int32) then some (.inl (some (.int (1 : Int32))), G) else none)
noncomputable def t_247_0_2 (K : gK) (d : Nat) (G : gH) (a6 : Nat) (l2 : Int32) (v7 : Int32) : Option gO := xI G a6 1 ((v7 - (1 : Int32)) - l2) (t_247_0_1 K d G)
noncomputable def t_247_0_3 (K : gK) (d : Nat) (G : gH) (l0 : Nat) (l2 : Int32) (a6 : Nat) : Option gO := rI G l0 0 8 (t_247_0_2 K d G a6 l2)
noncomputable def t_247_0_4 (K : gK) (d : Nat) (G : gH) (l1 : Int32) (l0 : Nat) (l2 : Int32) (a5 : Nat) : Option gO := xQ G a5 9 l1 (t_247_0_3 K d G l0 l2)
noncomputable def t_247_0_5 (K : gK) (d : Nat) (G : gH) (l0 : Nat) (l1 : Int32) (l2 : Int32) (v4 : Int32) : Option gO := if v4 = 0 then (if narrow .boolean (.int (0 : Int32)) = .int (0 : Int32) then some (.inl (some (.int (0 : Int32))), G) else none) else (rR G l0 0 3 (t_247_0_4 K d G l1 l0 l2))
noncomputable def t_247_0_6 (K : gK) (d : Nat) (G : gH) (l0 : Nat) (l1 : Int32) (l2 : Int32) (v3 : Int32) : Option gO := if v3 = 0 then (rI G l0 0 10 (t_247_0_5 K d G l0 l1 l2)) else (if narrow .boolean (.int (1 : Int32)) = .int (1 : Int32) then some (.inl (some (.int (1 : Int32))), G) else none)
noncomputable def t_247_0_7 (K : gK) (d : Nat) (G : gH) (l2 : Int32) (l0 : Nat) (l1 : Int32) (a2 : Nat) : Option gO := xI G a2 1 l2 (t_247_0_6 K d G l0 l1 l2)
noncomputable def t_247_0_8 (K : gK) (d : Nat) (G : gH) (l1 : Int32) (l2 : Int32) (l0 : Nat) (a1 : Nat) : Option gO := xQ G a1 9 l1 (t_247_0_7 K d G l2 l0 l1)
noncomputable def t_247_0 (K : gK) (d : Nat) (l0 : Nat) (l1 : Int32) (l2 : Int32) (G : gH) : Option gO := rR G l0 0 3 (t_247_0_8 K d G l1 l2 l0)
theorem e_247_0 {K : gK} {d : Nat} {l0 : Nat} {l1 : Int32} {l2 : Int32} {G : gH} : gle (t_247_0 K d l0 l1 l2 G) (gRn K d 247 0 [some (.ref l0), some (.int l1), some (.int l2)] [] G) := by
  unfold t_247_0
  refine g_aload ((q_247 _).trans rfl) rfl ?_
  refine g_getR ((q_247 _).trans rfl) (fun a1 => ?_)
  refine g_iload ((q_247 _).trans rfl) rfl ?_
  refine g_aald ((q_247 _).trans rfl) (fun a2 => ?_)
  refine g_iload ((q_247 _).trans rfl) rfl ?_
  refine g_iald ((q_247 _).trans rfl) (fun v3 => ?_)
  refine g_ifne ((q_247 _).trans rfl) (fun _ => ?_) (fun _ => ?_)
  · refine g_aload ((q_247 _).trans rfl) rfl ?_
    refine g_getI ((q_247 _).trans rfl) (fun v4 => ?_)
    refine g_ifeq ((q_247 _).trans rfl) (fun _ => ?_) (fun _ => ?_)
    · refine g_push ((q_247 _).trans rfl) ?_
      exact g_zret ((q_247 _).trans rfl)
    · refine g_aload ((q_247 _).trans rfl) rfl ?_
      refine g_getR ((q_247 _).trans rfl) (fun a5 => ?_)
      refine g_iload ((q_247 _).trans rfl) rfl ?_
      refine g_aald ((q_247 _).trans rfl) (fun a6 => ?_)
      refine g_aload ((q_247 _).trans rfl) rfl ?_
      refine g_getI ((q_247 _).trans rfl) (fun v7 => ?_)
      refine g_push ((q_247 _).trans rfl) ?_
      refine g_isub ((q_247 _).trans rfl) ?_
      refine g_iload ((q_247 _).trans rfl) rfl ?_
      refine g_isub ((q_247 _).trans rfl) ?_
      refine g_iald ((q_247 _).trans rfl) (fun v8 => ?_)
      refine g_ifeq ((q_247 _).trans rfl) (fun _ => ?_) (fun _ => ?_)
      · refine g_push ((q_247 _).trans rfl) ?_
        exact g_zret ((q_247 _).trans rfl)
      · refine g_push ((q_247 _).trans rfl) ?_
        refine g_goto ((q_247 _).trans rfl) ?_
        exact g_zret ((q_247 _).trans rfl)
  · refine g_push ((q_247 _).trans rfl) ?_
    refine g_goto ((q_247 _).trans rfl) ?_
    exact g_zret ((q_247 _).trans rfl)
theorem c_247 {K : gK} {d : Nat} {l0 : Nat} {l1 : Int32} {l2 : Int32} {G : gH} : gle (t_247_0 K d l0 l1 l2 G) (gCa K (d + 1) 247 [.ref l0, .int l1, .int l2] G) := by
  have h : gent (gMx 247) [.ref l0, .int l1, .int l2] = [some (.ref l0), some (.int l1), some (.int l2)] := by
    show gent (gT 247).2.2.2.1 _ = _
    rw [m_247]; rfl
  exact fun r e => (congrArg (fun q => gRn K d 247 0 q [] G) h).trans (e_247_0 r e)
theorem q_248 {K : gK} (pc : Nat) : gP K 248 pc = ((gL_248 K).lookup pc).getD o_none := rfl
noncomputable def t_248_0_1 (K : gK) (d : Nat) (a5 : Nat) (G4 : gH) : Option gO := some (.inl (some (.ref a5)), G4)
noncomputable def t_248_0_2 (K : gK) (d : Nat) (G : gH) (a1 : Nat) (v2 : Int32) (v3 : Int32) : Option gO := if g_cls G a1 = some 4 then (cR (gCa K d 217 [.ref a1, .int v2, .int v3] G) (t_248_0_1 K d)) else none
noncomputable def t_248_0_3 (K : gK) (d : Nat) (G : gH) (l0 : Nat) (a1 : Nat) (v2 : Int32) : Option gO := rI G l0 1 1 (t_248_0_2 K d G a1 v2)
noncomputable def t_248_0_4 (K : gK) (d : Nat) (G : gH) (l0 : Nat) (a1 : Nat) : Option gO := rI G l0 1 2 (t_248_0_3 K d G l0 a1)
noncomputable def t_248_0 (K : gK) (d : Nat) (l0 : Nat) (G : gH) : Option gO := rR G l0 1 0 (t_248_0_4 K d G l0)
theorem e_248_0 {K : gK} {d : Nat} {l0 : Nat} {G : gH} : gle (t_248_0 K d l0 G) (gRn K d 248 0 [some (.ref l0)] [] G) := by
  unfold t_248_0
  refine g_aload ((q_248 _).trans rfl) rfl ?_
  refine g_getR ((q_248 _).trans rfl) (fun a1 => ?_)
  refine g_aload ((q_248 _).trans rfl) rfl ?_
  refine g_getI ((q_248 _).trans rfl) (fun v2 => ?_)
  refine g_aload ((q_248 _).trans rfl) rfl ?_
  refine g_getI ((q_248 _).trans rfl) (fun v3 => ?_)
  refine g_callV (kk := 2) ((q_248 _).trans rfl) (gHn m_248) rfl (by exact ⟨Nat.le_of_ble_eq_true rfl, rfl⟩) rfl (fun w G4 => gm_R (fun a5 hw => ?_))
  subst hw
  exact g_aret ((q_248 _).trans rfl)
theorem c_248 {K : gK} {d : Nat} {l0 : Nat} {G : gH} : gle (t_248_0 K d l0 G) (gCa K (d + 1) 248 [.ref l0] G) := by
  have h : gent (gMx 248) [.ref l0] = [some (.ref l0)] := by
    show gent (gT 248).2.2.2.1 _ = _
    rw [m_248]; rfl
  exact fun r e => (congrArg (fun q => gRn K d 248 0 q [] G) h).trans (e_248_0 r e)
theorem q_249 {K : gK} (pc : Nat) : gP K 249 pc = ((gL_249 K).lookup pc).getD o_none := rfl
noncomputable def t_249_0_1 (K : gK) (d : Nat) (v1 : Int32) (G2 : gH) (v4 : Int32) : Option gO := some (.inl (some (.int (v1 + v4))), G2)
noncomputable def t_249_0_2 (K : gK) (d : Nat) (v1 : Int32) (a3 : Nat) (G2 : gH) : Option gO := rI G2 a3 6 2 (t_249_0_1 K d v1 G2)
noncomputable def t_249_0_3 (K : gK) (d : Nat) (G : gH) (l0 : Nat) (v1 : Int32) : Option gO := if g_cls G l0 = some 1 then (cR (gCa K d 248 [.ref l0] G) (t_249_0_2 K d v1)) else none
noncomputable def t_249_0 (K : gK) (d : Nat) (l0 : Nat) (G : gH) : Option gO := rI G l0 1 3 (t_249_0_3 K d G l0)
theorem e_249_0 {K : gK} {d : Nat} {l0 : Nat} {G : gH} : gle (t_249_0 K d l0 G) (gRn K d 249 0 [some (.ref l0)] [] G) := by
  unfold t_249_0
  refine g_aload ((q_249 _).trans rfl) rfl ?_
  refine g_getI ((q_249 _).trans rfl) (fun v1 => ?_)
  refine g_aload ((q_249 _).trans rfl) rfl ?_
  refine g_callV (kk := 0) ((q_249 _).trans rfl) (gHn m_249) rfl (by exact ⟨Nat.le_of_ble_eq_true rfl, rfl⟩) rfl (fun w G2 => gm_R (fun a3 hw => ?_))
  subst hw
  refine g_getI ((q_249 _).trans rfl) (fun v4 => ?_)
  refine g_iadd ((q_249 _).trans rfl) ?_
  exact g_iret ((q_249 _).trans rfl)
theorem c_249 {K : gK} {d : Nat} {l0 : Nat} {G : gH} : gle (t_249_0 K d l0 G) (gCa K (d + 1) 249 [.ref l0] G) := by
  have h : gent (gMx 249) [.ref l0] = [some (.ref l0)] := by
    show gent (gT 249).2.2.2.1 _ = _
    rw [m_249]; rfl
  exact fun r e => (congrArg (fun q => gRn K d 249 0 q [] G) h).trans (e_249_0 r e)
theorem q_250 {K : gK} (pc : Nat) : gP K 250 pc = ((gL_250 K).lookup pc).getD o_none := rfl
noncomputable def t_250_0 (K : gK) (d : Nat) (l0 : Int32) (l1 : Int32) (G : gH) : Option gO := if l1 = 0 then none else (if 0 ≤ (l0 ^^^ l1) then (some (.inl (some (.int (l0 - l0 / l1 * l1))), G)) else (if (l0 - l0 / l1 * l1) = 0 then (some (.inl (some (.int (l0 - l0 / l1 * l1))), G)) else (some (.inl (some (.int ((l0 - l0 / l1 * l1) + l1))), G))))
theorem e_250_0 {K : gK} {d : Nat} {l0 : Int32} {l1 : Int32} {G : gH} : gle (t_250_0 K d l0 l1 G) (gRn K d 250 0 [some (.int l0), some (.int l1), none] [] G) := by
  unfold t_250_0
  refine g_iload ((q_250 _).trans rfl) rfl ?_
  refine g_iload ((q_250 _).trans rfl) rfl ?_
  refine g_irem ((q_250 _).trans rfl) (fun _ => ?_)
  refine g_istore ((q_250 _).trans rfl) ?_
  refine g_iload ((q_250 _).trans rfl) rfl ?_
  refine g_iload ((q_250 _).trans rfl) rfl ?_
  refine g_ixor ((q_250 _).trans rfl) ?_
  refine g_ifge ((q_250 _).trans rfl) (fun _ => ?_) (fun _ => ?_)
  · refine g_iload ((q_250 _).trans rfl) rfl ?_
    exact g_iret ((q_250 _).trans rfl)
  · refine g_iload ((q_250 _).trans rfl) rfl ?_
    refine g_ifeq ((q_250 _).trans rfl) (fun _ => ?_) (fun _ => ?_)
    · refine g_iload ((q_250 _).trans rfl) rfl ?_
      exact g_iret ((q_250 _).trans rfl)
    · refine g_iload ((q_250 _).trans rfl) rfl ?_
      refine g_iload ((q_250 _).trans rfl) rfl ?_
      refine g_iadd ((q_250 _).trans rfl) ?_
      exact g_iret ((q_250 _).trans rfl)
theorem c_250 {K : gK} {d : Nat} {l0 : Int32} {l1 : Int32} {G : gH} : gle (t_250_0 K d l0 l1 G) (gCa K (d + 1) 250 [.int l0, .int l1] G) := by
  have h : gent (gMx 250) [.int l0, .int l1] = [some (.int l0), some (.int l1), none] := by
    show gent (gT 250).2.2.2.1 _ = _
    rw [m_250]; rfl
  exact fun r e => (congrArg (fun q => gRn K d 250 0 q [] G) h).trans (e_250_0 r e)
theorem q_251 {K : gK} (pc : Nat) : gP K 251 pc = ((gL_251 K).lookup pc).getD o_none := rfl
noncomputable def t_251_0_1 (K : gK) (d : Nat) (G2 : gH) : Option gO := some (.inl none, G2)
noncomputable def t_251_0_2 (K : gK) (d : Nat) (l2 : Int32) (l0 : Nat) (G1 : gH) : Option gO := if narrow .boolean (.int l2) = .int l2 ∧ fits .boolean (.int l2) = true then wF G1 l0 10 1 (.int l2) (t_251_0_1 K d) else none
noncomputable def t_251_0 (K : gK) (d : Nat) (l0 : Nat) (l1 : Nat) (l2 : Int32) (G : gH) : Option gO := if narrow (.object "CuttingRoom$Shape") (.ref l1) = .ref l1 ∧ fits (.object "CuttingRoom$Shape") (.ref l1) = true then wF G l0 10 0 (.ref l1) (t_251_0_2 K d l2 l0) else none
theorem e_251_0 {K : gK} {d : Nat} {l0 : Nat} {l1 : Nat} {l2 : Int32} {G : gH} : gle (t_251_0 K d l0 l1 l2 G) (gRn K d 251 0 [some (.ref l0), some (.ref l1), some (.int l2)] [] G) := by
  unfold t_251_0
  refine g_aload ((q_251 _).trans rfl) rfl ?_
  refine g_objinit ((q_251 _).trans rfl) (Nat.le_of_ble_eq_true rfl) ?_
  refine g_aload ((q_251 _).trans rfl) rfl ?_
  refine g_aload ((q_251 _).trans rfl) rfl ?_
  refine g_putf ((q_251 _).trans rfl) (fun G1 => ?_)
  refine g_aload ((q_251 _).trans rfl) rfl ?_
  refine g_iload ((q_251 _).trans rfl) rfl ?_
  refine g_putf ((q_251 _).trans rfl) (fun G2 => ?_)
  exact g_vret ((q_251 _).trans rfl)
theorem c_251 {K : gK} {d : Nat} {l0 : Nat} {l1 : Nat} {l2 : Int32} {G : gH} : gle (t_251_0 K d l0 l1 l2 G) (gCa K (d + 1) 251 [.ref l0, .ref l1, .int l2] G) := by
  have h : gent (gMx 251) [.ref l0, .ref l1, .int l2] = [some (.ref l0), some (.ref l1), some (.int l2)] := by
    show gent (gT 251).2.2.2.1 _ = _
    rw [m_251]; rfl
  exact fun r e => (congrArg (fun q => gRn K d 251 0 q [] G) h).trans (e_251_0 r e)
theorem q_252 {K : gK} (pc : Nat) : gP K 252 pc = ((gL_252 K).lookup pc).getD o_none := rfl
noncomputable def t_252_0_1 (K : gK) (d : Nat) (v4 : Int32) (G3 : gH) : Option gO := some (.inl (some (.int v4)), G3)
noncomputable def t_252_0_2 (K : gK) (d : Nat) (v6 : Int32) (G5 : gH) : Option gO := some (.inl (some (.int v6)), G5)
noncomputable def t_252_0_3 (K : gK) (d : Nat) (l0 : Int32) (l1 : Int32) (v2 : Int32) (G1 : gH) : Option gO := if (l0 + v2) ≤ (0 : Int32) then (cI (gCa K d 254 [.int l0, .int l1] G1) (t_252_0_1 K d)) else (if (2147483639 : Int32) < (l0 + v2) then (cI (gCa K d 254 [.int l0, .int l1] G1) (t_252_0_2 K d)) else (some (.inl (some (.int (l0 + v2))), G1)))
noncomputable def t_252_0 (K : gK) (d : Nat) (l0 : Int32) (l1 : Int32) (l2 : Int32) (G : gH) : Option gO := cI (gCa K d 236 [.int l1, .int l2] G) (t_252_0_3 K d l0 l1)
theorem e_252_0 {K : gK} {d : Nat} {l0 : Int32} {l1 : Int32} {l2 : Int32} {G : gH} : gle (t_252_0 K d l0 l1 l2 G) (gRn K d 252 0 [some (.int l0), some (.int l1), some (.int l2), none] [] G) := by
  unfold t_252_0
  refine g_iload ((q_252 _).trans rfl) rfl ?_
  refine g_iload ((q_252 _).trans rfl) rfl ?_
  refine g_iload ((q_252 _).trans rfl) rfl ?_
  refine g_callS (kk := 2) ((q_252 _).trans rfl) (gHn m_252) (by exact ⟨Nat.le_of_ble_eq_true rfl, Nat.le_of_ble_eq_true rfl, rfl⟩) rfl (fun w G1 => gm_I (fun v2 hw => ?_))
  subst hw
  refine g_iadd ((q_252 _).trans rfl) ?_
  refine g_istore ((q_252 _).trans rfl) ?_
  refine g_push ((q_252 _).trans rfl) ?_
  refine g_iload ((q_252 _).trans rfl) rfl ?_
  refine g_cmpge ((q_252 _).trans rfl) (fun _ => ?_) (fun _ => ?_)
  · refine g_iload ((q_252 _).trans rfl) rfl ?_
    refine g_iload ((q_252 _).trans rfl) rfl ?_
    refine g_callS (kk := 2) ((q_252 _).trans rfl) (gHn m_252) (by exact ⟨Nat.le_of_ble_eq_true rfl, Nat.le_of_ble_eq_true rfl, rfl⟩) rfl (fun w G3 => gm_I (fun v4 hw => ?_))
    subst hw
    exact g_iret ((q_252 _).trans rfl)
  · refine g_iload ((q_252 _).trans rfl) rfl ?_
    refine g_push ((q_252 _).trans rfl) ?_
    refine g_cmpgt ((q_252 _).trans rfl) (fun _ => ?_) (fun _ => ?_)
    · refine g_iload ((q_252 _).trans rfl) rfl ?_
      refine g_iload ((q_252 _).trans rfl) rfl ?_
      refine g_callS (kk := 2) ((q_252 _).trans rfl) (gHn m_252) (by exact ⟨Nat.le_of_ble_eq_true rfl, Nat.le_of_ble_eq_true rfl, rfl⟩) rfl (fun w G5 => gm_I (fun v6 hw => ?_))
      subst hw
      exact g_iret ((q_252 _).trans rfl)
    · refine g_iload ((q_252 _).trans rfl) rfl ?_
      exact g_iret ((q_252 _).trans rfl)
theorem c_252 {K : gK} {d : Nat} {l0 : Int32} {l1 : Int32} {l2 : Int32} {G : gH} : gle (t_252_0 K d l0 l1 l2 G) (gCa K (d + 1) 252 [.int l0, .int l1, .int l2] G) := by
  have h : gent (gMx 252) [.int l0, .int l1, .int l2] = [some (.int l0), some (.int l1), some (.int l2), none] := by
    show gent (gT 252).2.2.2.1 _ = _
    rw [m_252]; rfl
  exact fun r e => (congrArg (fun q => gRn K d 252 0 q [] G) h).trans (e_252_0 r e)
theorem q_253 {K : gK} (pc : Nat) : gP K 253 pc = ((gL_253 K).lookup pc).getD o_none := rfl
noncomputable def t_253_0_1 (K : gK) (d : Nat) (a2 : Nat) (G1 : gH) : Option gO := some (.inl (some (.ref a2)), G1)
noncomputable def t_253_0 (K : gK) (d : Nat) (l0 : Nat) (l1 : Int32) (G : gH) : Option gO := if g_akind G l0 = some 5 then (cR (gCa K d 255 [.ref l0, .int l1, .ref (K.2 6)] G) (t_253_0_1 K d)) else none
theorem e_253_0 {K : gK} {d : Nat} {l0 : Nat} {l1 : Int32} {G : gH} : gle (t_253_0 K d l0 l1 G) (gRn K d 253 0 [some (.ref l0), some (.int l1)] [] G) := by
  unfold t_253_0
  refine g_aload ((q_253 _).trans rfl) rfl ?_
  refine g_iload ((q_253 _).trans rfl) rfl ?_
  refine g_aload ((q_253 _).trans rfl) rfl ?_
  refine g_getClass ((q_253 _).trans rfl) (Nat.le_of_ble_eq_true rfl) ?_
  refine g_callS (kk := 3) ((q_253 _).trans rfl) (gHn m_253) (by exact ⟨Nat.le_of_ble_eq_true rfl, Nat.le_of_ble_eq_true rfl, rfl⟩) rfl (fun w G1 => gm_R (fun a2 hw => ?_))
  subst hw
  exact g_aret ((q_253 _).trans rfl)
theorem c_253 {K : gK} {d : Nat} {l0 : Nat} {l1 : Int32} {G : gH} : gle (t_253_0 K d l0 l1 G) (gCa K (d + 1) 253 [.ref l0, .int l1] G) := by
  have h : gent (gMx 253) [.ref l0, .int l1] = [some (.ref l0), some (.int l1)] := by
    show gent (gT 253).2.2.2.1 _ = _
    rw [m_253]; rfl
  exact fun r e => (congrArg (fun q => gRn K d 253 0 q [] G) h).trans (e_253_0 r e)
theorem q_254 {K : gK} (pc : Nat) : gP K 254 pc = ((gL_254 K).lookup pc).getD o_none := rfl
noncomputable def t_254_0 (K : gK) (d : Nat) (l0 : Int32) (l1 : Int32) (G : gH) : Option gO := if 0 ≤ (l0 + l1) then (if (2147483639 : Int32) < (l0 + l1) then (some (.inl (some (.int (l0 + l1))), G)) else (some (.inl (some (.int (2147483639 : Int32))), G))) else (none)
theorem e_254_0 {K : gK} {d : Nat} {l0 : Int32} {l1 : Int32} {G : gH} : gle (t_254_0 K d l0 l1 G) (gRn K d 254 0 [some (.int l0), some (.int l1), none] [] G) := by
  unfold t_254_0
  refine g_iload ((q_254 _).trans rfl) rfl ?_
  refine g_iload ((q_254 _).trans rfl) rfl ?_
  refine g_iadd ((q_254 _).trans rfl) ?_
  refine g_istore ((q_254 _).trans rfl) ?_
  refine g_iload ((q_254 _).trans rfl) rfl ?_
  refine g_ifge ((q_254 _).trans rfl) (fun _ => ?_) (fun _ => ?_)
  · refine g_iload ((q_254 _).trans rfl) rfl ?_
    refine g_push ((q_254 _).trans rfl) ?_
    refine g_cmpgt ((q_254 _).trans rfl) (fun _ => ?_) (fun _ => ?_)
    · refine g_iload ((q_254 _).trans rfl) rfl ?_
      exact g_iret ((q_254 _).trans rfl)
    · refine g_push ((q_254 _).trans rfl) ?_
      exact g_iret ((q_254 _).trans rfl)
  · exact gle.no
theorem c_254 {K : gK} {d : Nat} {l0 : Int32} {l1 : Int32} {G : gH} : gle (t_254_0 K d l0 l1 G) (gCa K (d + 1) 254 [.int l0, .int l1] G) := by
  have h : gent (gMx 254) [.int l0, .int l1] = [some (.int l0), some (.int l1), none] := by
    show gent (gT 254).2.2.2.1 _ = _
    rw [m_254]; rfl
  exact fun r e => (congrArg (fun q => gRn K d 254 0 q [] G) h).trans (e_254_0 r e)
theorem q_255 {K : gK} (pc : Nat) : gP K 255 pc = ((gL_255 K).lookup pc).getD o_none := rfl
noncomputable def t_255_0_1 (K : gK) (d : Nat) (G : gH) (G4 : gH) : Option gO := some (.inl (some (.ref (G.2.1))), G4)
noncomputable def t_255_0_2 (K : gK) (d : Nat) (l0 : Nat) (l1 : Int32) (l2 : Nat) (G : gH) (v3 : Int32) (G2 : gH) : Option gO := wC [some (.ref l0), some (.int l1), some (.ref l2), some (.ref (G.2.1))] [.int v3, .int (0 : Int32), .ref (G.2.1), .int (0 : Int32), .ref l0] G2 38 (t_255_0_1 K d G)
noncomputable def t_255_0_3 (K : gK) (d : Nat) (l1 : Int32) (G : gH) (l0 : Nat) (l2 : Nat) (v1 : Int32) : Option gO := cI (gCa K d 224 [.int v1, .int l1] (gnew G (.inl (5, (l1).toNatClampNeg, gQ (fun _ => none))) (l1).toNatClampNeg)) (t_255_0_2 K d l0 l1 l2 G)
noncomputable def t_255_0 (K : gK) (d : Nat) (l0 : Nat) (l1 : Int32) (l2 : Nat) (G : gH) : Option gO := if l2 = (K.2 6) then (if l1 < 0 ∨ 100000 < (l1).toNatClampNeg then none else (xL K (gnew G (.inl (5, (l1).toNatClampNeg, gQ (fun _ => none))) (l1).toNatClampNeg) l0 (t_255_0_3 K d l1 G l0 l2))) else (none)
theorem e_255_0 {K : gK} {d : Nat} {l0 : Nat} {l1 : Int32} {l2 : Nat} {G : gH} : gle (t_255_0 K d l0 l1 l2 G) (gRn K d 255 0 [some (.ref l0), some (.int l1), some (.ref l2), none] [] G) := by
  unfold t_255_0
  refine g_aload ((q_255 _).trans rfl) rfl ?_
  refine g_push ((q_255 _).trans rfl) ?_
  refine g_acmpne ((q_255 _).trans rfl) (fun _ => ?_) (fun _ => ?_)
  · refine g_iload ((q_255 _).trans rfl) rfl ?_
    refine g_newq ((q_255 _).trans rfl) (fun _ => ?_)
    refine g_goto ((q_255 _).trans rfl) ?_
    refine g_astore ((q_255 _).trans rfl) ?_
    refine g_aload ((q_255 _).trans rfl) rfl ?_
    refine g_push ((q_255 _).trans rfl) ?_
    refine g_aload ((q_255 _).trans rfl) rfl ?_
    refine g_push ((q_255 _).trans rfl) ?_
    refine g_aload ((q_255 _).trans rfl) rfl ?_
    refine g_alen ((q_255 _).trans rfl) (fun v1 => ?_)
    refine g_iload ((q_255 _).trans rfl) rfl ?_
    refine g_callS (kk := 2) ((q_255 _).trans rfl) (gHn m_255) (by exact ⟨Nat.le_of_ble_eq_true rfl, Nat.le_of_ble_eq_true rfl, rfl⟩) rfl (fun w G2 => gm_I (fun v3 hw => ?_))
    subst hw
    refine g_copy ((q_255 _).trans rfl) (fun G4 => ?_)
    refine g_aload ((q_255 _).trans rfl) rfl ?_
    exact g_aret ((q_255 _).trans rfl)
  · refine g_aload ((q_255 _).trans rfl) rfl ?_
    exact gle.no
theorem c_255 {K : gK} {d : Nat} {l0 : Nat} {l1 : Int32} {l2 : Nat} {G : gH} : gle (t_255_0 K d l0 l1 l2 G) (gCa K (d + 1) 255 [.ref l0, .int l1, .ref l2] G) := by
  have h : gent (gMx 255) [.ref l0, .int l1, .ref l2] = [some (.ref l0), some (.int l1), some (.ref l2), none] := by
    show gent (gT 255).2.2.2.1 _ = _
    rw [m_255]; rfl
  exact fun r e => (congrArg (fun q => gRn K d 255 0 q [] G) h).trans (e_255_0 r e)
