/-! PURE 6: the law and its wrappers as trees (printed by mkpure.py law) -/
set_option maxRecDepth 100000
theorem q_0 {K : gK} (pc : Nat) : gP K 0 pc = ((gL_0 K).lookup pc).getD o_none := rfl
noncomputable def t_0_0_1 (K : gK) (d : Nat) (l0 : Nat) (G : gH) (G1 : gH) (G3 : gH) : Option gO := if (1 : Int32) < 0 ∨ 100000 < ((1 : Int32)).toNatClampNeg then none else (if (1 : Int32) < 0 ∨ 100000 < ((1 : Int32)).toNatClampNeg then none else (gRn K d 0 28 [some (.ref l0), some (.ref (G.2.1)), some (.ref (G1.2.1)), some (.ref (G3.2.1)), some (.ref (gnew G3 (.inl (3, ((1 : Int32)).toNatClampNeg, gLo (fun _ => 0))) ((1 : Int32)).toNatClampNeg).2.1), some (.int (0 : Int32)), none, none, none] [] (gnew (gnew G3 (.inl (3, ((1 : Int32)).toNatClampNeg, gLo (fun _ => 0))) ((1 : Int32)).toNatClampNeg) (.inl (4, ((1 : Int32)).toNatClampNeg, gDo (fun _ => 0))) ((1 : Int32)).toNatClampNeg)))
noncomputable def t_0_0_2 (K : gK) (d : Nat) (l0 : Nat) (G : gH) (G1 : gH) : Option gO := cV (gCa K d 2 [.ref (G1.2.1)] (gnew G1 (.inr (3, [.int 0, .int 0, .int 0, .int 0, .int 0, .int 0, .null, .int 0, .null, .null, .null, .null, .null, .null, .null, .null, .null, .int 0, .int 0, .null, .null, .null, .null, .null, .null, .null, .null, .null, .int 0, .null, .null, .int 0, .long 0, .int 0, .null, .null, .int 0, .int 0, .int 0, .int 0, .null, .int 0, .null, .null, .null, .null, .null, .null, .int 0])) 49)) (t_0_0_1 K d l0 G G1)
noncomputable def t_0_0 (K : gK) (d : Nat) (l0 : Nat) (G : gH) : Option gO := cV (gCa K d 1 [.ref (G.2.1)] (gnew G (.inr (0, [.null, .null, .null, .null, .null, .null, .null, .null, .int 0, .int 0, .int 0, .int 0, .int 0, .int 0, .int 0, .long 0])) 16)) (t_0_0_2 K d l0 G)
theorem e_0_0 {K : gK} {d : Nat} {l0 : Nat} {G : gH} : gle (t_0_0 K d l0 G) (gRn K d 0 0 [some (.ref l0), none, none, none, none, none, none, none, none] [] G) := by
  unfold t_0_0
  refine g_new ((q_0 _).trans rfl) ?_
  refine g_dup_ref ((q_0 _).trans rfl) ?_
  refine g_callI (kk := 0) ((q_0 _).trans rfl) (gHn m_0) rfl (by exact ⟨Nat.le_of_ble_eq_true rfl, rfl⟩) rfl (fun w G1 => gm_V (fun hw => ?_))
  subst hw
  refine g_astore ((q_0 _).trans rfl) ?_
  refine g_new ((q_0 _).trans rfl) ?_
  refine g_dup_ref ((q_0 _).trans rfl) ?_
  refine g_callI (kk := 0) ((q_0 _).trans rfl) (gHn m_0) rfl (by exact ⟨Nat.le_of_ble_eq_true rfl, rfl⟩) rfl (fun w G3 => gm_V (fun hw => ?_))
  subst hw
  refine g_astore ((q_0 _).trans rfl) ?_
  refine g_push ((q_0 _).trans rfl) ?_
  refine g_newl ((q_0 _).trans rfl) (fun _ => ?_)
  refine g_astore ((q_0 _).trans rfl) ?_
  refine g_push ((q_0 _).trans rfl) ?_
  refine g_newd ((q_0 _).trans rfl) (fun _ => ?_)
  refine g_astore ((q_0 _).trans rfl) ?_
  refine g_push ((q_0 _).trans rfl) ?_
  refine g_istore ((q_0 _).trans rfl) ?_
  exact gle.rf _
theorem c_0 {K : gK} {d : Nat} {l0 : Nat} {G : gH} : gle (t_0_0 K d l0 G) (gCa K (d + 1) 0 [.ref l0] G) := by
  have h : gent (gMx 0) [.ref l0] = [some (.ref l0), none, none, none, none, none, none, none, none] := by
    show gent (gT 0).2.2.2.1 _ = _
    rw [m_0]; rfl
  exact fun r e => (congrArg (fun q => gRn K d 0 0 q [] G) h).trans (e_0_0 r e)
noncomputable def t_0_28 (K : gK) (d : Nat) (l0 : Nat) (l1 : Nat) (l2 : Nat) (l3 : Nat) (l4 : Nat) (l5 : Int32) (o6 : Option Value) (o7 : Option Value) (o8 : Option Value) (G : gH) : Option gO := if l0 = K.1.1 then (if ((Int32.ofNat K.1.2.1) - (6 : Int32)) < l5 then (if narrow .boolean (.int (1 : Int32)) = .int (1 : Int32) then some (.inl (some (.int (1 : Int32))), G) else none) else (if l0 = K.1.1 ∧ ¬ (l5 < 0 ∨ K.1.2.1 ≤ (l5).toNatClampNeg) then (gRn K d 0 (if ((K.1.2.2 (l5).toNatClampNeg) &&& (63 : Int32)) < 0 then 2545 else [220, 316, 395, 463, 476, 562, 642, 734, 790, 910, 1030, 1114, 1170, 1183, 1196, 1252, 1308, 1364, 1432, 1500, 1513, 1526, 1582, 1626, 1706, 1762, 1818, 1874, 1930, 1943, 1999, 2083, 2139, 2195, 2263, 2319, 2387, 2401, 2467, 2532].getD (((K.1.2.2 (l5).toNatClampNeg) &&& (63 : Int32))).toNatClampNeg 2545) [some (.ref l0), some (.ref l1), some (.ref l2), some (.ref l3), some (.ref l4), some (.int l5), o6, o7, o8] [] G) else none)) else none
theorem e_0_28 {K : gK} {d : Nat} {l0 : Nat} {l1 : Nat} {l2 : Nat} {l3 : Nat} {l4 : Nat} {l5 : Int32} {o6 : Option Value} {o7 : Option Value} {o8 : Option Value} {G : gH} : gle (t_0_28 K d l0 l1 l2 l3 l4 l5 o6 o7 o8 G) (gRn K d 0 28 [some (.ref l0), some (.ref l1), some (.ref l2), some (.ref l3), some (.ref l4), some (.int l5), o6, o7, o8] [] G) := by
  unfold t_0_28
  refine g_iload ((q_0 _).trans rfl) rfl ?_
  refine g_aload ((q_0 _).trans rfl) rfl ?_
  refine g_slen ((q_0 _).trans rfl) ?_
  refine g_push ((q_0 _).trans rfl) ?_
  refine g_isub ((q_0 _).trans rfl) ?_
  refine g_cmpgt ((q_0 _).trans rfl) (fun _ => ?_) (fun _ => ?_)
  · refine g_push ((q_0 _).trans rfl) ?_
    exact g_zret ((q_0 _).trans rfl)
  · refine g_aload ((q_0 _).trans rfl) rfl ?_
    refine g_iload ((q_0 _).trans rfl) rfl ?_
    refine g_sld ((q_0 _).trans rfl) ?_
    refine g_push ((q_0 _).trans rfl) ?_
    refine g_iand ((q_0 _).trans rfl) ?_
    exact g_switch ((q_0 _).trans rfl)
noncomputable def t_0_220_1 (K : gK) (d : Nat) (l0 : Nat) (l1 : Nat) (l2 : Nat) (l3 : Nat) (l4 : Nat) (l5 : Int32) (o7 : Option Value) (o8 : Option Value) (v2 : Int32) (G1 : gH) : Option gO := gRn K d 0 253 [some (.ref l0), some (.ref l1), some (.ref l2), some (.ref l3), some (.ref l4), some (.int l5), some (.int v2), o7, o8] [] G1
noncomputable def t_0_220_2 (K : gK) (d : Nat) (l0 : Nat) (l1 : Nat) (l2 : Nat) (l3 : Nat) (l4 : Nat) (l5 : Int32) (o7 : Option Value) (o8 : Option Value) (v4 : Int32) (G3 : gH) : Option gO := gRn K d 0 253 [some (.ref l0), some (.ref l1), some (.ref l2), some (.ref l3), some (.ref l4), some (.int l5), some (.int v4), o7, o8] [] G3
noncomputable def t_0_220 (K : gK) (d : Nat) (l0 : Nat) (l1 : Nat) (l2 : Nat) (l3 : Nat) (l4 : Nat) (l5 : Int32) (o6 : Option Value) (o7 : Option Value) (o8 : Option Value) (G : gH) : Option gO := if l0 = K.1.1 ∧ ¬ ((l5 + (1 : Int32)) < 0 ∨ K.1.2.1 ≤ ((l5 + (1 : Int32))).toNatClampNeg) then (if l0 = K.1.1 ∧ ¬ ((l5 + (2 : Int32)) < 0 ∨ K.1.2.1 ≤ ((l5 + (2 : Int32))).toNatClampNeg) then (if (K.1.2.2 ((l5 + (2 : Int32))).toNatClampNeg) = 0 then (if l0 = K.1.1 ∧ ¬ ((l5 + (3 : Int32)) < 0 ∨ K.1.2.1 ≤ ((l5 + (3 : Int32))).toNatClampNeg) then (cI (gCa K d 3 [.ref l1, .int (K.1.2.2 ((l5 + (1 : Int32))).toNatClampNeg), .int (0 : Int32), .int (K.1.2.2 ((l5 + (3 : Int32))).toNatClampNeg), .ref l3] G) (t_0_220_1 K d l0 l1 l2 l3 l4 l5 o7 o8)) else none) else (if l0 = K.1.1 ∧ ¬ ((l5 + (3 : Int32)) < 0 ∨ K.1.2.1 ≤ ((l5 + (3 : Int32))).toNatClampNeg) then (cI (gCa K d 3 [.ref l1, .int (K.1.2.2 ((l5 + (1 : Int32))).toNatClampNeg), .int (1 : Int32), .int (K.1.2.2 ((l5 + (3 : Int32))).toNatClampNeg), .ref l3] G) (t_0_220_2 K d l0 l1 l2 l3 l4 l5 o7 o8)) else none)) else none) else none
theorem e_0_220 {K : gK} {d : Nat} {l0 : Nat} {l1 : Nat} {l2 : Nat} {l3 : Nat} {l4 : Nat} {l5 : Int32} {o6 : Option Value} {o7 : Option Value} {o8 : Option Value} {G : gH} : gle (t_0_220 K d l0 l1 l2 l3 l4 l5 o6 o7 o8 G) (gRn K d 0 220 [some (.ref l0), some (.ref l1), some (.ref l2), some (.ref l3), some (.ref l4), some (.int l5), o6, o7, o8] [] G) := by
  unfold t_0_220
  refine g_aload ((q_0 _).trans rfl) rfl ?_
  refine g_aload ((q_0 _).trans rfl) rfl ?_
  refine g_iload ((q_0 _).trans rfl) rfl ?_
  refine g_push ((q_0 _).trans rfl) ?_
  refine g_iadd ((q_0 _).trans rfl) ?_
  refine g_sld ((q_0 _).trans rfl) ?_
  refine g_aload ((q_0 _).trans rfl) rfl ?_
  refine g_iload ((q_0 _).trans rfl) rfl ?_
  refine g_push ((q_0 _).trans rfl) ?_
  refine g_iadd ((q_0 _).trans rfl) ?_
  refine g_sld ((q_0 _).trans rfl) ?_
  refine g_ifeq ((q_0 _).trans rfl) (fun _ => ?_) (fun _ => ?_)
  · refine g_push ((q_0 _).trans rfl) ?_
    refine g_aload ((q_0 _).trans rfl) rfl ?_
    refine g_iload ((q_0 _).trans rfl) rfl ?_
    refine g_push ((q_0 _).trans rfl) ?_
    refine g_iadd ((q_0 _).trans rfl) ?_
    refine g_sld ((q_0 _).trans rfl) ?_
    refine g_aload ((q_0 _).trans rfl) rfl ?_
    refine g_callS (kk := 5) ((q_0 _).trans rfl) (gHn m_0) (by exact ⟨Nat.le_of_ble_eq_true rfl, Nat.le_of_ble_eq_true rfl, rfl⟩) rfl (fun w G1 => gm_I (fun v2 hw => ?_))
    subst hw
    refine g_istore ((q_0 _).trans rfl) ?_
    exact gle.rf _
  · refine g_push ((q_0 _).trans rfl) ?_
    refine g_goto ((q_0 _).trans rfl) ?_
    refine g_aload ((q_0 _).trans rfl) rfl ?_
    refine g_iload ((q_0 _).trans rfl) rfl ?_
    refine g_push ((q_0 _).trans rfl) ?_
    refine g_iadd ((q_0 _).trans rfl) ?_
    refine g_sld ((q_0 _).trans rfl) ?_
    refine g_aload ((q_0 _).trans rfl) rfl ?_
    refine g_callS (kk := 5) ((q_0 _).trans rfl) (gHn m_0) (by exact ⟨Nat.le_of_ble_eq_true rfl, Nat.le_of_ble_eq_true rfl, rfl⟩) rfl (fun w G3 => gm_I (fun v4 hw => ?_))
    subst hw
    refine g_istore ((q_0 _).trans rfl) ?_
    exact gle.rf _
noncomputable def t_0_316_1 (K : gK) (d : Nat) (l0 : Nat) (l1 : Nat) (l2 : Nat) (l3 : Nat) (l4 : Nat) (l5 : Int32) (o7 : Option Value) (o8 : Option Value) (v2 : Int32) (G1 : gH) : Option gO := gRn K d 0 337 [some (.ref l0), some (.ref l1), some (.ref l2), some (.ref l3), some (.ref l4), some (.int l5), some (.int v2), o7, o8] [] G1
noncomputable def t_0_316_2 (K : gK) (d : Nat) (l0 : Nat) (l1 : Nat) (l2 : Nat) (l3 : Nat) (l4 : Nat) (l5 : Int32) (o7 : Option Value) (o8 : Option Value) (v4 : Int32) (G3 : gH) : Option gO := gRn K d 0 337 [some (.ref l0), some (.ref l1), some (.ref l2), some (.ref l3), some (.ref l4), some (.int l5), some (.int v4), o7, o8] [] G3
noncomputable def t_0_316 (K : gK) (d : Nat) (l0 : Nat) (l1 : Nat) (l2 : Nat) (l3 : Nat) (l4 : Nat) (l5 : Int32) (o6 : Option Value) (o7 : Option Value) (o8 : Option Value) (G : gH) : Option gO := if l0 = K.1.1 ∧ ¬ ((l5 + (1 : Int32)) < 0 ∨ K.1.2.1 ≤ ((l5 + (1 : Int32))).toNatClampNeg) then (if (K.1.2.2 ((l5 + (1 : Int32))).toNatClampNeg) = 0 then (cI (gCa K d 6 [.ref l1, .int (0 : Int32), .ref l3] G) (t_0_316_1 K d l0 l1 l2 l3 l4 l5 o7 o8)) else (cI (gCa K d 6 [.ref l1, .int (1 : Int32), .ref l3] G) (t_0_316_2 K d l0 l1 l2 l3 l4 l5 o7 o8))) else none
theorem e_0_316 {K : gK} {d : Nat} {l0 : Nat} {l1 : Nat} {l2 : Nat} {l3 : Nat} {l4 : Nat} {l5 : Int32} {o6 : Option Value} {o7 : Option Value} {o8 : Option Value} {G : gH} : gle (t_0_316 K d l0 l1 l2 l3 l4 l5 o6 o7 o8 G) (gRn K d 0 316 [some (.ref l0), some (.ref l1), some (.ref l2), some (.ref l3), some (.ref l4), some (.int l5), o6, o7, o8] [] G) := by
  unfold t_0_316
  refine g_aload ((q_0 _).trans rfl) rfl ?_
  refine g_aload ((q_0 _).trans rfl) rfl ?_
  refine g_iload ((q_0 _).trans rfl) rfl ?_
  refine g_push ((q_0 _).trans rfl) ?_
  refine g_iadd ((q_0 _).trans rfl) ?_
  refine g_sld ((q_0 _).trans rfl) ?_
  refine g_ifeq ((q_0 _).trans rfl) (fun _ => ?_) (fun _ => ?_)
  · refine g_push ((q_0 _).trans rfl) ?_
    refine g_aload ((q_0 _).trans rfl) rfl ?_
    refine g_callS (kk := 3) ((q_0 _).trans rfl) (gHn m_0) (by exact ⟨Nat.le_of_ble_eq_true rfl, Nat.le_of_ble_eq_true rfl, rfl⟩) rfl (fun w G1 => gm_I (fun v2 hw => ?_))
    subst hw
    refine g_istore ((q_0 _).trans rfl) ?_
    exact gle.rf _
  · refine g_push ((q_0 _).trans rfl) ?_
    refine g_goto ((q_0 _).trans rfl) ?_
    refine g_aload ((q_0 _).trans rfl) rfl ?_
    refine g_callS (kk := 3) ((q_0 _).trans rfl) (gHn m_0) (by exact ⟨Nat.le_of_ble_eq_true rfl, Nat.le_of_ble_eq_true rfl, rfl⟩) rfl (fun w G3 => gm_I (fun v4 hw => ?_))
    subst hw
    refine g_istore ((q_0 _).trans rfl) ?_
    exact gle.rf _
noncomputable def t_0_395_1 (K : gK) (d : Nat) (l0 : Nat) (l1 : Nat) (l2 : Nat) (l3 : Nat) (l4 : Nat) (l5 : Int32) (o7 : Option Value) (o8 : Option Value) (v2 : Int32) (G1 : gH) : Option gO := gRn K d 0 414 [some (.ref l0), some (.ref l1), some (.ref l2), some (.ref l3), some (.ref l4), some (.int l5), some (.int v2), o7, o8] [] G1
noncomputable def t_0_395 (K : gK) (d : Nat) (l0 : Nat) (l1 : Nat) (l2 : Nat) (l3 : Nat) (l4 : Nat) (l5 : Int32) (o6 : Option Value) (o7 : Option Value) (o8 : Option Value) (G : gH) : Option gO := if l0 = K.1.1 ∧ ¬ ((l5 + (1 : Int32)) < 0 ∨ K.1.2.1 ≤ ((l5 + (1 : Int32))).toNatClampNeg) then (if l0 = K.1.1 ∧ ¬ ((l5 + (2 : Int32)) < 0 ∨ K.1.2.1 ≤ ((l5 + (2 : Int32))).toNatClampNeg) then (cI (gCa K d 8 [.ref l1, .int (K.1.2.2 ((l5 + (1 : Int32))).toNatClampNeg), .int (K.1.2.2 ((l5 + (2 : Int32))).toNatClampNeg), .ref l3] G) (t_0_395_1 K d l0 l1 l2 l3 l4 l5 o7 o8)) else none) else none
theorem e_0_395 {K : gK} {d : Nat} {l0 : Nat} {l1 : Nat} {l2 : Nat} {l3 : Nat} {l4 : Nat} {l5 : Int32} {o6 : Option Value} {o7 : Option Value} {o8 : Option Value} {G : gH} : gle (t_0_395 K d l0 l1 l2 l3 l4 l5 o6 o7 o8 G) (gRn K d 0 395 [some (.ref l0), some (.ref l1), some (.ref l2), some (.ref l3), some (.ref l4), some (.int l5), o6, o7, o8] [] G) := by
  unfold t_0_395
  refine g_aload ((q_0 _).trans rfl) rfl ?_
  refine g_aload ((q_0 _).trans rfl) rfl ?_
  refine g_iload ((q_0 _).trans rfl) rfl ?_
  refine g_push ((q_0 _).trans rfl) ?_
  refine g_iadd ((q_0 _).trans rfl) ?_
  refine g_sld ((q_0 _).trans rfl) ?_
  refine g_aload ((q_0 _).trans rfl) rfl ?_
  refine g_iload ((q_0 _).trans rfl) rfl ?_
  refine g_push ((q_0 _).trans rfl) ?_
  refine g_iadd ((q_0 _).trans rfl) ?_
  refine g_sld ((q_0 _).trans rfl) ?_
  refine g_aload ((q_0 _).trans rfl) rfl ?_
  refine g_callS (kk := 4) ((q_0 _).trans rfl) (gHn m_0) (by exact ⟨Nat.le_of_ble_eq_true rfl, Nat.le_of_ble_eq_true rfl, rfl⟩) rfl (fun w G1 => gm_I (fun v2 hw => ?_))
  subst hw
  refine g_istore ((q_0 _).trans rfl) ?_
  exact gle.rf _
noncomputable def t_0_463_1 (K : gK) (d : Nat) (v2 : Int32) (l0 : Nat) (l1 : Nat) (l2 : Nat) (l3 : Nat) (l4 : Nat) (l5 : Int32) (o6 : Option Value) (o7 : Option Value) (o8 : Option Value) (v4 : Int32) (G3 : gH) : Option gO := if v2 = v4 then (gRn K d 0 2545 [some (.ref l0), some (.ref l1), some (.ref l2), some (.ref l3), some (.ref l4), some (.int l5), o6, o7, o8] [] G3) else (if narrow .boolean (.int (0 : Int32)) = .int (0 : Int32) then some (.inl (some (.int (0 : Int32))), G3) else none)
noncomputable def t_0_463_2 (K : gK) (d : Nat) (l2 : Nat) (l0 : Nat) (l1 : Nat) (l3 : Nat) (l4 : Nat) (l5 : Int32) (o6 : Option Value) (o7 : Option Value) (o8 : Option Value) (v2 : Int32) (G1 : gH) : Option gO := if g_cls G1 l2 = some 3 then (cI (gCa K d 11 [.ref l2] G1) (t_0_463_1 K d v2 l0 l1 l2 l3 l4 l5 o6 o7 o8)) else none
noncomputable def t_0_463 (K : gK) (d : Nat) (l0 : Nat) (l1 : Nat) (l2 : Nat) (l3 : Nat) (l4 : Nat) (l5 : Int32) (o6 : Option Value) (o7 : Option Value) (o8 : Option Value) (G : gH) : Option gO := if g_cls G l1 = some 0 then (cI (gCa K d 10 [.ref l1] G) (t_0_463_2 K d l2 l0 l1 l3 l4 l5 o6 o7 o8)) else none
theorem e_0_463 {K : gK} {d : Nat} {l0 : Nat} {l1 : Nat} {l2 : Nat} {l3 : Nat} {l4 : Nat} {l5 : Int32} {o6 : Option Value} {o7 : Option Value} {o8 : Option Value} {G : gH} : gle (t_0_463 K d l0 l1 l2 l3 l4 l5 o6 o7 o8 G) (gRn K d 0 463 [some (.ref l0), some (.ref l1), some (.ref l2), some (.ref l3), some (.ref l4), some (.int l5), o6, o7, o8] [] G) := by
  unfold t_0_463
  refine g_aload ((q_0 _).trans rfl) rfl ?_
  refine g_callV (kk := 0) ((q_0 _).trans rfl) (gHn m_0) rfl (by exact ⟨Nat.le_of_ble_eq_true rfl, rfl⟩) rfl (fun w G1 => gm_I (fun v2 hw => ?_))
  subst hw
  refine g_aload ((q_0 _).trans rfl) rfl ?_
  refine g_callV (kk := 0) ((q_0 _).trans rfl) (gHn m_0) rfl (by exact ⟨Nat.le_of_ble_eq_true rfl, rfl⟩) rfl (fun w G3 => gm_I (fun v4 hw => ?_))
  subst hw
  refine g_cmpeq ((q_0 _).trans rfl) (fun _ => ?_) (fun _ => ?_)
  · exact gle.rf _
  · refine g_push ((q_0 _).trans rfl) ?_
    exact g_zret ((q_0 _).trans rfl)
noncomputable def t_0_476_1 (K : gK) (d : Nat) (l0 : Nat) (l1 : Nat) (l2 : Nat) (l3 : Nat) (l4 : Nat) (l5 : Int32) (o7 : Option Value) (o8 : Option Value) (v2 : Int32) (G1 : gH) : Option gO := gRn K d 0 504 [some (.ref l0), some (.ref l1), some (.ref l2), some (.ref l3), some (.ref l4), some (.int l5), some (.int v2), o7, o8] [] G1
noncomputable def t_0_476_2 (K : gK) (d : Nat) (l0 : Nat) (l1 : Nat) (l2 : Nat) (l3 : Nat) (l4 : Nat) (l5 : Int32) (o7 : Option Value) (o8 : Option Value) (v4 : Int32) (G3 : gH) : Option gO := gRn K d 0 504 [some (.ref l0), some (.ref l1), some (.ref l2), some (.ref l3), some (.ref l4), some (.int l5), some (.int v4), o7, o8] [] G3
noncomputable def t_0_476 (K : gK) (d : Nat) (l0 : Nat) (l1 : Nat) (l2 : Nat) (l3 : Nat) (l4 : Nat) (l5 : Int32) (o6 : Option Value) (o7 : Option Value) (o8 : Option Value) (G : gH) : Option gO := if l0 = K.1.1 ∧ ¬ ((l5 + (1 : Int32)) < 0 ∨ K.1.2.1 ≤ ((l5 + (1 : Int32))).toNatClampNeg) then (if l0 = K.1.1 ∧ ¬ ((l5 + (2 : Int32)) < 0 ∨ K.1.2.1 ≤ ((l5 + (2 : Int32))).toNatClampNeg) then (if (K.1.2.2 ((l5 + (2 : Int32))).toNatClampNeg) = 0 then (cI (gCa K d 12 [.ref l1, .int (((K.1.2.2 ((l5 + (1 : Int32))).toNatClampNeg)).toUInt32 % 65536).toInt32, .int (0 : Int32), .ref l3] G) (t_0_476_1 K d l0 l1 l2 l3 l4 l5 o7 o8)) else (cI (gCa K d 12 [.ref l1, .int (((K.1.2.2 ((l5 + (1 : Int32))).toNatClampNeg)).toUInt32 % 65536).toInt32, .int (1 : Int32), .ref l3] G) (t_0_476_2 K d l0 l1 l2 l3 l4 l5 o7 o8))) else none) else none
theorem e_0_476 {K : gK} {d : Nat} {l0 : Nat} {l1 : Nat} {l2 : Nat} {l3 : Nat} {l4 : Nat} {l5 : Int32} {o6 : Option Value} {o7 : Option Value} {o8 : Option Value} {G : gH} : gle (t_0_476 K d l0 l1 l2 l3 l4 l5 o6 o7 o8 G) (gRn K d 0 476 [some (.ref l0), some (.ref l1), some (.ref l2), some (.ref l3), some (.ref l4), some (.int l5), o6, o7, o8] [] G) := by
  unfold t_0_476
  refine g_aload ((q_0 _).trans rfl) rfl ?_
  refine g_aload ((q_0 _).trans rfl) rfl ?_
  refine g_iload ((q_0 _).trans rfl) rfl ?_
  refine g_push ((q_0 _).trans rfl) ?_
  refine g_iadd ((q_0 _).trans rfl) ?_
  refine g_sld ((q_0 _).trans rfl) ?_
  refine g_i2c ((q_0 _).trans rfl) ?_
  refine g_aload ((q_0 _).trans rfl) rfl ?_
  refine g_iload ((q_0 _).trans rfl) rfl ?_
  refine g_push ((q_0 _).trans rfl) ?_
  refine g_iadd ((q_0 _).trans rfl) ?_
  refine g_sld ((q_0 _).trans rfl) ?_
  refine g_ifeq ((q_0 _).trans rfl) (fun _ => ?_) (fun _ => ?_)
  · refine g_push ((q_0 _).trans rfl) ?_
    refine g_aload ((q_0 _).trans rfl) rfl ?_
    refine g_callS (kk := 4) ((q_0 _).trans rfl) (gHn m_0) (by exact ⟨Nat.le_of_ble_eq_true rfl, Nat.le_of_ble_eq_true rfl, rfl⟩) rfl (fun w G1 => gm_I (fun v2 hw => ?_))
    subst hw
    refine g_istore ((q_0 _).trans rfl) ?_
    exact gle.rf _
  · refine g_push ((q_0 _).trans rfl) ?_
    refine g_goto ((q_0 _).trans rfl) ?_
    refine g_aload ((q_0 _).trans rfl) rfl ?_
    refine g_callS (kk := 4) ((q_0 _).trans rfl) (gHn m_0) (by exact ⟨Nat.le_of_ble_eq_true rfl, Nat.le_of_ble_eq_true rfl, rfl⟩) rfl (fun w G3 => gm_I (fun v4 hw => ?_))
    subst hw
    refine g_istore ((q_0 _).trans rfl) ?_
    exact gle.rf _
noncomputable def t_0_562_1 (K : gK) (d : Nat) (l0 : Nat) (l1 : Nat) (l2 : Nat) (l3 : Nat) (l4 : Nat) (l5 : Int32) (o7 : Option Value) (o8 : Option Value) (v2 : Int32) (G1 : gH) : Option gO := gRn K d 0 587 [some (.ref l0), some (.ref l1), some (.ref l2), some (.ref l3), some (.ref l4), some (.int l5), some (.int v2), o7, o8] [] G1
noncomputable def t_0_562 (K : gK) (d : Nat) (l0 : Nat) (l1 : Nat) (l2 : Nat) (l3 : Nat) (l4 : Nat) (l5 : Int32) (o6 : Option Value) (o7 : Option Value) (o8 : Option Value) (G : gH) : Option gO := if l0 = K.1.1 ∧ ¬ ((l5 + (1 : Int32)) < 0 ∨ K.1.2.1 ≤ ((l5 + (1 : Int32))).toNatClampNeg) then (if l0 = K.1.1 ∧ ¬ ((l5 + (2 : Int32)) < 0 ∨ K.1.2.1 ≤ ((l5 + (2 : Int32))).toNatClampNeg) then (if l0 = K.1.1 ∧ ¬ ((l5 + (3 : Int32)) < 0 ∨ K.1.2.1 ≤ ((l5 + (3 : Int32))).toNatClampNeg) then (cI (gCa K d 14 [.ref l1, .int (K.1.2.2 ((l5 + (1 : Int32))).toNatClampNeg), .int (K.1.2.2 ((l5 + (2 : Int32))).toNatClampNeg), .int (K.1.2.2 ((l5 + (3 : Int32))).toNatClampNeg), .ref l3] G) (t_0_562_1 K d l0 l1 l2 l3 l4 l5 o7 o8)) else none) else none) else none
theorem e_0_562 {K : gK} {d : Nat} {l0 : Nat} {l1 : Nat} {l2 : Nat} {l3 : Nat} {l4 : Nat} {l5 : Int32} {o6 : Option Value} {o7 : Option Value} {o8 : Option Value} {G : gH} : gle (t_0_562 K d l0 l1 l2 l3 l4 l5 o6 o7 o8 G) (gRn K d 0 562 [some (.ref l0), some (.ref l1), some (.ref l2), some (.ref l3), some (.ref l4), some (.int l5), o6, o7, o8] [] G) := by
  unfold t_0_562
  refine g_aload ((q_0 _).trans rfl) rfl ?_
  refine g_aload ((q_0 _).trans rfl) rfl ?_
  refine g_iload ((q_0 _).trans rfl) rfl ?_
  refine g_push ((q_0 _).trans rfl) ?_
  refine g_iadd ((q_0 _).trans rfl) ?_
  refine g_sld ((q_0 _).trans rfl) ?_
  refine g_aload ((q_0 _).trans rfl) rfl ?_
  refine g_iload ((q_0 _).trans rfl) rfl ?_
  refine g_push ((q_0 _).trans rfl) ?_
  refine g_iadd ((q_0 _).trans rfl) ?_
  refine g_sld ((q_0 _).trans rfl) ?_
  refine g_aload ((q_0 _).trans rfl) rfl ?_
  refine g_iload ((q_0 _).trans rfl) rfl ?_
  refine g_push ((q_0 _).trans rfl) ?_
  refine g_iadd ((q_0 _).trans rfl) ?_
  refine g_sld ((q_0 _).trans rfl) ?_
  refine g_aload ((q_0 _).trans rfl) rfl ?_
  refine g_callS (kk := 5) ((q_0 _).trans rfl) (gHn m_0) (by exact ⟨Nat.le_of_ble_eq_true rfl, Nat.le_of_ble_eq_true rfl, rfl⟩) rfl (fun w G1 => gm_I (fun v2 hw => ?_))
  subst hw
  refine g_istore ((q_0 _).trans rfl) ?_
  exact gle.rf _
noncomputable def t_0_642_1 (K : gK) (d : Nat) (l0 : Nat) (l1 : Nat) (l2 : Nat) (l3 : Nat) (l4 : Nat) (l5 : Int32) (o7 : Option Value) (o8 : Option Value) (v2 : Int32) (G1 : gH) : Option gO := gRn K d 0 673 [some (.ref l0), some (.ref l1), some (.ref l2), some (.ref l3), some (.ref l4), some (.int l5), some (.int v2), o7, o8] [] G1
noncomputable def t_0_642 (K : gK) (d : Nat) (l0 : Nat) (l1 : Nat) (l2 : Nat) (l3 : Nat) (l4 : Nat) (l5 : Int32) (o6 : Option Value) (o7 : Option Value) (o8 : Option Value) (G : gH) : Option gO := if l0 = K.1.1 ∧ ¬ ((l5 + (1 : Int32)) < 0 ∨ K.1.2.1 ≤ ((l5 + (1 : Int32))).toNatClampNeg) then (if l0 = K.1.1 ∧ ¬ ((l5 + (2 : Int32)) < 0 ∨ K.1.2.1 ≤ ((l5 + (2 : Int32))).toNatClampNeg) then (if l0 = K.1.1 ∧ ¬ ((l5 + (3 : Int32)) < 0 ∨ K.1.2.1 ≤ ((l5 + (3 : Int32))).toNatClampNeg) then (if l0 = K.1.1 ∧ ¬ ((l5 + (4 : Int32)) < 0 ∨ K.1.2.1 ≤ ((l5 + (4 : Int32))).toNatClampNeg) then (cI (gCa K d 16 [.ref l1, .int (K.1.2.2 ((l5 + (1 : Int32))).toNatClampNeg), .int (K.1.2.2 ((l5 + (2 : Int32))).toNatClampNeg), .int (K.1.2.2 ((l5 + (3 : Int32))).toNatClampNeg), .int (K.1.2.2 ((l5 + (4 : Int32))).toNatClampNeg), .ref l3] G) (t_0_642_1 K d l0 l1 l2 l3 l4 l5 o7 o8)) else none) else none) else none) else none
theorem e_0_642 {K : gK} {d : Nat} {l0 : Nat} {l1 : Nat} {l2 : Nat} {l3 : Nat} {l4 : Nat} {l5 : Int32} {o6 : Option Value} {o7 : Option Value} {o8 : Option Value} {G : gH} : gle (t_0_642 K d l0 l1 l2 l3 l4 l5 o6 o7 o8 G) (gRn K d 0 642 [some (.ref l0), some (.ref l1), some (.ref l2), some (.ref l3), some (.ref l4), some (.int l5), o6, o7, o8] [] G) := by
  unfold t_0_642
  refine g_aload ((q_0 _).trans rfl) rfl ?_
  refine g_aload ((q_0 _).trans rfl) rfl ?_
  refine g_iload ((q_0 _).trans rfl) rfl ?_
  refine g_push ((q_0 _).trans rfl) ?_
  refine g_iadd ((q_0 _).trans rfl) ?_
  refine g_sld ((q_0 _).trans rfl) ?_
  refine g_aload ((q_0 _).trans rfl) rfl ?_
  refine g_iload ((q_0 _).trans rfl) rfl ?_
  refine g_push ((q_0 _).trans rfl) ?_
  refine g_iadd ((q_0 _).trans rfl) ?_
  refine g_sld ((q_0 _).trans rfl) ?_
  refine g_aload ((q_0 _).trans rfl) rfl ?_
  refine g_iload ((q_0 _).trans rfl) rfl ?_
  refine g_push ((q_0 _).trans rfl) ?_
  refine g_iadd ((q_0 _).trans rfl) ?_
  refine g_sld ((q_0 _).trans rfl) ?_
  refine g_aload ((q_0 _).trans rfl) rfl ?_
  refine g_iload ((q_0 _).trans rfl) rfl ?_
  refine g_push ((q_0 _).trans rfl) ?_
  refine g_iadd ((q_0 _).trans rfl) ?_
  refine g_sld ((q_0 _).trans rfl) ?_
  refine g_aload ((q_0 _).trans rfl) rfl ?_
  refine g_callS (kk := 6) ((q_0 _).trans rfl) (gHn m_0) (by exact ⟨Nat.le_of_ble_eq_true rfl, Nat.le_of_ble_eq_true rfl, rfl⟩) rfl (fun w G1 => gm_I (fun v2 hw => ?_))
  subst hw
  refine g_istore ((q_0 _).trans rfl) ?_
  exact gle.rf _
noncomputable def t_0_734_1 (K : gK) (d : Nat) (l0 : Nat) (l1 : Nat) (l2 : Nat) (l3 : Nat) (l4 : Nat) (l5 : Int32) (o7 : Option Value) (o8 : Option Value) (v2 : Int32) (G1 : gH) : Option gO := gRn K d 0 747 [some (.ref l0), some (.ref l1), some (.ref l2), some (.ref l3), some (.ref l4), some (.int l5), some (.int v2), o7, o8] [] G1
noncomputable def t_0_734 (K : gK) (d : Nat) (l0 : Nat) (l1 : Nat) (l2 : Nat) (l3 : Nat) (l4 : Nat) (l5 : Int32) (o6 : Option Value) (o7 : Option Value) (o8 : Option Value) (G : gH) : Option gO := if l0 = K.1.1 ∧ ¬ ((l5 + (1 : Int32)) < 0 ∨ K.1.2.1 ≤ ((l5 + (1 : Int32))).toNatClampNeg) then (cI (gCa K d 18 [.ref l1, .int (K.1.2.2 ((l5 + (1 : Int32))).toNatClampNeg), .ref l3] G) (t_0_734_1 K d l0 l1 l2 l3 l4 l5 o7 o8)) else none
theorem e_0_734 {K : gK} {d : Nat} {l0 : Nat} {l1 : Nat} {l2 : Nat} {l3 : Nat} {l4 : Nat} {l5 : Int32} {o6 : Option Value} {o7 : Option Value} {o8 : Option Value} {G : gH} : gle (t_0_734 K d l0 l1 l2 l3 l4 l5 o6 o7 o8 G) (gRn K d 0 734 [some (.ref l0), some (.ref l1), some (.ref l2), some (.ref l3), some (.ref l4), some (.int l5), o6, o7, o8] [] G) := by
  unfold t_0_734
  refine g_aload ((q_0 _).trans rfl) rfl ?_
  refine g_aload ((q_0 _).trans rfl) rfl ?_
  refine g_iload ((q_0 _).trans rfl) rfl ?_
  refine g_push ((q_0 _).trans rfl) ?_
  refine g_iadd ((q_0 _).trans rfl) ?_
  refine g_sld ((q_0 _).trans rfl) ?_
  refine g_aload ((q_0 _).trans rfl) rfl ?_
  refine g_callS (kk := 3) ((q_0 _).trans rfl) (gHn m_0) (by exact ⟨Nat.le_of_ble_eq_true rfl, Nat.le_of_ble_eq_true rfl, rfl⟩) rfl (fun w G1 => gm_I (fun v2 hw => ?_))
  subst hw
  refine g_istore ((q_0 _).trans rfl) ?_
  exact gle.rf _
noncomputable def t_0_790_1 (K : gK) (d : Nat) (l0 : Nat) (l1 : Nat) (l2 : Nat) (l3 : Nat) (l4 : Nat) (l5 : Int32) (o7 : Option Value) (o8 : Option Value) (v2 : Int32) (G1 : gH) : Option gO := gRn K d 0 835 [some (.ref l0), some (.ref l1), some (.ref l2), some (.ref l3), some (.ref l4), some (.int l5), some (.int v2), o7, o8] [] G1
noncomputable def t_0_790_2 (K : gK) (d : Nat) (l0 : Nat) (l1 : Nat) (l2 : Nat) (l3 : Nat) (l4 : Nat) (l5 : Int32) (o7 : Option Value) (o8 : Option Value) (v4 : Int32) (G3 : gH) : Option gO := gRn K d 0 835 [some (.ref l0), some (.ref l1), some (.ref l2), some (.ref l3), some (.ref l4), some (.int l5), some (.int v4), o7, o8] [] G3
noncomputable def t_0_790 (K : gK) (d : Nat) (l0 : Nat) (l1 : Nat) (l2 : Nat) (l3 : Nat) (l4 : Nat) (l5 : Int32) (o6 : Option Value) (o7 : Option Value) (o8 : Option Value) (G : gH) : Option gO := if l0 = K.1.1 ∧ ¬ ((l5 + (1 : Int32)) < 0 ∨ K.1.2.1 ≤ ((l5 + (1 : Int32))).toNatClampNeg) then (if l0 = K.1.1 ∧ ¬ ((l5 + (2 : Int32)) < 0 ∨ K.1.2.1 ≤ ((l5 + (2 : Int32))).toNatClampNeg) then (if l0 = K.1.1 ∧ ¬ ((l5 + (3 : Int32)) < 0 ∨ K.1.2.1 ≤ ((l5 + (3 : Int32))).toNatClampNeg) then (if l0 = K.1.1 ∧ ¬ ((l5 + (4 : Int32)) < 0 ∨ K.1.2.1 ≤ ((l5 + (4 : Int32))).toNatClampNeg) then (if l0 = K.1.1 ∧ ¬ ((l5 + (5 : Int32)) < 0 ∨ K.1.2.1 ≤ ((l5 + (5 : Int32))).toNatClampNeg) then (if (K.1.2.2 ((l5 + (5 : Int32))).toNatClampNeg) = 0 then (cI (gCa K d 20 [.ref l1, .int (K.1.2.2 ((l5 + (1 : Int32))).toNatClampNeg), .int (K.1.2.2 ((l5 + (2 : Int32))).toNatClampNeg), .int (K.1.2.2 ((l5 + (3 : Int32))).toNatClampNeg), .int (K.1.2.2 ((l5 + (4 : Int32))).toNatClampNeg), .int (0 : Int32), .ref l3] G) (t_0_790_1 K d l0 l1 l2 l3 l4 l5 o7 o8)) else (cI (gCa K d 20 [.ref l1, .int (K.1.2.2 ((l5 + (1 : Int32))).toNatClampNeg), .int (K.1.2.2 ((l5 + (2 : Int32))).toNatClampNeg), .int (K.1.2.2 ((l5 + (3 : Int32))).toNatClampNeg), .int (K.1.2.2 ((l5 + (4 : Int32))).toNatClampNeg), .int (1 : Int32), .ref l3] G) (t_0_790_2 K d l0 l1 l2 l3 l4 l5 o7 o8))) else none) else none) else none) else none) else none
theorem e_0_790 {K : gK} {d : Nat} {l0 : Nat} {l1 : Nat} {l2 : Nat} {l3 : Nat} {l4 : Nat} {l5 : Int32} {o6 : Option Value} {o7 : Option Value} {o8 : Option Value} {G : gH} : gle (t_0_790 K d l0 l1 l2 l3 l4 l5 o6 o7 o8 G) (gRn K d 0 790 [some (.ref l0), some (.ref l1), some (.ref l2), some (.ref l3), some (.ref l4), some (.int l5), o6, o7, o8] [] G) := by
  unfold t_0_790
  refine g_aload ((q_0 _).trans rfl) rfl ?_
  refine g_aload ((q_0 _).trans rfl) rfl ?_
  refine g_iload ((q_0 _).trans rfl) rfl ?_
  refine g_push ((q_0 _).trans rfl) ?_
  refine g_iadd ((q_0 _).trans rfl) ?_
  refine g_sld ((q_0 _).trans rfl) ?_
  refine g_aload ((q_0 _).trans rfl) rfl ?_
  refine g_iload ((q_0 _).trans rfl) rfl ?_
  refine g_push ((q_0 _).trans rfl) ?_
  refine g_iadd ((q_0 _).trans rfl) ?_
  refine g_sld ((q_0 _).trans rfl) ?_
  refine g_aload ((q_0 _).trans rfl) rfl ?_
  refine g_iload ((q_0 _).trans rfl) rfl ?_
  refine g_push ((q_0 _).trans rfl) ?_
  refine g_iadd ((q_0 _).trans rfl) ?_
  refine g_sld ((q_0 _).trans rfl) ?_
  refine g_aload ((q_0 _).trans rfl) rfl ?_
  refine g_iload ((q_0 _).trans rfl) rfl ?_
  refine g_push ((q_0 _).trans rfl) ?_
  refine g_iadd ((q_0 _).trans rfl) ?_
  refine g_sld ((q_0 _).trans rfl) ?_
  refine g_aload ((q_0 _).trans rfl) rfl ?_
  refine g_iload ((q_0 _).trans rfl) rfl ?_
  refine g_push ((q_0 _).trans rfl) ?_
  refine g_iadd ((q_0 _).trans rfl) ?_
  refine g_sld ((q_0 _).trans rfl) ?_
  refine g_ifeq ((q_0 _).trans rfl) (fun _ => ?_) (fun _ => ?_)
  · refine g_push ((q_0 _).trans rfl) ?_
    refine g_aload ((q_0 _).trans rfl) rfl ?_
    refine g_callS (kk := 7) ((q_0 _).trans rfl) (gHn m_0) (by exact ⟨Nat.le_of_ble_eq_true rfl, Nat.le_of_ble_eq_true rfl, rfl⟩) rfl (fun w G1 => gm_I (fun v2 hw => ?_))
    subst hw
    refine g_istore ((q_0 _).trans rfl) ?_
    exact gle.rf _
  · refine g_push ((q_0 _).trans rfl) ?_
    refine g_goto ((q_0 _).trans rfl) ?_
    refine g_aload ((q_0 _).trans rfl) rfl ?_
    refine g_callS (kk := 7) ((q_0 _).trans rfl) (gHn m_0) (by exact ⟨Nat.le_of_ble_eq_true rfl, Nat.le_of_ble_eq_true rfl, rfl⟩) rfl (fun w G3 => gm_I (fun v4 hw => ?_))
    subst hw
    refine g_istore ((q_0 _).trans rfl) ?_
    exact gle.rf _
noncomputable def t_0_910_1 (K : gK) (d : Nat) (l0 : Nat) (l1 : Nat) (l2 : Nat) (l3 : Nat) (l4 : Nat) (l5 : Int32) (o7 : Option Value) (o8 : Option Value) (v2 : Int32) (G1 : gH) : Option gO := gRn K d 0 955 [some (.ref l0), some (.ref l1), some (.ref l2), some (.ref l3), some (.ref l4), some (.int l5), some (.int v2), o7, o8] [] G1
noncomputable def t_0_910_2 (K : gK) (d : Nat) (l0 : Nat) (l1 : Nat) (l2 : Nat) (l3 : Nat) (l4 : Nat) (l5 : Int32) (o7 : Option Value) (o8 : Option Value) (v4 : Int32) (G3 : gH) : Option gO := gRn K d 0 955 [some (.ref l0), some (.ref l1), some (.ref l2), some (.ref l3), some (.ref l4), some (.int l5), some (.int v4), o7, o8] [] G3
noncomputable def t_0_910 (K : gK) (d : Nat) (l0 : Nat) (l1 : Nat) (l2 : Nat) (l3 : Nat) (l4 : Nat) (l5 : Int32) (o6 : Option Value) (o7 : Option Value) (o8 : Option Value) (G : gH) : Option gO := if l0 = K.1.1 ∧ ¬ ((l5 + (1 : Int32)) < 0 ∨ K.1.2.1 ≤ ((l5 + (1 : Int32))).toNatClampNeg) then (if l0 = K.1.1 ∧ ¬ ((l5 + (2 : Int32)) < 0 ∨ K.1.2.1 ≤ ((l5 + (2 : Int32))).toNatClampNeg) then (if l0 = K.1.1 ∧ ¬ ((l5 + (3 : Int32)) < 0 ∨ K.1.2.1 ≤ ((l5 + (3 : Int32))).toNatClampNeg) then (if l0 = K.1.1 ∧ ¬ ((l5 + (4 : Int32)) < 0 ∨ K.1.2.1 ≤ ((l5 + (4 : Int32))).toNatClampNeg) then (if l0 = K.1.1 ∧ ¬ ((l5 + (5 : Int32)) < 0 ∨ K.1.2.1 ≤ ((l5 + (5 : Int32))).toNatClampNeg) then (if (K.1.2.2 ((l5 + (5 : Int32))).toNatClampNeg) = 0 then (cI (gCa K d 22 [.ref l1, .int (K.1.2.2 ((l5 + (1 : Int32))).toNatClampNeg), .int (K.1.2.2 ((l5 + (2 : Int32))).toNatClampNeg), .int (K.1.2.2 ((l5 + (3 : Int32))).toNatClampNeg), .int (K.1.2.2 ((l5 + (4 : Int32))).toNatClampNeg), .int (0 : Int32), .ref l3] G) (t_0_910_1 K d l0 l1 l2 l3 l4 l5 o7 o8)) else (cI (gCa K d 22 [.ref l1, .int (K.1.2.2 ((l5 + (1 : Int32))).toNatClampNeg), .int (K.1.2.2 ((l5 + (2 : Int32))).toNatClampNeg), .int (K.1.2.2 ((l5 + (3 : Int32))).toNatClampNeg), .int (K.1.2.2 ((l5 + (4 : Int32))).toNatClampNeg), .int (1 : Int32), .ref l3] G) (t_0_910_2 K d l0 l1 l2 l3 l4 l5 o7 o8))) else none) else none) else none) else none) else none
theorem e_0_910 {K : gK} {d : Nat} {l0 : Nat} {l1 : Nat} {l2 : Nat} {l3 : Nat} {l4 : Nat} {l5 : Int32} {o6 : Option Value} {o7 : Option Value} {o8 : Option Value} {G : gH} : gle (t_0_910 K d l0 l1 l2 l3 l4 l5 o6 o7 o8 G) (gRn K d 0 910 [some (.ref l0), some (.ref l1), some (.ref l2), some (.ref l3), some (.ref l4), some (.int l5), o6, o7, o8] [] G) := by
  unfold t_0_910
  refine g_aload ((q_0 _).trans rfl) rfl ?_
  refine g_aload ((q_0 _).trans rfl) rfl ?_
  refine g_iload ((q_0 _).trans rfl) rfl ?_
  refine g_push ((q_0 _).trans rfl) ?_
  refine g_iadd ((q_0 _).trans rfl) ?_
  refine g_sld ((q_0 _).trans rfl) ?_
  refine g_aload ((q_0 _).trans rfl) rfl ?_
  refine g_iload ((q_0 _).trans rfl) rfl ?_
  refine g_push ((q_0 _).trans rfl) ?_
  refine g_iadd ((q_0 _).trans rfl) ?_
  refine g_sld ((q_0 _).trans rfl) ?_
  refine g_aload ((q_0 _).trans rfl) rfl ?_
  refine g_iload ((q_0 _).trans rfl) rfl ?_
  refine g_push ((q_0 _).trans rfl) ?_
  refine g_iadd ((q_0 _).trans rfl) ?_
  refine g_sld ((q_0 _).trans rfl) ?_
  refine g_aload ((q_0 _).trans rfl) rfl ?_
  refine g_iload ((q_0 _).trans rfl) rfl ?_
  refine g_push ((q_0 _).trans rfl) ?_
  refine g_iadd ((q_0 _).trans rfl) ?_
  refine g_sld ((q_0 _).trans rfl) ?_
  refine g_aload ((q_0 _).trans rfl) rfl ?_
  refine g_iload ((q_0 _).trans rfl) rfl ?_
  refine g_push ((q_0 _).trans rfl) ?_
  refine g_iadd ((q_0 _).trans rfl) ?_
  refine g_sld ((q_0 _).trans rfl) ?_
  refine g_ifeq ((q_0 _).trans rfl) (fun _ => ?_) (fun _ => ?_)
  · refine g_push ((q_0 _).trans rfl) ?_
    refine g_aload ((q_0 _).trans rfl) rfl ?_
    refine g_callS (kk := 7) ((q_0 _).trans rfl) (gHn m_0) (by exact ⟨Nat.le_of_ble_eq_true rfl, Nat.le_of_ble_eq_true rfl, rfl⟩) rfl (fun w G1 => gm_I (fun v2 hw => ?_))
    subst hw
    refine g_istore ((q_0 _).trans rfl) ?_
    exact gle.rf _
  · refine g_push ((q_0 _).trans rfl) ?_
    refine g_goto ((q_0 _).trans rfl) ?_
    refine g_aload ((q_0 _).trans rfl) rfl ?_
    refine g_callS (kk := 7) ((q_0 _).trans rfl) (gHn m_0) (by exact ⟨Nat.le_of_ble_eq_true rfl, Nat.le_of_ble_eq_true rfl, rfl⟩) rfl (fun w G3 => gm_I (fun v4 hw => ?_))
    subst hw
    refine g_istore ((q_0 _).trans rfl) ?_
    exact gle.rf _
noncomputable def t_0_1030_1 (K : gK) (d : Nat) (l0 : Nat) (l1 : Nat) (l2 : Nat) (l3 : Nat) (l4 : Nat) (l5 : Int32) (o7 : Option Value) (o8 : Option Value) (v2 : Int32) (G1 : gH) : Option gO := gRn K d 0 1057 [some (.ref l0), some (.ref l1), some (.ref l2), some (.ref l3), some (.ref l4), some (.int l5), some (.int v2), o7, o8] [] G1
noncomputable def t_0_1030_2 (K : gK) (d : Nat) (l0 : Nat) (l1 : Nat) (l2 : Nat) (l3 : Nat) (l4 : Nat) (l5 : Int32) (o7 : Option Value) (o8 : Option Value) (v4 : Int32) (G3 : gH) : Option gO := gRn K d 0 1057 [some (.ref l0), some (.ref l1), some (.ref l2), some (.ref l3), some (.ref l4), some (.int l5), some (.int v4), o7, o8] [] G3
noncomputable def t_0_1030 (K : gK) (d : Nat) (l0 : Nat) (l1 : Nat) (l2 : Nat) (l3 : Nat) (l4 : Nat) (l5 : Int32) (o6 : Option Value) (o7 : Option Value) (o8 : Option Value) (G : gH) : Option gO := if l0 = K.1.1 ∧ ¬ ((l5 + (1 : Int32)) < 0 ∨ K.1.2.1 ≤ ((l5 + (1 : Int32))).toNatClampNeg) then (if l0 = K.1.1 ∧ ¬ ((l5 + (2 : Int32)) < 0 ∨ K.1.2.1 ≤ ((l5 + (2 : Int32))).toNatClampNeg) then (if (K.1.2.2 ((l5 + (2 : Int32))).toNatClampNeg) = 0 then (cI (gCa K d 24 [.ref l1, .int (K.1.2.2 ((l5 + (1 : Int32))).toNatClampNeg), .int (0 : Int32), .ref l3] G) (t_0_1030_1 K d l0 l1 l2 l3 l4 l5 o7 o8)) else (cI (gCa K d 24 [.ref l1, .int (K.1.2.2 ((l5 + (1 : Int32))).toNatClampNeg), .int (1 : Int32), .ref l3] G) (t_0_1030_2 K d l0 l1 l2 l3 l4 l5 o7 o8))) else none) else none
theorem e_0_1030 {K : gK} {d : Nat} {l0 : Nat} {l1 : Nat} {l2 : Nat} {l3 : Nat} {l4 : Nat} {l5 : Int32} {o6 : Option Value} {o7 : Option Value} {o8 : Option Value} {G : gH} : gle (t_0_1030 K d l0 l1 l2 l3 l4 l5 o6 o7 o8 G) (gRn K d 0 1030 [some (.ref l0), some (.ref l1), some (.ref l2), some (.ref l3), some (.ref l4), some (.int l5), o6, o7, o8] [] G) := by
  unfold t_0_1030
  refine g_aload ((q_0 _).trans rfl) rfl ?_
  refine g_aload ((q_0 _).trans rfl) rfl ?_
  refine g_iload ((q_0 _).trans rfl) rfl ?_
  refine g_push ((q_0 _).trans rfl) ?_
  refine g_iadd ((q_0 _).trans rfl) ?_
  refine g_sld ((q_0 _).trans rfl) ?_
  refine g_aload ((q_0 _).trans rfl) rfl ?_
  refine g_iload ((q_0 _).trans rfl) rfl ?_
  refine g_push ((q_0 _).trans rfl) ?_
  refine g_iadd ((q_0 _).trans rfl) ?_
  refine g_sld ((q_0 _).trans rfl) ?_
  refine g_ifeq ((q_0 _).trans rfl) (fun _ => ?_) (fun _ => ?_)
  · refine g_push ((q_0 _).trans rfl) ?_
    refine g_aload ((q_0 _).trans rfl) rfl ?_
    refine g_callS (kk := 4) ((q_0 _).trans rfl) (gHn m_0) (by exact ⟨Nat.le_of_ble_eq_true rfl, Nat.le_of_ble_eq_true rfl, rfl⟩) rfl (fun w G1 => gm_I (fun v2 hw => ?_))
    subst hw
    refine g_istore ((q_0 _).trans rfl) ?_
    exact gle.rf _
  · refine g_push ((q_0 _).trans rfl) ?_
    refine g_goto ((q_0 _).trans rfl) ?_
    refine g_aload ((q_0 _).trans rfl) rfl ?_
    refine g_callS (kk := 4) ((q_0 _).trans rfl) (gHn m_0) (by exact ⟨Nat.le_of_ble_eq_true rfl, Nat.le_of_ble_eq_true rfl, rfl⟩) rfl (fun w G3 => gm_I (fun v4 hw => ?_))
    subst hw
    refine g_istore ((q_0 _).trans rfl) ?_
    exact gle.rf _
noncomputable def t_0_1114_1 (K : gK) (d : Nat) (l0 : Nat) (l1 : Nat) (l2 : Nat) (l3 : Nat) (l4 : Nat) (l5 : Int32) (o7 : Option Value) (o8 : Option Value) (v2 : Int32) (G1 : gH) : Option gO := gRn K d 0 1127 [some (.ref l0), some (.ref l1), some (.ref l2), some (.ref l3), some (.ref l4), some (.int l5), some (.int v2), o7, o8] [] G1
noncomputable def t_0_1114 (K : gK) (d : Nat) (l0 : Nat) (l1 : Nat) (l2 : Nat) (l3 : Nat) (l4 : Nat) (l5 : Int32) (o6 : Option Value) (o7 : Option Value) (o8 : Option Value) (G : gH) : Option gO := if l0 = K.1.1 ∧ ¬ ((l5 + (1 : Int32)) < 0 ∨ K.1.2.1 ≤ ((l5 + (1 : Int32))).toNatClampNeg) then (cI (gCa K d 26 [.ref l1, .int (K.1.2.2 ((l5 + (1 : Int32))).toNatClampNeg), .ref l3] G) (t_0_1114_1 K d l0 l1 l2 l3 l4 l5 o7 o8)) else none
theorem e_0_1114 {K : gK} {d : Nat} {l0 : Nat} {l1 : Nat} {l2 : Nat} {l3 : Nat} {l4 : Nat} {l5 : Int32} {o6 : Option Value} {o7 : Option Value} {o8 : Option Value} {G : gH} : gle (t_0_1114 K d l0 l1 l2 l3 l4 l5 o6 o7 o8 G) (gRn K d 0 1114 [some (.ref l0), some (.ref l1), some (.ref l2), some (.ref l3), some (.ref l4), some (.int l5), o6, o7, o8] [] G) := by
  unfold t_0_1114
  refine g_aload ((q_0 _).trans rfl) rfl ?_
  refine g_aload ((q_0 _).trans rfl) rfl ?_
  refine g_iload ((q_0 _).trans rfl) rfl ?_
  refine g_push ((q_0 _).trans rfl) ?_
  refine g_iadd ((q_0 _).trans rfl) ?_
  refine g_sld ((q_0 _).trans rfl) ?_
  refine g_aload ((q_0 _).trans rfl) rfl ?_
  refine g_callS (kk := 3) ((q_0 _).trans rfl) (gHn m_0) (by exact ⟨Nat.le_of_ble_eq_true rfl, Nat.le_of_ble_eq_true rfl, rfl⟩) rfl (fun w G1 => gm_I (fun v2 hw => ?_))
  subst hw
  refine g_istore ((q_0 _).trans rfl) ?_
  exact gle.rf _
noncomputable def t_0_1170_1 (K : gK) (d : Nat) (v2 : Int32) (l0 : Nat) (l1 : Nat) (l2 : Nat) (l3 : Nat) (l4 : Nat) (l5 : Int32) (o6 : Option Value) (o7 : Option Value) (o8 : Option Value) (v4 : Int32) (G3 : gH) : Option gO := if v2 = v4 then (gRn K d 0 2545 [some (.ref l0), some (.ref l1), some (.ref l2), some (.ref l3), some (.ref l4), some (.int l5), o6, o7, o8] [] G3) else (if narrow .boolean (.int (0 : Int32)) = .int (0 : Int32) then some (.inl (some (.int (0 : Int32))), G3) else none)
noncomputable def t_0_1170_2 (K : gK) (d : Nat) (l2 : Nat) (l0 : Nat) (l1 : Nat) (l3 : Nat) (l4 : Nat) (l5 : Int32) (o6 : Option Value) (o7 : Option Value) (o8 : Option Value) (v2 : Int32) (G1 : gH) : Option gO := if g_cls G1 l2 = some 3 then (cI (gCa K d 29 [.ref l2] G1) (t_0_1170_1 K d v2 l0 l1 l2 l3 l4 l5 o6 o7 o8)) else none
noncomputable def t_0_1170 (K : gK) (d : Nat) (l0 : Nat) (l1 : Nat) (l2 : Nat) (l3 : Nat) (l4 : Nat) (l5 : Int32) (o6 : Option Value) (o7 : Option Value) (o8 : Option Value) (G : gH) : Option gO := if g_cls G l1 = some 0 then (cI (gCa K d 28 [.ref l1] G) (t_0_1170_2 K d l2 l0 l1 l3 l4 l5 o6 o7 o8)) else none
theorem e_0_1170 {K : gK} {d : Nat} {l0 : Nat} {l1 : Nat} {l2 : Nat} {l3 : Nat} {l4 : Nat} {l5 : Int32} {o6 : Option Value} {o7 : Option Value} {o8 : Option Value} {G : gH} : gle (t_0_1170 K d l0 l1 l2 l3 l4 l5 o6 o7 o8 G) (gRn K d 0 1170 [some (.ref l0), some (.ref l1), some (.ref l2), some (.ref l3), some (.ref l4), some (.int l5), o6, o7, o8] [] G) := by
  unfold t_0_1170
  refine g_aload ((q_0 _).trans rfl) rfl ?_
  refine g_callV (kk := 0) ((q_0 _).trans rfl) (gHn m_0) rfl (by exact ⟨Nat.le_of_ble_eq_true rfl, rfl⟩) rfl (fun w G1 => gm_I (fun v2 hw => ?_))
  subst hw
  refine g_aload ((q_0 _).trans rfl) rfl ?_
  refine g_callV (kk := 0) ((q_0 _).trans rfl) (gHn m_0) rfl (by exact ⟨Nat.le_of_ble_eq_true rfl, rfl⟩) rfl (fun w G3 => gm_I (fun v4 hw => ?_))
  subst hw
  refine g_cmpeq ((q_0 _).trans rfl) (fun _ => ?_) (fun _ => ?_)
  · exact gle.rf _
  · refine g_push ((q_0 _).trans rfl) ?_
    exact g_zret ((q_0 _).trans rfl)
noncomputable def t_0_1183_1 (K : gK) (d : Nat) (v2 : Int32) (l0 : Nat) (l1 : Nat) (l2 : Nat) (l3 : Nat) (l4 : Nat) (l5 : Int32) (o6 : Option Value) (o7 : Option Value) (o8 : Option Value) (v4 : Int32) (G3 : gH) : Option gO := if v2 = v4 then (gRn K d 0 2545 [some (.ref l0), some (.ref l1), some (.ref l2), some (.ref l3), some (.ref l4), some (.int l5), o6, o7, o8] [] G3) else (if narrow .boolean (.int (0 : Int32)) = .int (0 : Int32) then some (.inl (some (.int (0 : Int32))), G3) else none)
noncomputable def t_0_1183_2 (K : gK) (d : Nat) (l2 : Nat) (l0 : Nat) (l1 : Nat) (l3 : Nat) (l4 : Nat) (l5 : Int32) (o6 : Option Value) (o7 : Option Value) (o8 : Option Value) (v2 : Int32) (G1 : gH) : Option gO := if g_cls G1 l2 = some 3 then (cI (gCa K d 31 [.ref l2] G1) (t_0_1183_1 K d v2 l0 l1 l2 l3 l4 l5 o6 o7 o8)) else none
noncomputable def t_0_1183 (K : gK) (d : Nat) (l0 : Nat) (l1 : Nat) (l2 : Nat) (l3 : Nat) (l4 : Nat) (l5 : Int32) (o6 : Option Value) (o7 : Option Value) (o8 : Option Value) (G : gH) : Option gO := if g_cls G l1 = some 0 then (cI (gCa K d 30 [.ref l1] G) (t_0_1183_2 K d l2 l0 l1 l3 l4 l5 o6 o7 o8)) else none
theorem e_0_1183 {K : gK} {d : Nat} {l0 : Nat} {l1 : Nat} {l2 : Nat} {l3 : Nat} {l4 : Nat} {l5 : Int32} {o6 : Option Value} {o7 : Option Value} {o8 : Option Value} {G : gH} : gle (t_0_1183 K d l0 l1 l2 l3 l4 l5 o6 o7 o8 G) (gRn K d 0 1183 [some (.ref l0), some (.ref l1), some (.ref l2), some (.ref l3), some (.ref l4), some (.int l5), o6, o7, o8] [] G) := by
  unfold t_0_1183
  refine g_aload ((q_0 _).trans rfl) rfl ?_
  refine g_callV (kk := 0) ((q_0 _).trans rfl) (gHn m_0) rfl (by exact ⟨Nat.le_of_ble_eq_true rfl, rfl⟩) rfl (fun w G1 => gm_I (fun v2 hw => ?_))
  subst hw
  refine g_aload ((q_0 _).trans rfl) rfl ?_
  refine g_callV (kk := 0) ((q_0 _).trans rfl) (gHn m_0) rfl (by exact ⟨Nat.le_of_ble_eq_true rfl, rfl⟩) rfl (fun w G3 => gm_I (fun v4 hw => ?_))
  subst hw
  refine g_cmpeq ((q_0 _).trans rfl) (fun _ => ?_) (fun _ => ?_)
  · exact gle.rf _
  · refine g_push ((q_0 _).trans rfl) ?_
    exact g_zret ((q_0 _).trans rfl)
noncomputable def t_0_1196_1 (K : gK) (d : Nat) (l0 : Nat) (l1 : Nat) (l2 : Nat) (l3 : Nat) (l4 : Nat) (l5 : Int32) (o7 : Option Value) (o8 : Option Value) (v2 : Int32) (G1 : gH) : Option gO := gRn K d 0 1209 [some (.ref l0), some (.ref l1), some (.ref l2), some (.ref l3), some (.ref l4), some (.int l5), some (.int v2), o7, o8] [] G1
noncomputable def t_0_1196 (K : gK) (d : Nat) (l0 : Nat) (l1 : Nat) (l2 : Nat) (l3 : Nat) (l4 : Nat) (l5 : Int32) (o6 : Option Value) (o7 : Option Value) (o8 : Option Value) (G : gH) : Option gO := if l0 = K.1.1 ∧ ¬ ((l5 + (1 : Int32)) < 0 ∨ K.1.2.1 ≤ ((l5 + (1 : Int32))).toNatClampNeg) then (cI (gCa K d 32 [.ref l1, .int (K.1.2.2 ((l5 + (1 : Int32))).toNatClampNeg), .ref l3] G) (t_0_1196_1 K d l0 l1 l2 l3 l4 l5 o7 o8)) else none
theorem e_0_1196 {K : gK} {d : Nat} {l0 : Nat} {l1 : Nat} {l2 : Nat} {l3 : Nat} {l4 : Nat} {l5 : Int32} {o6 : Option Value} {o7 : Option Value} {o8 : Option Value} {G : gH} : gle (t_0_1196 K d l0 l1 l2 l3 l4 l5 o6 o7 o8 G) (gRn K d 0 1196 [some (.ref l0), some (.ref l1), some (.ref l2), some (.ref l3), some (.ref l4), some (.int l5), o6, o7, o8] [] G) := by
  unfold t_0_1196
  refine g_aload ((q_0 _).trans rfl) rfl ?_
  refine g_aload ((q_0 _).trans rfl) rfl ?_
  refine g_iload ((q_0 _).trans rfl) rfl ?_
  refine g_push ((q_0 _).trans rfl) ?_
  refine g_iadd ((q_0 _).trans rfl) ?_
  refine g_sld ((q_0 _).trans rfl) ?_
  refine g_aload ((q_0 _).trans rfl) rfl ?_
  refine g_callS (kk := 3) ((q_0 _).trans rfl) (gHn m_0) (by exact ⟨Nat.le_of_ble_eq_true rfl, Nat.le_of_ble_eq_true rfl, rfl⟩) rfl (fun w G1 => gm_I (fun v2 hw => ?_))
  subst hw
  refine g_istore ((q_0 _).trans rfl) ?_
  exact gle.rf _
noncomputable def t_0_1252_1 (K : gK) (d : Nat) (l0 : Nat) (l1 : Nat) (l2 : Nat) (l3 : Nat) (l4 : Nat) (l5 : Int32) (o7 : Option Value) (o8 : Option Value) (v2 : Int32) (G1 : gH) : Option gO := gRn K d 0 1265 [some (.ref l0), some (.ref l1), some (.ref l2), some (.ref l3), some (.ref l4), some (.int l5), some (.int v2), o7, o8] [] G1
noncomputable def t_0_1252 (K : gK) (d : Nat) (l0 : Nat) (l1 : Nat) (l2 : Nat) (l3 : Nat) (l4 : Nat) (l5 : Int32) (o6 : Option Value) (o7 : Option Value) (o8 : Option Value) (G : gH) : Option gO := if l0 = K.1.1 ∧ ¬ ((l5 + (1 : Int32)) < 0 ∨ K.1.2.1 ≤ ((l5 + (1 : Int32))).toNatClampNeg) then (cI (gCa K d 34 [.ref l1, .int (K.1.2.2 ((l5 + (1 : Int32))).toNatClampNeg), .ref l3] G) (t_0_1252_1 K d l0 l1 l2 l3 l4 l5 o7 o8)) else none
theorem e_0_1252 {K : gK} {d : Nat} {l0 : Nat} {l1 : Nat} {l2 : Nat} {l3 : Nat} {l4 : Nat} {l5 : Int32} {o6 : Option Value} {o7 : Option Value} {o8 : Option Value} {G : gH} : gle (t_0_1252 K d l0 l1 l2 l3 l4 l5 o6 o7 o8 G) (gRn K d 0 1252 [some (.ref l0), some (.ref l1), some (.ref l2), some (.ref l3), some (.ref l4), some (.int l5), o6, o7, o8] [] G) := by
  unfold t_0_1252
  refine g_aload ((q_0 _).trans rfl) rfl ?_
  refine g_aload ((q_0 _).trans rfl) rfl ?_
  refine g_iload ((q_0 _).trans rfl) rfl ?_
  refine g_push ((q_0 _).trans rfl) ?_
  refine g_iadd ((q_0 _).trans rfl) ?_
  refine g_sld ((q_0 _).trans rfl) ?_
  refine g_aload ((q_0 _).trans rfl) rfl ?_
  refine g_callS (kk := 3) ((q_0 _).trans rfl) (gHn m_0) (by exact ⟨Nat.le_of_ble_eq_true rfl, Nat.le_of_ble_eq_true rfl, rfl⟩) rfl (fun w G1 => gm_I (fun v2 hw => ?_))
  subst hw
  refine g_istore ((q_0 _).trans rfl) ?_
  exact gle.rf _
noncomputable def t_0_1308_1 (K : gK) (d : Nat) (l0 : Nat) (l1 : Nat) (l2 : Nat) (l3 : Nat) (l4 : Nat) (l5 : Int32) (o7 : Option Value) (o8 : Option Value) (v2 : Int32) (G1 : gH) : Option gO := gRn K d 0 1321 [some (.ref l0), some (.ref l1), some (.ref l2), some (.ref l3), some (.ref l4), some (.int l5), some (.int v2), o7, o8] [] G1
noncomputable def t_0_1308 (K : gK) (d : Nat) (l0 : Nat) (l1 : Nat) (l2 : Nat) (l3 : Nat) (l4 : Nat) (l5 : Int32) (o6 : Option Value) (o7 : Option Value) (o8 : Option Value) (G : gH) : Option gO := if l0 = K.1.1 ∧ ¬ ((l5 + (1 : Int32)) < 0 ∨ K.1.2.1 ≤ ((l5 + (1 : Int32))).toNatClampNeg) then (cI (gCa K d 36 [.ref l1, .int (K.1.2.2 ((l5 + (1 : Int32))).toNatClampNeg), .ref l3] G) (t_0_1308_1 K d l0 l1 l2 l3 l4 l5 o7 o8)) else none
theorem e_0_1308 {K : gK} {d : Nat} {l0 : Nat} {l1 : Nat} {l2 : Nat} {l3 : Nat} {l4 : Nat} {l5 : Int32} {o6 : Option Value} {o7 : Option Value} {o8 : Option Value} {G : gH} : gle (t_0_1308 K d l0 l1 l2 l3 l4 l5 o6 o7 o8 G) (gRn K d 0 1308 [some (.ref l0), some (.ref l1), some (.ref l2), some (.ref l3), some (.ref l4), some (.int l5), o6, o7, o8] [] G) := by
  unfold t_0_1308
  refine g_aload ((q_0 _).trans rfl) rfl ?_
  refine g_aload ((q_0 _).trans rfl) rfl ?_
  refine g_iload ((q_0 _).trans rfl) rfl ?_
  refine g_push ((q_0 _).trans rfl) ?_
  refine g_iadd ((q_0 _).trans rfl) ?_
  refine g_sld ((q_0 _).trans rfl) ?_
  refine g_aload ((q_0 _).trans rfl) rfl ?_
  refine g_callS (kk := 3) ((q_0 _).trans rfl) (gHn m_0) (by exact ⟨Nat.le_of_ble_eq_true rfl, Nat.le_of_ble_eq_true rfl, rfl⟩) rfl (fun w G1 => gm_I (fun v2 hw => ?_))
  subst hw
  refine g_istore ((q_0 _).trans rfl) ?_
  exact gle.rf _
noncomputable def t_0_1364_1 (K : gK) (d : Nat) (l0 : Nat) (l1 : Nat) (l2 : Nat) (l3 : Nat) (l4 : Nat) (l5 : Int32) (o7 : Option Value) (o8 : Option Value) (v2 : Int32) (G1 : gH) : Option gO := gRn K d 0 1383 [some (.ref l0), some (.ref l1), some (.ref l2), some (.ref l3), some (.ref l4), some (.int l5), some (.int v2), o7, o8] [] G1
noncomputable def t_0_1364 (K : gK) (d : Nat) (l0 : Nat) (l1 : Nat) (l2 : Nat) (l3 : Nat) (l4 : Nat) (l5 : Int32) (o6 : Option Value) (o7 : Option Value) (o8 : Option Value) (G : gH) : Option gO := if l0 = K.1.1 ∧ ¬ ((l5 + (1 : Int32)) < 0 ∨ K.1.2.1 ≤ ((l5 + (1 : Int32))).toNatClampNeg) then (if l0 = K.1.1 ∧ ¬ ((l5 + (2 : Int32)) < 0 ∨ K.1.2.1 ≤ ((l5 + (2 : Int32))).toNatClampNeg) then (cI (gCa K d 38 [.ref l1, .int (K.1.2.2 ((l5 + (1 : Int32))).toNatClampNeg), .int (K.1.2.2 ((l5 + (2 : Int32))).toNatClampNeg), .ref l3] G) (t_0_1364_1 K d l0 l1 l2 l3 l4 l5 o7 o8)) else none) else none
theorem e_0_1364 {K : gK} {d : Nat} {l0 : Nat} {l1 : Nat} {l2 : Nat} {l3 : Nat} {l4 : Nat} {l5 : Int32} {o6 : Option Value} {o7 : Option Value} {o8 : Option Value} {G : gH} : gle (t_0_1364 K d l0 l1 l2 l3 l4 l5 o6 o7 o8 G) (gRn K d 0 1364 [some (.ref l0), some (.ref l1), some (.ref l2), some (.ref l3), some (.ref l4), some (.int l5), o6, o7, o8] [] G) := by
  unfold t_0_1364
  refine g_aload ((q_0 _).trans rfl) rfl ?_
  refine g_aload ((q_0 _).trans rfl) rfl ?_
  refine g_iload ((q_0 _).trans rfl) rfl ?_
  refine g_push ((q_0 _).trans rfl) ?_
  refine g_iadd ((q_0 _).trans rfl) ?_
  refine g_sld ((q_0 _).trans rfl) ?_
  refine g_aload ((q_0 _).trans rfl) rfl ?_
  refine g_iload ((q_0 _).trans rfl) rfl ?_
  refine g_push ((q_0 _).trans rfl) ?_
  refine g_iadd ((q_0 _).trans rfl) ?_
  refine g_sld ((q_0 _).trans rfl) ?_
  refine g_aload ((q_0 _).trans rfl) rfl ?_
  refine g_callS (kk := 4) ((q_0 _).trans rfl) (gHn m_0) (by exact ⟨Nat.le_of_ble_eq_true rfl, Nat.le_of_ble_eq_true rfl, rfl⟩) rfl (fun w G1 => gm_I (fun v2 hw => ?_))
  subst hw
  refine g_istore ((q_0 _).trans rfl) ?_
  exact gle.rf _
noncomputable def t_0_1432_1 (K : gK) (d : Nat) (l0 : Nat) (l1 : Nat) (l2 : Nat) (l3 : Nat) (l4 : Nat) (l5 : Int32) (o7 : Option Value) (o8 : Option Value) (v2 : Int32) (G1 : gH) : Option gO := gRn K d 0 1451 [some (.ref l0), some (.ref l1), some (.ref l2), some (.ref l3), some (.ref l4), some (.int l5), some (.int v2), o7, o8] [] G1
noncomputable def t_0_1432 (K : gK) (d : Nat) (l0 : Nat) (l1 : Nat) (l2 : Nat) (l3 : Nat) (l4 : Nat) (l5 : Int32) (o6 : Option Value) (o7 : Option Value) (o8 : Option Value) (G : gH) : Option gO := if l0 = K.1.1 ∧ ¬ ((l5 + (1 : Int32)) < 0 ∨ K.1.2.1 ≤ ((l5 + (1 : Int32))).toNatClampNeg) then (if l0 = K.1.1 ∧ ¬ ((l5 + (2 : Int32)) < 0 ∨ K.1.2.1 ≤ ((l5 + (2 : Int32))).toNatClampNeg) then (cI (gCa K d 40 [.ref l1, .int (K.1.2.2 ((l5 + (1 : Int32))).toNatClampNeg), .int (K.1.2.2 ((l5 + (2 : Int32))).toNatClampNeg), .ref l3] G) (t_0_1432_1 K d l0 l1 l2 l3 l4 l5 o7 o8)) else none) else none
theorem e_0_1432 {K : gK} {d : Nat} {l0 : Nat} {l1 : Nat} {l2 : Nat} {l3 : Nat} {l4 : Nat} {l5 : Int32} {o6 : Option Value} {o7 : Option Value} {o8 : Option Value} {G : gH} : gle (t_0_1432 K d l0 l1 l2 l3 l4 l5 o6 o7 o8 G) (gRn K d 0 1432 [some (.ref l0), some (.ref l1), some (.ref l2), some (.ref l3), some (.ref l4), some (.int l5), o6, o7, o8] [] G) := by
  unfold t_0_1432
  refine g_aload ((q_0 _).trans rfl) rfl ?_
  refine g_aload ((q_0 _).trans rfl) rfl ?_
  refine g_iload ((q_0 _).trans rfl) rfl ?_
  refine g_push ((q_0 _).trans rfl) ?_
  refine g_iadd ((q_0 _).trans rfl) ?_
  refine g_sld ((q_0 _).trans rfl) ?_
  refine g_aload ((q_0 _).trans rfl) rfl ?_
  refine g_iload ((q_0 _).trans rfl) rfl ?_
  refine g_push ((q_0 _).trans rfl) ?_
  refine g_iadd ((q_0 _).trans rfl) ?_
  refine g_sld ((q_0 _).trans rfl) ?_
  refine g_aload ((q_0 _).trans rfl) rfl ?_
  refine g_callS (kk := 4) ((q_0 _).trans rfl) (gHn m_0) (by exact ⟨Nat.le_of_ble_eq_true rfl, Nat.le_of_ble_eq_true rfl, rfl⟩) rfl (fun w G1 => gm_I (fun v2 hw => ?_))
  subst hw
  refine g_istore ((q_0 _).trans rfl) ?_
  exact gle.rf _
noncomputable def t_0_1500_1 (K : gK) (d : Nat) (v2 : Int32) (l0 : Nat) (l1 : Nat) (l2 : Nat) (l3 : Nat) (l4 : Nat) (l5 : Int32) (o6 : Option Value) (o7 : Option Value) (o8 : Option Value) (v4 : Int32) (G3 : gH) : Option gO := if v2 = v4 then (gRn K d 0 2545 [some (.ref l0), some (.ref l1), some (.ref l2), some (.ref l3), some (.ref l4), some (.int l5), o6, o7, o8] [] G3) else (if narrow .boolean (.int (0 : Int32)) = .int (0 : Int32) then some (.inl (some (.int (0 : Int32))), G3) else none)
noncomputable def t_0_1500_2 (K : gK) (d : Nat) (l2 : Nat) (l0 : Nat) (l1 : Nat) (l3 : Nat) (l4 : Nat) (l5 : Int32) (o6 : Option Value) (o7 : Option Value) (o8 : Option Value) (v2 : Int32) (G1 : gH) : Option gO := if g_cls G1 l2 = some 3 then (cI (gCa K d 43 [.ref l2] G1) (t_0_1500_1 K d v2 l0 l1 l2 l3 l4 l5 o6 o7 o8)) else none
noncomputable def t_0_1500 (K : gK) (d : Nat) (l0 : Nat) (l1 : Nat) (l2 : Nat) (l3 : Nat) (l4 : Nat) (l5 : Int32) (o6 : Option Value) (o7 : Option Value) (o8 : Option Value) (G : gH) : Option gO := if g_cls G l1 = some 0 then (cI (gCa K d 42 [.ref l1] G) (t_0_1500_2 K d l2 l0 l1 l3 l4 l5 o6 o7 o8)) else none
theorem e_0_1500 {K : gK} {d : Nat} {l0 : Nat} {l1 : Nat} {l2 : Nat} {l3 : Nat} {l4 : Nat} {l5 : Int32} {o6 : Option Value} {o7 : Option Value} {o8 : Option Value} {G : gH} : gle (t_0_1500 K d l0 l1 l2 l3 l4 l5 o6 o7 o8 G) (gRn K d 0 1500 [some (.ref l0), some (.ref l1), some (.ref l2), some (.ref l3), some (.ref l4), some (.int l5), o6, o7, o8] [] G) := by
  unfold t_0_1500
  refine g_aload ((q_0 _).trans rfl) rfl ?_
  refine g_callV (kk := 0) ((q_0 _).trans rfl) (gHn m_0) rfl (by exact ⟨Nat.le_of_ble_eq_true rfl, rfl⟩) rfl (fun w G1 => gm_I (fun v2 hw => ?_))
  subst hw
  refine g_aload ((q_0 _).trans rfl) rfl ?_
  refine g_callV (kk := 0) ((q_0 _).trans rfl) (gHn m_0) rfl (by exact ⟨Nat.le_of_ble_eq_true rfl, rfl⟩) rfl (fun w G3 => gm_I (fun v4 hw => ?_))
  subst hw
  refine g_cmpeq ((q_0 _).trans rfl) (fun _ => ?_) (fun _ => ?_)
  · exact gle.rf _
  · refine g_push ((q_0 _).trans rfl) ?_
    exact g_zret ((q_0 _).trans rfl)
noncomputable def t_0_1513_1 (K : gK) (d : Nat) (v2 : Int32) (l0 : Nat) (l1 : Nat) (l2 : Nat) (l3 : Nat) (l4 : Nat) (l5 : Int32) (o6 : Option Value) (o7 : Option Value) (o8 : Option Value) (v4 : Int32) (G3 : gH) : Option gO := if v2 = v4 then (gRn K d 0 2545 [some (.ref l0), some (.ref l1), some (.ref l2), some (.ref l3), some (.ref l4), some (.int l5), o6, o7, o8] [] G3) else (if narrow .boolean (.int (0 : Int32)) = .int (0 : Int32) then some (.inl (some (.int (0 : Int32))), G3) else none)
noncomputable def t_0_1513_2 (K : gK) (d : Nat) (l2 : Nat) (l0 : Nat) (l1 : Nat) (l3 : Nat) (l4 : Nat) (l5 : Int32) (o6 : Option Value) (o7 : Option Value) (o8 : Option Value) (v2 : Int32) (G1 : gH) : Option gO := if g_cls G1 l2 = some 3 then (cI (gCa K d 45 [.ref l2] G1) (t_0_1513_1 K d v2 l0 l1 l2 l3 l4 l5 o6 o7 o8)) else none
noncomputable def t_0_1513 (K : gK) (d : Nat) (l0 : Nat) (l1 : Nat) (l2 : Nat) (l3 : Nat) (l4 : Nat) (l5 : Int32) (o6 : Option Value) (o7 : Option Value) (o8 : Option Value) (G : gH) : Option gO := if g_cls G l1 = some 0 then (cI (gCa K d 44 [.ref l1] G) (t_0_1513_2 K d l2 l0 l1 l3 l4 l5 o6 o7 o8)) else none
theorem e_0_1513 {K : gK} {d : Nat} {l0 : Nat} {l1 : Nat} {l2 : Nat} {l3 : Nat} {l4 : Nat} {l5 : Int32} {o6 : Option Value} {o7 : Option Value} {o8 : Option Value} {G : gH} : gle (t_0_1513 K d l0 l1 l2 l3 l4 l5 o6 o7 o8 G) (gRn K d 0 1513 [some (.ref l0), some (.ref l1), some (.ref l2), some (.ref l3), some (.ref l4), some (.int l5), o6, o7, o8] [] G) := by
  unfold t_0_1513
  refine g_aload ((q_0 _).trans rfl) rfl ?_
  refine g_callV (kk := 0) ((q_0 _).trans rfl) (gHn m_0) rfl (by exact ⟨Nat.le_of_ble_eq_true rfl, rfl⟩) rfl (fun w G1 => gm_I (fun v2 hw => ?_))
  subst hw
  refine g_aload ((q_0 _).trans rfl) rfl ?_
  refine g_callV (kk := 0) ((q_0 _).trans rfl) (gHn m_0) rfl (by exact ⟨Nat.le_of_ble_eq_true rfl, rfl⟩) rfl (fun w G3 => gm_I (fun v4 hw => ?_))
  subst hw
  refine g_cmpeq ((q_0 _).trans rfl) (fun _ => ?_) (fun _ => ?_)
  · exact gle.rf _
  · refine g_push ((q_0 _).trans rfl) ?_
    exact g_zret ((q_0 _).trans rfl)
noncomputable def t_0_1526_1 (K : gK) (d : Nat) (l0 : Nat) (l1 : Nat) (l2 : Nat) (l3 : Nat) (l4 : Nat) (l5 : Int32) (o7 : Option Value) (o8 : Option Value) (v2 : Int32) (G1 : gH) : Option gO := gRn K d 0 1539 [some (.ref l0), some (.ref l1), some (.ref l2), some (.ref l3), some (.ref l4), some (.int l5), some (.int v2), o7, o8] [] G1
noncomputable def t_0_1526 (K : gK) (d : Nat) (l0 : Nat) (l1 : Nat) (l2 : Nat) (l3 : Nat) (l4 : Nat) (l5 : Int32) (o6 : Option Value) (o7 : Option Value) (o8 : Option Value) (G : gH) : Option gO := if l0 = K.1.1 ∧ ¬ ((l5 + (1 : Int32)) < 0 ∨ K.1.2.1 ≤ ((l5 + (1 : Int32))).toNatClampNeg) then (cI (gCa K d 46 [.ref l1, .int (K.1.2.2 ((l5 + (1 : Int32))).toNatClampNeg), .ref l3] G) (t_0_1526_1 K d l0 l1 l2 l3 l4 l5 o7 o8)) else none
theorem e_0_1526 {K : gK} {d : Nat} {l0 : Nat} {l1 : Nat} {l2 : Nat} {l3 : Nat} {l4 : Nat} {l5 : Int32} {o6 : Option Value} {o7 : Option Value} {o8 : Option Value} {G : gH} : gle (t_0_1526 K d l0 l1 l2 l3 l4 l5 o6 o7 o8 G) (gRn K d 0 1526 [some (.ref l0), some (.ref l1), some (.ref l2), some (.ref l3), some (.ref l4), some (.int l5), o6, o7, o8] [] G) := by
  unfold t_0_1526
  refine g_aload ((q_0 _).trans rfl) rfl ?_
  refine g_aload ((q_0 _).trans rfl) rfl ?_
  refine g_iload ((q_0 _).trans rfl) rfl ?_
  refine g_push ((q_0 _).trans rfl) ?_
  refine g_iadd ((q_0 _).trans rfl) ?_
  refine g_sld ((q_0 _).trans rfl) ?_
  refine g_aload ((q_0 _).trans rfl) rfl ?_
  refine g_callS (kk := 3) ((q_0 _).trans rfl) (gHn m_0) (by exact ⟨Nat.le_of_ble_eq_true rfl, Nat.le_of_ble_eq_true rfl, rfl⟩) rfl (fun w G1 => gm_I (fun v2 hw => ?_))
  subst hw
  refine g_istore ((q_0 _).trans rfl) ?_
  exact gle.rf _
noncomputable def t_0_1582_1 (K : gK) (d : Nat) (l0 : Nat) (l1 : Nat) (l2 : Nat) (l3 : Nat) (l4 : Nat) (l5 : Int32) (o7 : Option Value) (o8 : Option Value) (v2 : Int32) (G1 : gH) : Option gO := gRn K d 0 1589 [some (.ref l0), some (.ref l1), some (.ref l2), some (.ref l3), some (.ref l4), some (.int l5), some (.int v2), o7, o8] [] G1
noncomputable def t_0_1582 (K : gK) (d : Nat) (l0 : Nat) (l1 : Nat) (l2 : Nat) (l3 : Nat) (l4 : Nat) (l5 : Int32) (o6 : Option Value) (o7 : Option Value) (o8 : Option Value) (G : gH) : Option gO := cI (gCa K d 48 [.ref l1, .ref l3] G) (t_0_1582_1 K d l0 l1 l2 l3 l4 l5 o7 o8)
theorem e_0_1582 {K : gK} {d : Nat} {l0 : Nat} {l1 : Nat} {l2 : Nat} {l3 : Nat} {l4 : Nat} {l5 : Int32} {o6 : Option Value} {o7 : Option Value} {o8 : Option Value} {G : gH} : gle (t_0_1582 K d l0 l1 l2 l3 l4 l5 o6 o7 o8 G) (gRn K d 0 1582 [some (.ref l0), some (.ref l1), some (.ref l2), some (.ref l3), some (.ref l4), some (.int l5), o6, o7, o8] [] G) := by
  unfold t_0_1582
  refine g_aload ((q_0 _).trans rfl) rfl ?_
  refine g_aload ((q_0 _).trans rfl) rfl ?_
  refine g_callS (kk := 2) ((q_0 _).trans rfl) (gHn m_0) (by exact ⟨Nat.le_of_ble_eq_true rfl, Nat.le_of_ble_eq_true rfl, rfl⟩) rfl (fun w G1 => gm_I (fun v2 hw => ?_))
  subst hw
  refine g_istore ((q_0 _).trans rfl) ?_
  exact gle.rf _
noncomputable def t_0_1626_1 (K : gK) (d : Nat) (l0 : Nat) (l1 : Nat) (l2 : Nat) (l3 : Nat) (l4 : Nat) (l5 : Int32) (o7 : Option Value) (o8 : Option Value) (v2 : Int32) (G1 : gH) : Option gO := gRn K d 0 1651 [some (.ref l0), some (.ref l1), some (.ref l2), some (.ref l3), some (.ref l4), some (.int l5), some (.int v2), o7, o8] [] G1
noncomputable def t_0_1626 (K : gK) (d : Nat) (l0 : Nat) (l1 : Nat) (l2 : Nat) (l3 : Nat) (l4 : Nat) (l5 : Int32) (o6 : Option Value) (o7 : Option Value) (o8 : Option Value) (G : gH) : Option gO := if l0 = K.1.1 ∧ ¬ ((l5 + (1 : Int32)) < 0 ∨ K.1.2.1 ≤ ((l5 + (1 : Int32))).toNatClampNeg) then (if l0 = K.1.1 ∧ ¬ ((l5 + (2 : Int32)) < 0 ∨ K.1.2.1 ≤ ((l5 + (2 : Int32))).toNatClampNeg) then (if l0 = K.1.1 ∧ ¬ ((l5 + (3 : Int32)) < 0 ∨ K.1.2.1 ≤ ((l5 + (3 : Int32))).toNatClampNeg) then (cI (gCa K d 50 [.ref l1, .int (K.1.2.2 ((l5 + (1 : Int32))).toNatClampNeg), .int (K.1.2.2 ((l5 + (2 : Int32))).toNatClampNeg), .int (K.1.2.2 ((l5 + (3 : Int32))).toNatClampNeg), .ref l3] G) (t_0_1626_1 K d l0 l1 l2 l3 l4 l5 o7 o8)) else none) else none) else none
theorem e_0_1626 {K : gK} {d : Nat} {l0 : Nat} {l1 : Nat} {l2 : Nat} {l3 : Nat} {l4 : Nat} {l5 : Int32} {o6 : Option Value} {o7 : Option Value} {o8 : Option Value} {G : gH} : gle (t_0_1626 K d l0 l1 l2 l3 l4 l5 o6 o7 o8 G) (gRn K d 0 1626 [some (.ref l0), some (.ref l1), some (.ref l2), some (.ref l3), some (.ref l4), some (.int l5), o6, o7, o8] [] G) := by
  unfold t_0_1626
  refine g_aload ((q_0 _).trans rfl) rfl ?_
  refine g_aload ((q_0 _).trans rfl) rfl ?_
  refine g_iload ((q_0 _).trans rfl) rfl ?_
  refine g_push ((q_0 _).trans rfl) ?_
  refine g_iadd ((q_0 _).trans rfl) ?_
  refine g_sld ((q_0 _).trans rfl) ?_
  refine g_aload ((q_0 _).trans rfl) rfl ?_
  refine g_iload ((q_0 _).trans rfl) rfl ?_
  refine g_push ((q_0 _).trans rfl) ?_
  refine g_iadd ((q_0 _).trans rfl) ?_
  refine g_sld ((q_0 _).trans rfl) ?_
  refine g_aload ((q_0 _).trans rfl) rfl ?_
  refine g_iload ((q_0 _).trans rfl) rfl ?_
  refine g_push ((q_0 _).trans rfl) ?_
  refine g_iadd ((q_0 _).trans rfl) ?_
  refine g_sld ((q_0 _).trans rfl) ?_
  refine g_aload ((q_0 _).trans rfl) rfl ?_
  refine g_callS (kk := 5) ((q_0 _).trans rfl) (gHn m_0) (by exact ⟨Nat.le_of_ble_eq_true rfl, Nat.le_of_ble_eq_true rfl, rfl⟩) rfl (fun w G1 => gm_I (fun v2 hw => ?_))
  subst hw
  refine g_istore ((q_0 _).trans rfl) ?_
  exact gle.rf _
noncomputable def t_0_1706_1 (K : gK) (d : Nat) (l0 : Nat) (l1 : Nat) (l2 : Nat) (l3 : Nat) (l4 : Nat) (l5 : Int32) (o7 : Option Value) (o8 : Option Value) (v2 : Int32) (G1 : gH) : Option gO := gRn K d 0 1719 [some (.ref l0), some (.ref l1), some (.ref l2), some (.ref l3), some (.ref l4), some (.int l5), some (.int v2), o7, o8] [] G1
noncomputable def t_0_1706 (K : gK) (d : Nat) (l0 : Nat) (l1 : Nat) (l2 : Nat) (l3 : Nat) (l4 : Nat) (l5 : Int32) (o6 : Option Value) (o7 : Option Value) (o8 : Option Value) (G : gH) : Option gO := if l0 = K.1.1 ∧ ¬ ((l5 + (1 : Int32)) < 0 ∨ K.1.2.1 ≤ ((l5 + (1 : Int32))).toNatClampNeg) then (cI (gCa K d 52 [.ref l1, .int (K.1.2.2 ((l5 + (1 : Int32))).toNatClampNeg), .ref l3] G) (t_0_1706_1 K d l0 l1 l2 l3 l4 l5 o7 o8)) else none
theorem e_0_1706 {K : gK} {d : Nat} {l0 : Nat} {l1 : Nat} {l2 : Nat} {l3 : Nat} {l4 : Nat} {l5 : Int32} {o6 : Option Value} {o7 : Option Value} {o8 : Option Value} {G : gH} : gle (t_0_1706 K d l0 l1 l2 l3 l4 l5 o6 o7 o8 G) (gRn K d 0 1706 [some (.ref l0), some (.ref l1), some (.ref l2), some (.ref l3), some (.ref l4), some (.int l5), o6, o7, o8] [] G) := by
  unfold t_0_1706
  refine g_aload ((q_0 _).trans rfl) rfl ?_
  refine g_aload ((q_0 _).trans rfl) rfl ?_
  refine g_iload ((q_0 _).trans rfl) rfl ?_
  refine g_push ((q_0 _).trans rfl) ?_
  refine g_iadd ((q_0 _).trans rfl) ?_
  refine g_sld ((q_0 _).trans rfl) ?_
  refine g_aload ((q_0 _).trans rfl) rfl ?_
  refine g_callS (kk := 3) ((q_0 _).trans rfl) (gHn m_0) (by exact ⟨Nat.le_of_ble_eq_true rfl, Nat.le_of_ble_eq_true rfl, rfl⟩) rfl (fun w G1 => gm_I (fun v2 hw => ?_))
  subst hw
  refine g_istore ((q_0 _).trans rfl) ?_
  exact gle.rf _
noncomputable def t_0_1762_1 (K : gK) (d : Nat) (l0 : Nat) (l1 : Nat) (l2 : Nat) (l3 : Nat) (l4 : Nat) (l5 : Int32) (o7 : Option Value) (o8 : Option Value) (v2 : Int32) (G1 : gH) : Option gO := gRn K d 0 1775 [some (.ref l0), some (.ref l1), some (.ref l2), some (.ref l3), some (.ref l4), some (.int l5), some (.int v2), o7, o8] [] G1
noncomputable def t_0_1762 (K : gK) (d : Nat) (l0 : Nat) (l1 : Nat) (l2 : Nat) (l3 : Nat) (l4 : Nat) (l5 : Int32) (o6 : Option Value) (o7 : Option Value) (o8 : Option Value) (G : gH) : Option gO := if l0 = K.1.1 ∧ ¬ ((l5 + (1 : Int32)) < 0 ∨ K.1.2.1 ≤ ((l5 + (1 : Int32))).toNatClampNeg) then (cI (gCa K d 54 [.ref l1, .int (K.1.2.2 ((l5 + (1 : Int32))).toNatClampNeg), .ref l3] G) (t_0_1762_1 K d l0 l1 l2 l3 l4 l5 o7 o8)) else none
theorem e_0_1762 {K : gK} {d : Nat} {l0 : Nat} {l1 : Nat} {l2 : Nat} {l3 : Nat} {l4 : Nat} {l5 : Int32} {o6 : Option Value} {o7 : Option Value} {o8 : Option Value} {G : gH} : gle (t_0_1762 K d l0 l1 l2 l3 l4 l5 o6 o7 o8 G) (gRn K d 0 1762 [some (.ref l0), some (.ref l1), some (.ref l2), some (.ref l3), some (.ref l4), some (.int l5), o6, o7, o8] [] G) := by
  unfold t_0_1762
  refine g_aload ((q_0 _).trans rfl) rfl ?_
  refine g_aload ((q_0 _).trans rfl) rfl ?_
  refine g_iload ((q_0 _).trans rfl) rfl ?_
  refine g_push ((q_0 _).trans rfl) ?_
  refine g_iadd ((q_0 _).trans rfl) ?_
  refine g_sld ((q_0 _).trans rfl) ?_
  refine g_aload ((q_0 _).trans rfl) rfl ?_
  refine g_callS (kk := 3) ((q_0 _).trans rfl) (gHn m_0) (by exact ⟨Nat.le_of_ble_eq_true rfl, Nat.le_of_ble_eq_true rfl, rfl⟩) rfl (fun w G1 => gm_I (fun v2 hw => ?_))
  subst hw
  refine g_istore ((q_0 _).trans rfl) ?_
  exact gle.rf _
noncomputable def t_0_1818_1 (K : gK) (d : Nat) (l0 : Nat) (l1 : Nat) (l2 : Nat) (l3 : Nat) (l4 : Nat) (l5 : Int32) (o7 : Option Value) (o8 : Option Value) (v2 : Int32) (G1 : gH) : Option gO := gRn K d 0 1831 [some (.ref l0), some (.ref l1), some (.ref l2), some (.ref l3), some (.ref l4), some (.int l5), some (.int v2), o7, o8] [] G1
noncomputable def t_0_1818 (K : gK) (d : Nat) (l0 : Nat) (l1 : Nat) (l2 : Nat) (l3 : Nat) (l4 : Nat) (l5 : Int32) (o6 : Option Value) (o7 : Option Value) (o8 : Option Value) (G : gH) : Option gO := if l0 = K.1.1 ∧ ¬ ((l5 + (1 : Int32)) < 0 ∨ K.1.2.1 ≤ ((l5 + (1 : Int32))).toNatClampNeg) then (cI (gCa K d 56 [.ref l1, .int (K.1.2.2 ((l5 + (1 : Int32))).toNatClampNeg), .ref l3] G) (t_0_1818_1 K d l0 l1 l2 l3 l4 l5 o7 o8)) else none
theorem e_0_1818 {K : gK} {d : Nat} {l0 : Nat} {l1 : Nat} {l2 : Nat} {l3 : Nat} {l4 : Nat} {l5 : Int32} {o6 : Option Value} {o7 : Option Value} {o8 : Option Value} {G : gH} : gle (t_0_1818 K d l0 l1 l2 l3 l4 l5 o6 o7 o8 G) (gRn K d 0 1818 [some (.ref l0), some (.ref l1), some (.ref l2), some (.ref l3), some (.ref l4), some (.int l5), o6, o7, o8] [] G) := by
  unfold t_0_1818
  refine g_aload ((q_0 _).trans rfl) rfl ?_
  refine g_aload ((q_0 _).trans rfl) rfl ?_
  refine g_iload ((q_0 _).trans rfl) rfl ?_
  refine g_push ((q_0 _).trans rfl) ?_
  refine g_iadd ((q_0 _).trans rfl) ?_
  refine g_sld ((q_0 _).trans rfl) ?_
  refine g_aload ((q_0 _).trans rfl) rfl ?_
  refine g_callS (kk := 3) ((q_0 _).trans rfl) (gHn m_0) (by exact ⟨Nat.le_of_ble_eq_true rfl, Nat.le_of_ble_eq_true rfl, rfl⟩) rfl (fun w G1 => gm_I (fun v2 hw => ?_))
  subst hw
  refine g_istore ((q_0 _).trans rfl) ?_
  exact gle.rf _
noncomputable def t_0_1874_1 (K : gK) (d : Nat) (l0 : Nat) (l1 : Nat) (l2 : Nat) (l3 : Nat) (l4 : Nat) (l5 : Int32) (o7 : Option Value) (o8 : Option Value) (v2 : Int32) (G1 : gH) : Option gO := gRn K d 0 1887 [some (.ref l0), some (.ref l1), some (.ref l2), some (.ref l3), some (.ref l4), some (.int l5), some (.int v2), o7, o8] [] G1
noncomputable def t_0_1874 (K : gK) (d : Nat) (l0 : Nat) (l1 : Nat) (l2 : Nat) (l3 : Nat) (l4 : Nat) (l5 : Int32) (o6 : Option Value) (o7 : Option Value) (o8 : Option Value) (G : gH) : Option gO := if l0 = K.1.1 ∧ ¬ ((l5 + (1 : Int32)) < 0 ∨ K.1.2.1 ≤ ((l5 + (1 : Int32))).toNatClampNeg) then (cI (gCa K d 58 [.ref l1, .int (K.1.2.2 ((l5 + (1 : Int32))).toNatClampNeg), .ref l3] G) (t_0_1874_1 K d l0 l1 l2 l3 l4 l5 o7 o8)) else none
theorem e_0_1874 {K : gK} {d : Nat} {l0 : Nat} {l1 : Nat} {l2 : Nat} {l3 : Nat} {l4 : Nat} {l5 : Int32} {o6 : Option Value} {o7 : Option Value} {o8 : Option Value} {G : gH} : gle (t_0_1874 K d l0 l1 l2 l3 l4 l5 o6 o7 o8 G) (gRn K d 0 1874 [some (.ref l0), some (.ref l1), some (.ref l2), some (.ref l3), some (.ref l4), some (.int l5), o6, o7, o8] [] G) := by
  unfold t_0_1874
  refine g_aload ((q_0 _).trans rfl) rfl ?_
  refine g_aload ((q_0 _).trans rfl) rfl ?_
  refine g_iload ((q_0 _).trans rfl) rfl ?_
  refine g_push ((q_0 _).trans rfl) ?_
  refine g_iadd ((q_0 _).trans rfl) ?_
  refine g_sld ((q_0 _).trans rfl) ?_
  refine g_aload ((q_0 _).trans rfl) rfl ?_
  refine g_callS (kk := 3) ((q_0 _).trans rfl) (gHn m_0) (by exact ⟨Nat.le_of_ble_eq_true rfl, Nat.le_of_ble_eq_true rfl, rfl⟩) rfl (fun w G1 => gm_I (fun v2 hw => ?_))
  subst hw
  refine g_istore ((q_0 _).trans rfl) ?_
  exact gle.rf _
noncomputable def t_0_1930_1 (K : gK) (d : Nat) (v2 : Int32) (l0 : Nat) (l1 : Nat) (l2 : Nat) (l3 : Nat) (l4 : Nat) (l5 : Int32) (o6 : Option Value) (o7 : Option Value) (o8 : Option Value) (v4 : Int32) (G3 : gH) : Option gO := if v2 = v4 then (gRn K d 0 2545 [some (.ref l0), some (.ref l1), some (.ref l2), some (.ref l3), some (.ref l4), some (.int l5), o6, o7, o8] [] G3) else (if narrow .boolean (.int (0 : Int32)) = .int (0 : Int32) then some (.inl (some (.int (0 : Int32))), G3) else none)
noncomputable def t_0_1930_2 (K : gK) (d : Nat) (l2 : Nat) (l0 : Nat) (l1 : Nat) (l3 : Nat) (l4 : Nat) (l5 : Int32) (o6 : Option Value) (o7 : Option Value) (o8 : Option Value) (v2 : Int32) (G1 : gH) : Option gO := if g_cls G1 l2 = some 3 then (cI (gCa K d 61 [.ref l2] G1) (t_0_1930_1 K d v2 l0 l1 l2 l3 l4 l5 o6 o7 o8)) else none
noncomputable def t_0_1930 (K : gK) (d : Nat) (l0 : Nat) (l1 : Nat) (l2 : Nat) (l3 : Nat) (l4 : Nat) (l5 : Int32) (o6 : Option Value) (o7 : Option Value) (o8 : Option Value) (G : gH) : Option gO := if g_cls G l1 = some 0 then (cI (gCa K d 60 [.ref l1] G) (t_0_1930_2 K d l2 l0 l1 l3 l4 l5 o6 o7 o8)) else none
theorem e_0_1930 {K : gK} {d : Nat} {l0 : Nat} {l1 : Nat} {l2 : Nat} {l3 : Nat} {l4 : Nat} {l5 : Int32} {o6 : Option Value} {o7 : Option Value} {o8 : Option Value} {G : gH} : gle (t_0_1930 K d l0 l1 l2 l3 l4 l5 o6 o7 o8 G) (gRn K d 0 1930 [some (.ref l0), some (.ref l1), some (.ref l2), some (.ref l3), some (.ref l4), some (.int l5), o6, o7, o8] [] G) := by
  unfold t_0_1930
  refine g_aload ((q_0 _).trans rfl) rfl ?_
  refine g_callV (kk := 0) ((q_0 _).trans rfl) (gHn m_0) rfl (by exact ⟨Nat.le_of_ble_eq_true rfl, rfl⟩) rfl (fun w G1 => gm_I (fun v2 hw => ?_))
  subst hw
  refine g_aload ((q_0 _).trans rfl) rfl ?_
  refine g_callV (kk := 0) ((q_0 _).trans rfl) (gHn m_0) rfl (by exact ⟨Nat.le_of_ble_eq_true rfl, rfl⟩) rfl (fun w G3 => gm_I (fun v4 hw => ?_))
  subst hw
  refine g_cmpeq ((q_0 _).trans rfl) (fun _ => ?_) (fun _ => ?_)
  · exact gle.rf _
  · refine g_push ((q_0 _).trans rfl) ?_
    exact g_zret ((q_0 _).trans rfl)
noncomputable def t_0_1943_1 (K : gK) (d : Nat) (l0 : Nat) (l1 : Nat) (l2 : Nat) (l3 : Nat) (l4 : Nat) (l5 : Int32) (o7 : Option Value) (o8 : Option Value) (v2 : Int32) (G1 : gH) : Option gO := gRn K d 0 1956 [some (.ref l0), some (.ref l1), some (.ref l2), some (.ref l3), some (.ref l4), some (.int l5), some (.int v2), o7, o8] [] G1
noncomputable def t_0_1943 (K : gK) (d : Nat) (l0 : Nat) (l1 : Nat) (l2 : Nat) (l3 : Nat) (l4 : Nat) (l5 : Int32) (o6 : Option Value) (o7 : Option Value) (o8 : Option Value) (G : gH) : Option gO := if l0 = K.1.1 ∧ ¬ ((l5 + (1 : Int32)) < 0 ∨ K.1.2.1 ≤ ((l5 + (1 : Int32))).toNatClampNeg) then (cI (gCa K d 62 [.ref l1, .int (K.1.2.2 ((l5 + (1 : Int32))).toNatClampNeg), .ref l3] G) (t_0_1943_1 K d l0 l1 l2 l3 l4 l5 o7 o8)) else none
theorem e_0_1943 {K : gK} {d : Nat} {l0 : Nat} {l1 : Nat} {l2 : Nat} {l3 : Nat} {l4 : Nat} {l5 : Int32} {o6 : Option Value} {o7 : Option Value} {o8 : Option Value} {G : gH} : gle (t_0_1943 K d l0 l1 l2 l3 l4 l5 o6 o7 o8 G) (gRn K d 0 1943 [some (.ref l0), some (.ref l1), some (.ref l2), some (.ref l3), some (.ref l4), some (.int l5), o6, o7, o8] [] G) := by
  unfold t_0_1943
  refine g_aload ((q_0 _).trans rfl) rfl ?_
  refine g_aload ((q_0 _).trans rfl) rfl ?_
  refine g_iload ((q_0 _).trans rfl) rfl ?_
  refine g_push ((q_0 _).trans rfl) ?_
  refine g_iadd ((q_0 _).trans rfl) ?_
  refine g_sld ((q_0 _).trans rfl) ?_
  refine g_aload ((q_0 _).trans rfl) rfl ?_
  refine g_callS (kk := 3) ((q_0 _).trans rfl) (gHn m_0) (by exact ⟨Nat.le_of_ble_eq_true rfl, Nat.le_of_ble_eq_true rfl, rfl⟩) rfl (fun w G1 => gm_I (fun v2 hw => ?_))
  subst hw
  refine g_istore ((q_0 _).trans rfl) ?_
  exact gle.rf _
noncomputable def t_0_1999_1 (K : gK) (d : Nat) (l0 : Nat) (l1 : Nat) (l2 : Nat) (l3 : Nat) (l4 : Nat) (l5 : Int32) (o7 : Option Value) (o8 : Option Value) (v2 : Int32) (G1 : gH) : Option gO := gRn K d 0 2026 [some (.ref l0), some (.ref l1), some (.ref l2), some (.ref l3), some (.ref l4), some (.int l5), some (.int v2), o7, o8] [] G1
noncomputable def t_0_1999_2 (K : gK) (d : Nat) (l0 : Nat) (l1 : Nat) (l2 : Nat) (l3 : Nat) (l4 : Nat) (l5 : Int32) (o7 : Option Value) (o8 : Option Value) (v4 : Int32) (G3 : gH) : Option gO := gRn K d 0 2026 [some (.ref l0), some (.ref l1), some (.ref l2), some (.ref l3), some (.ref l4), some (.int l5), some (.int v4), o7, o8] [] G3
noncomputable def t_0_1999 (K : gK) (d : Nat) (l0 : Nat) (l1 : Nat) (l2 : Nat) (l3 : Nat) (l4 : Nat) (l5 : Int32) (o6 : Option Value) (o7 : Option Value) (o8 : Option Value) (G : gH) : Option gO := if l0 = K.1.1 ∧ ¬ ((l5 + (1 : Int32)) < 0 ∨ K.1.2.1 ≤ ((l5 + (1 : Int32))).toNatClampNeg) then (if l0 = K.1.1 ∧ ¬ ((l5 + (2 : Int32)) < 0 ∨ K.1.2.1 ≤ ((l5 + (2 : Int32))).toNatClampNeg) then (if (K.1.2.2 ((l5 + (2 : Int32))).toNatClampNeg) = 0 then (cI (gCa K d 64 [.ref l1, .int (K.1.2.2 ((l5 + (1 : Int32))).toNatClampNeg), .int (0 : Int32), .ref l3] G) (t_0_1999_1 K d l0 l1 l2 l3 l4 l5 o7 o8)) else (cI (gCa K d 64 [.ref l1, .int (K.1.2.2 ((l5 + (1 : Int32))).toNatClampNeg), .int (1 : Int32), .ref l3] G) (t_0_1999_2 K d l0 l1 l2 l3 l4 l5 o7 o8))) else none) else none
theorem e_0_1999 {K : gK} {d : Nat} {l0 : Nat} {l1 : Nat} {l2 : Nat} {l3 : Nat} {l4 : Nat} {l5 : Int32} {o6 : Option Value} {o7 : Option Value} {o8 : Option Value} {G : gH} : gle (t_0_1999 K d l0 l1 l2 l3 l4 l5 o6 o7 o8 G) (gRn K d 0 1999 [some (.ref l0), some (.ref l1), some (.ref l2), some (.ref l3), some (.ref l4), some (.int l5), o6, o7, o8] [] G) := by
  unfold t_0_1999
  refine g_aload ((q_0 _).trans rfl) rfl ?_
  refine g_aload ((q_0 _).trans rfl) rfl ?_
  refine g_iload ((q_0 _).trans rfl) rfl ?_
  refine g_push ((q_0 _).trans rfl) ?_
  refine g_iadd ((q_0 _).trans rfl) ?_
  refine g_sld ((q_0 _).trans rfl) ?_
  refine g_aload ((q_0 _).trans rfl) rfl ?_
  refine g_iload ((q_0 _).trans rfl) rfl ?_
  refine g_push ((q_0 _).trans rfl) ?_
  refine g_iadd ((q_0 _).trans rfl) ?_
  refine g_sld ((q_0 _).trans rfl) ?_
  refine g_ifeq ((q_0 _).trans rfl) (fun _ => ?_) (fun _ => ?_)
  · refine g_push ((q_0 _).trans rfl) ?_
    refine g_aload ((q_0 _).trans rfl) rfl ?_
    refine g_callS (kk := 4) ((q_0 _).trans rfl) (gHn m_0) (by exact ⟨Nat.le_of_ble_eq_true rfl, Nat.le_of_ble_eq_true rfl, rfl⟩) rfl (fun w G1 => gm_I (fun v2 hw => ?_))
    subst hw
    refine g_istore ((q_0 _).trans rfl) ?_
    exact gle.rf _
  · refine g_push ((q_0 _).trans rfl) ?_
    refine g_goto ((q_0 _).trans rfl) ?_
    refine g_aload ((q_0 _).trans rfl) rfl ?_
    refine g_callS (kk := 4) ((q_0 _).trans rfl) (gHn m_0) (by exact ⟨Nat.le_of_ble_eq_true rfl, Nat.le_of_ble_eq_true rfl, rfl⟩) rfl (fun w G3 => gm_I (fun v4 hw => ?_))
    subst hw
    refine g_istore ((q_0 _).trans rfl) ?_
    exact gle.rf _
noncomputable def t_0_2083_1 (K : gK) (d : Nat) (l0 : Nat) (l1 : Nat) (l2 : Nat) (l3 : Nat) (l4 : Nat) (l5 : Int32) (o7 : Option Value) (o8 : Option Value) (v2 : Int32) (G1 : gH) : Option gO := gRn K d 0 2096 [some (.ref l0), some (.ref l1), some (.ref l2), some (.ref l3), some (.ref l4), some (.int l5), some (.int v2), o7, o8] [] G1
noncomputable def t_0_2083 (K : gK) (d : Nat) (l0 : Nat) (l1 : Nat) (l2 : Nat) (l3 : Nat) (l4 : Nat) (l5 : Int32) (o6 : Option Value) (o7 : Option Value) (o8 : Option Value) (G : gH) : Option gO := if l0 = K.1.1 ∧ ¬ ((l5 + (1 : Int32)) < 0 ∨ K.1.2.1 ≤ ((l5 + (1 : Int32))).toNatClampNeg) then (cI (gCa K d 66 [.ref l1, .int (K.1.2.2 ((l5 + (1 : Int32))).toNatClampNeg), .ref l3] G) (t_0_2083_1 K d l0 l1 l2 l3 l4 l5 o7 o8)) else none
theorem e_0_2083 {K : gK} {d : Nat} {l0 : Nat} {l1 : Nat} {l2 : Nat} {l3 : Nat} {l4 : Nat} {l5 : Int32} {o6 : Option Value} {o7 : Option Value} {o8 : Option Value} {G : gH} : gle (t_0_2083 K d l0 l1 l2 l3 l4 l5 o6 o7 o8 G) (gRn K d 0 2083 [some (.ref l0), some (.ref l1), some (.ref l2), some (.ref l3), some (.ref l4), some (.int l5), o6, o7, o8] [] G) := by
  unfold t_0_2083
  refine g_aload ((q_0 _).trans rfl) rfl ?_
  refine g_aload ((q_0 _).trans rfl) rfl ?_
  refine g_iload ((q_0 _).trans rfl) rfl ?_
  refine g_push ((q_0 _).trans rfl) ?_
  refine g_iadd ((q_0 _).trans rfl) ?_
  refine g_sld ((q_0 _).trans rfl) ?_
  refine g_aload ((q_0 _).trans rfl) rfl ?_
  refine g_callS (kk := 3) ((q_0 _).trans rfl) (gHn m_0) (by exact ⟨Nat.le_of_ble_eq_true rfl, Nat.le_of_ble_eq_true rfl, rfl⟩) rfl (fun w G1 => gm_I (fun v2 hw => ?_))
  subst hw
  refine g_istore ((q_0 _).trans rfl) ?_
  exact gle.rf _
noncomputable def t_0_2139_1 (K : gK) (d : Nat) (l0 : Nat) (l1 : Nat) (l2 : Nat) (l3 : Nat) (l4 : Nat) (l5 : Int32) (o7 : Option Value) (o8 : Option Value) (v2 : Int32) (G1 : gH) : Option gO := gRn K d 0 2152 [some (.ref l0), some (.ref l1), some (.ref l2), some (.ref l3), some (.ref l4), some (.int l5), some (.int v2), o7, o8] [] G1
noncomputable def t_0_2139 (K : gK) (d : Nat) (l0 : Nat) (l1 : Nat) (l2 : Nat) (l3 : Nat) (l4 : Nat) (l5 : Int32) (o6 : Option Value) (o7 : Option Value) (o8 : Option Value) (G : gH) : Option gO := if l0 = K.1.1 ∧ ¬ ((l5 + (1 : Int32)) < 0 ∨ K.1.2.1 ≤ ((l5 + (1 : Int32))).toNatClampNeg) then (cI (gCa K d 68 [.ref l1, .int (K.1.2.2 ((l5 + (1 : Int32))).toNatClampNeg), .ref l3] G) (t_0_2139_1 K d l0 l1 l2 l3 l4 l5 o7 o8)) else none
theorem e_0_2139 {K : gK} {d : Nat} {l0 : Nat} {l1 : Nat} {l2 : Nat} {l3 : Nat} {l4 : Nat} {l5 : Int32} {o6 : Option Value} {o7 : Option Value} {o8 : Option Value} {G : gH} : gle (t_0_2139 K d l0 l1 l2 l3 l4 l5 o6 o7 o8 G) (gRn K d 0 2139 [some (.ref l0), some (.ref l1), some (.ref l2), some (.ref l3), some (.ref l4), some (.int l5), o6, o7, o8] [] G) := by
  unfold t_0_2139
  refine g_aload ((q_0 _).trans rfl) rfl ?_
  refine g_aload ((q_0 _).trans rfl) rfl ?_
  refine g_iload ((q_0 _).trans rfl) rfl ?_
  refine g_push ((q_0 _).trans rfl) ?_
  refine g_iadd ((q_0 _).trans rfl) ?_
  refine g_sld ((q_0 _).trans rfl) ?_
  refine g_aload ((q_0 _).trans rfl) rfl ?_
  refine g_callS (kk := 3) ((q_0 _).trans rfl) (gHn m_0) (by exact ⟨Nat.le_of_ble_eq_true rfl, Nat.le_of_ble_eq_true rfl, rfl⟩) rfl (fun w G1 => gm_I (fun v2 hw => ?_))
  subst hw
  refine g_istore ((q_0 _).trans rfl) ?_
  exact gle.rf _
noncomputable def t_0_2195_1 (K : gK) (d : Nat) (l0 : Nat) (l1 : Nat) (l2 : Nat) (l3 : Nat) (l4 : Nat) (l5 : Int32) (o7 : Option Value) (o8 : Option Value) (v2 : Int32) (G1 : gH) : Option gO := gRn K d 0 2214 [some (.ref l0), some (.ref l1), some (.ref l2), some (.ref l3), some (.ref l4), some (.int l5), some (.int v2), o7, o8] [] G1
noncomputable def t_0_2195 (K : gK) (d : Nat) (l0 : Nat) (l1 : Nat) (l2 : Nat) (l3 : Nat) (l4 : Nat) (l5 : Int32) (o6 : Option Value) (o7 : Option Value) (o8 : Option Value) (G : gH) : Option gO := if l0 = K.1.1 ∧ ¬ ((l5 + (1 : Int32)) < 0 ∨ K.1.2.1 ≤ ((l5 + (1 : Int32))).toNatClampNeg) then (if l0 = K.1.1 ∧ ¬ ((l5 + (2 : Int32)) < 0 ∨ K.1.2.1 ≤ ((l5 + (2 : Int32))).toNatClampNeg) then (cI (gCa K d 70 [.ref l1, .int (K.1.2.2 ((l5 + (1 : Int32))).toNatClampNeg), .int (K.1.2.2 ((l5 + (2 : Int32))).toNatClampNeg), .ref l3] G) (t_0_2195_1 K d l0 l1 l2 l3 l4 l5 o7 o8)) else none) else none
theorem e_0_2195 {K : gK} {d : Nat} {l0 : Nat} {l1 : Nat} {l2 : Nat} {l3 : Nat} {l4 : Nat} {l5 : Int32} {o6 : Option Value} {o7 : Option Value} {o8 : Option Value} {G : gH} : gle (t_0_2195 K d l0 l1 l2 l3 l4 l5 o6 o7 o8 G) (gRn K d 0 2195 [some (.ref l0), some (.ref l1), some (.ref l2), some (.ref l3), some (.ref l4), some (.int l5), o6, o7, o8] [] G) := by
  unfold t_0_2195
  refine g_aload ((q_0 _).trans rfl) rfl ?_
  refine g_aload ((q_0 _).trans rfl) rfl ?_
  refine g_iload ((q_0 _).trans rfl) rfl ?_
  refine g_push ((q_0 _).trans rfl) ?_
  refine g_iadd ((q_0 _).trans rfl) ?_
  refine g_sld ((q_0 _).trans rfl) ?_
  refine g_aload ((q_0 _).trans rfl) rfl ?_
  refine g_iload ((q_0 _).trans rfl) rfl ?_
  refine g_push ((q_0 _).trans rfl) ?_
  refine g_iadd ((q_0 _).trans rfl) ?_
  refine g_sld ((q_0 _).trans rfl) ?_
  refine g_aload ((q_0 _).trans rfl) rfl ?_
  refine g_callS (kk := 4) ((q_0 _).trans rfl) (gHn m_0) (by exact ⟨Nat.le_of_ble_eq_true rfl, Nat.le_of_ble_eq_true rfl, rfl⟩) rfl (fun w G1 => gm_I (fun v2 hw => ?_))
  subst hw
  refine g_istore ((q_0 _).trans rfl) ?_
  exact gle.rf _
noncomputable def t_0_2263_1 (K : gK) (d : Nat) (l0 : Nat) (l1 : Nat) (l2 : Nat) (l3 : Nat) (l4 : Nat) (l5 : Int32) (o7 : Option Value) (o8 : Option Value) (v2 : Int32) (G1 : gH) : Option gO := gRn K d 0 2276 [some (.ref l0), some (.ref l1), some (.ref l2), some (.ref l3), some (.ref l4), some (.int l5), some (.int v2), o7, o8] [] G1
noncomputable def t_0_2263 (K : gK) (d : Nat) (l0 : Nat) (l1 : Nat) (l2 : Nat) (l3 : Nat) (l4 : Nat) (l5 : Int32) (o6 : Option Value) (o7 : Option Value) (o8 : Option Value) (G : gH) : Option gO := if l0 = K.1.1 ∧ ¬ ((l5 + (1 : Int32)) < 0 ∨ K.1.2.1 ≤ ((l5 + (1 : Int32))).toNatClampNeg) then (cI (gCa K d 72 [.ref l1, .int (K.1.2.2 ((l5 + (1 : Int32))).toNatClampNeg), .ref l3] G) (t_0_2263_1 K d l0 l1 l2 l3 l4 l5 o7 o8)) else none
theorem e_0_2263 {K : gK} {d : Nat} {l0 : Nat} {l1 : Nat} {l2 : Nat} {l3 : Nat} {l4 : Nat} {l5 : Int32} {o6 : Option Value} {o7 : Option Value} {o8 : Option Value} {G : gH} : gle (t_0_2263 K d l0 l1 l2 l3 l4 l5 o6 o7 o8 G) (gRn K d 0 2263 [some (.ref l0), some (.ref l1), some (.ref l2), some (.ref l3), some (.ref l4), some (.int l5), o6, o7, o8] [] G) := by
  unfold t_0_2263
  refine g_aload ((q_0 _).trans rfl) rfl ?_
  refine g_aload ((q_0 _).trans rfl) rfl ?_
  refine g_iload ((q_0 _).trans rfl) rfl ?_
  refine g_push ((q_0 _).trans rfl) ?_
  refine g_iadd ((q_0 _).trans rfl) ?_
  refine g_sld ((q_0 _).trans rfl) ?_
  refine g_aload ((q_0 _).trans rfl) rfl ?_
  refine g_callS (kk := 3) ((q_0 _).trans rfl) (gHn m_0) (by exact ⟨Nat.le_of_ble_eq_true rfl, Nat.le_of_ble_eq_true rfl, rfl⟩) rfl (fun w G1 => gm_I (fun v2 hw => ?_))
  subst hw
  refine g_istore ((q_0 _).trans rfl) ?_
  exact gle.rf _
noncomputable def t_0_2319_1 (K : gK) (d : Nat) (l0 : Nat) (l1 : Nat) (l2 : Nat) (l3 : Nat) (l4 : Nat) (l5 : Int32) (o7 : Option Value) (o8 : Option Value) (v2 : Int32) (G1 : gH) : Option gO := gRn K d 0 2338 [some (.ref l0), some (.ref l1), some (.ref l2), some (.ref l3), some (.ref l4), some (.int l5), some (.int v2), o7, o8] [] G1
noncomputable def t_0_2319 (K : gK) (d : Nat) (l0 : Nat) (l1 : Nat) (l2 : Nat) (l3 : Nat) (l4 : Nat) (l5 : Int32) (o6 : Option Value) (o7 : Option Value) (o8 : Option Value) (G : gH) : Option gO := if l0 = K.1.1 ∧ ¬ ((l5 + (1 : Int32)) < 0 ∨ K.1.2.1 ≤ ((l5 + (1 : Int32))).toNatClampNeg) then (if l0 = K.1.1 ∧ ¬ ((l5 + (2 : Int32)) < 0 ∨ K.1.2.1 ≤ ((l5 + (2 : Int32))).toNatClampNeg) then (cI (gCa K d 74 [.ref l1, .int (K.1.2.2 ((l5 + (1 : Int32))).toNatClampNeg), .int (K.1.2.2 ((l5 + (2 : Int32))).toNatClampNeg), .ref l3] G) (t_0_2319_1 K d l0 l1 l2 l3 l4 l5 o7 o8)) else none) else none
theorem e_0_2319 {K : gK} {d : Nat} {l0 : Nat} {l1 : Nat} {l2 : Nat} {l3 : Nat} {l4 : Nat} {l5 : Int32} {o6 : Option Value} {o7 : Option Value} {o8 : Option Value} {G : gH} : gle (t_0_2319 K d l0 l1 l2 l3 l4 l5 o6 o7 o8 G) (gRn K d 0 2319 [some (.ref l0), some (.ref l1), some (.ref l2), some (.ref l3), some (.ref l4), some (.int l5), o6, o7, o8] [] G) := by
  unfold t_0_2319
  refine g_aload ((q_0 _).trans rfl) rfl ?_
  refine g_aload ((q_0 _).trans rfl) rfl ?_
  refine g_iload ((q_0 _).trans rfl) rfl ?_
  refine g_push ((q_0 _).trans rfl) ?_
  refine g_iadd ((q_0 _).trans rfl) ?_
  refine g_sld ((q_0 _).trans rfl) ?_
  refine g_aload ((q_0 _).trans rfl) rfl ?_
  refine g_iload ((q_0 _).trans rfl) rfl ?_
  refine g_push ((q_0 _).trans rfl) ?_
  refine g_iadd ((q_0 _).trans rfl) ?_
  refine g_sld ((q_0 _).trans rfl) ?_
  refine g_aload ((q_0 _).trans rfl) rfl ?_
  refine g_callS (kk := 4) ((q_0 _).trans rfl) (gHn m_0) (by exact ⟨Nat.le_of_ble_eq_true rfl, Nat.le_of_ble_eq_true rfl, rfl⟩) rfl (fun w G1 => gm_I (fun v2 hw => ?_))
  subst hw
  refine g_istore ((q_0 _).trans rfl) ?_
  exact gle.rf _
noncomputable def t_0_2387_1 (K : gK) (d : Nat) (j2 : Int64) (l0 : Nat) (l1 : Nat) (l2 : Nat) (l3 : Nat) (l4 : Nat) (l5 : Int32) (o6 : Option Value) (o7 : Option Value) (o8 : Option Value) (j4 : Int64) (G3 : gH) : Option gO := if (lg_cmp j2 j4) = 0 then (gRn K d 0 2545 [some (.ref l0), some (.ref l1), some (.ref l2), some (.ref l3), some (.ref l4), some (.int l5), o6, o7, o8] [] G3) else (if narrow .boolean (.int (0 : Int32)) = .int (0 : Int32) then some (.inl (some (.int (0 : Int32))), G3) else none)
noncomputable def t_0_2387_2 (K : gK) (d : Nat) (l2 : Nat) (l0 : Nat) (l1 : Nat) (l3 : Nat) (l4 : Nat) (l5 : Int32) (o6 : Option Value) (o7 : Option Value) (o8 : Option Value) (j2 : Int64) (G1 : gH) : Option gO := if g_cls G1 l2 = some 3 then (cJ (gCa K d 77 [.ref l2] G1) (t_0_2387_1 K d j2 l0 l1 l2 l3 l4 l5 o6 o7 o8)) else none
noncomputable def t_0_2387 (K : gK) (d : Nat) (l0 : Nat) (l1 : Nat) (l2 : Nat) (l3 : Nat) (l4 : Nat) (l5 : Int32) (o6 : Option Value) (o7 : Option Value) (o8 : Option Value) (G : gH) : Option gO := if g_cls G l1 = some 0 then (cJ (gCa K d 76 [.ref l1] G) (t_0_2387_2 K d l2 l0 l1 l3 l4 l5 o6 o7 o8)) else none
theorem e_0_2387 {K : gK} {d : Nat} {l0 : Nat} {l1 : Nat} {l2 : Nat} {l3 : Nat} {l4 : Nat} {l5 : Int32} {o6 : Option Value} {o7 : Option Value} {o8 : Option Value} {G : gH} : gle (t_0_2387 K d l0 l1 l2 l3 l4 l5 o6 o7 o8 G) (gRn K d 0 2387 [some (.ref l0), some (.ref l1), some (.ref l2), some (.ref l3), some (.ref l4), some (.int l5), o6, o7, o8] [] G) := by
  unfold t_0_2387
  refine g_aload ((q_0 _).trans rfl) rfl ?_
  refine g_callV (kk := 0) ((q_0 _).trans rfl) (gHn m_0) rfl (by exact ⟨Nat.le_of_ble_eq_true rfl, rfl⟩) rfl (fun w G1 => gm_J (fun j2 hw => ?_))
  subst hw
  refine g_aload ((q_0 _).trans rfl) rfl ?_
  refine g_callV (kk := 0) ((q_0 _).trans rfl) (gHn m_0) rfl (by exact ⟨Nat.le_of_ble_eq_true rfl, rfl⟩) rfl (fun w G3 => gm_J (fun j4 hw => ?_))
  subst hw
  refine g_lcmp ((q_0 _).trans rfl) ?_
  refine g_ifeq ((q_0 _).trans rfl) (fun _ => ?_) (fun _ => ?_)
  · exact gle.rf _
  · refine g_push ((q_0 _).trans rfl) ?_
    exact g_zret ((q_0 _).trans rfl)
noncomputable def t_0_2401_1 (K : gK) (d : Nat) (l0 : Nat) (l1 : Nat) (l2 : Nat) (l3 : Nat) (l4 : Nat) (l5 : Int32) (o7 : Option Value) (o8 : Option Value) (v2 : Int32) (G1 : gH) : Option gO := gRn K d 0 2409 [some (.ref l0), some (.ref l1), some (.ref l2), some (.ref l3), some (.ref l4), some (.int l5), some (.int v2), o7, o8] [] G1
noncomputable def t_0_2401 (K : gK) (d : Nat) (l0 : Nat) (l1 : Nat) (l2 : Nat) (l3 : Nat) (l4 : Nat) (l5 : Int32) (o6 : Option Value) (o7 : Option Value) (o8 : Option Value) (G : gH) : Option gO := cI (gCa K d 78 [.ref l1, .ref l4] G) (t_0_2401_1 K d l0 l1 l2 l3 l4 l5 o7 o8)
theorem e_0_2401 {K : gK} {d : Nat} {l0 : Nat} {l1 : Nat} {l2 : Nat} {l3 : Nat} {l4 : Nat} {l5 : Int32} {o6 : Option Value} {o7 : Option Value} {o8 : Option Value} {G : gH} : gle (t_0_2401 K d l0 l1 l2 l3 l4 l5 o6 o7 o8 G) (gRn K d 0 2401 [some (.ref l0), some (.ref l1), some (.ref l2), some (.ref l3), some (.ref l4), some (.int l5), o6, o7, o8] [] G) := by
  unfold t_0_2401
  refine g_aload ((q_0 _).trans rfl) rfl ?_
  refine g_aload ((q_0 _).trans rfl) rfl ?_
  refine g_callS (kk := 2) ((q_0 _).trans rfl) (gHn m_0) (by exact ⟨Nat.le_of_ble_eq_true rfl, Nat.le_of_ble_eq_true rfl, rfl⟩) rfl (fun w G1 => gm_I (fun v2 hw => ?_))
  subst hw
  refine g_istore ((q_0 _).trans rfl) ?_
  exact gle.rf _
noncomputable def t_0_2467_1 (K : gK) (d : Nat) (l0 : Nat) (l1 : Nat) (l2 : Nat) (l3 : Nat) (l4 : Nat) (l5 : Int32) (o7 : Option Value) (o8 : Option Value) (v2 : Int32) (G1 : gH) : Option gO := gRn K d 0 2475 [some (.ref l0), some (.ref l1), some (.ref l2), some (.ref l3), some (.ref l4), some (.int l5), some (.int v2), o7, o8] [] G1
noncomputable def t_0_2467 (K : gK) (d : Nat) (l0 : Nat) (l1 : Nat) (l2 : Nat) (l3 : Nat) (l4 : Nat) (l5 : Int32) (o6 : Option Value) (o7 : Option Value) (o8 : Option Value) (G : gH) : Option gO := cI (gCa K d 80 [.ref l1, .ref l4] G) (t_0_2467_1 K d l0 l1 l2 l3 l4 l5 o7 o8)
theorem e_0_2467 {K : gK} {d : Nat} {l0 : Nat} {l1 : Nat} {l2 : Nat} {l3 : Nat} {l4 : Nat} {l5 : Int32} {o6 : Option Value} {o7 : Option Value} {o8 : Option Value} {G : gH} : gle (t_0_2467 K d l0 l1 l2 l3 l4 l5 o6 o7 o8 G) (gRn K d 0 2467 [some (.ref l0), some (.ref l1), some (.ref l2), some (.ref l3), some (.ref l4), some (.int l5), o6, o7, o8] [] G) := by
  unfold t_0_2467
  refine g_aload ((q_0 _).trans rfl) rfl ?_
  refine g_aload ((q_0 _).trans rfl) rfl ?_
  refine g_callS (kk := 2) ((q_0 _).trans rfl) (gHn m_0) (by exact ⟨Nat.le_of_ble_eq_true rfl, Nat.le_of_ble_eq_true rfl, rfl⟩) rfl (fun w G1 => gm_I (fun v2 hw => ?_))
  subst hw
  refine g_istore ((q_0 _).trans rfl) ?_
  exact gle.rf _
noncomputable def t_0_2532_1 (K : gK) (d : Nat) (v2 : Int32) (l0 : Nat) (l1 : Nat) (l2 : Nat) (l3 : Nat) (l4 : Nat) (l5 : Int32) (o6 : Option Value) (o7 : Option Value) (o8 : Option Value) (v4 : Int32) (G3 : gH) : Option gO := if v2 = v4 then (gRn K d 0 2545 [some (.ref l0), some (.ref l1), some (.ref l2), some (.ref l3), some (.ref l4), some (.int l5), o6, o7, o8] [] G3) else (if narrow .boolean (.int (0 : Int32)) = .int (0 : Int32) then some (.inl (some (.int (0 : Int32))), G3) else none)
noncomputable def t_0_2532_2 (K : gK) (d : Nat) (l2 : Nat) (l0 : Nat) (l1 : Nat) (l3 : Nat) (l4 : Nat) (l5 : Int32) (o6 : Option Value) (o7 : Option Value) (o8 : Option Value) (v2 : Int32) (G1 : gH) : Option gO := if g_cls G1 l2 = some 3 then (cI (gCa K d 83 [.ref l2] G1) (t_0_2532_1 K d v2 l0 l1 l2 l3 l4 l5 o6 o7 o8)) else none
noncomputable def t_0_2532 (K : gK) (d : Nat) (l0 : Nat) (l1 : Nat) (l2 : Nat) (l3 : Nat) (l4 : Nat) (l5 : Int32) (o6 : Option Value) (o7 : Option Value) (o8 : Option Value) (G : gH) : Option gO := if g_cls G l1 = some 0 then (cI (gCa K d 82 [.ref l1] G) (t_0_2532_2 K d l2 l0 l1 l3 l4 l5 o6 o7 o8)) else none
theorem e_0_2532 {K : gK} {d : Nat} {l0 : Nat} {l1 : Nat} {l2 : Nat} {l3 : Nat} {l4 : Nat} {l5 : Int32} {o6 : Option Value} {o7 : Option Value} {o8 : Option Value} {G : gH} : gle (t_0_2532 K d l0 l1 l2 l3 l4 l5 o6 o7 o8 G) (gRn K d 0 2532 [some (.ref l0), some (.ref l1), some (.ref l2), some (.ref l3), some (.ref l4), some (.int l5), o6, o7, o8] [] G) := by
  unfold t_0_2532
  refine g_aload ((q_0 _).trans rfl) rfl ?_
  refine g_callV (kk := 0) ((q_0 _).trans rfl) (gHn m_0) rfl (by exact ⟨Nat.le_of_ble_eq_true rfl, rfl⟩) rfl (fun w G1 => gm_I (fun v2 hw => ?_))
  subst hw
  refine g_aload ((q_0 _).trans rfl) rfl ?_
  refine g_callV (kk := 0) ((q_0 _).trans rfl) (gHn m_0) rfl (by exact ⟨Nat.le_of_ble_eq_true rfl, rfl⟩) rfl (fun w G3 => gm_I (fun v4 hw => ?_))
  subst hw
  refine g_cmpeq ((q_0 _).trans rfl) (fun _ => ?_) (fun _ => ?_)
  · exact gle.rf _
  · refine g_push ((q_0 _).trans rfl) ?_
    exact g_zret ((q_0 _).trans rfl)
noncomputable def t_0_2545 (K : gK) (d : Nat) (l0 : Nat) (l1 : Nat) (l2 : Nat) (l3 : Nat) (l4 : Nat) (l5 : Int32) (o6 : Option Value) (o7 : Option Value) (o8 : Option Value) (G : gH) : Option gO := gRn K d 0 28 [some (.ref l0), some (.ref l1), some (.ref l2), some (.ref l3), some (.ref l4), some (.int (l5 + 6)), o6, o7, o8] [] G
theorem e_0_2545 {K : gK} {d : Nat} {l0 : Nat} {l1 : Nat} {l2 : Nat} {l3 : Nat} {l4 : Nat} {l5 : Int32} {o6 : Option Value} {o7 : Option Value} {o8 : Option Value} {G : gH} : gle (t_0_2545 K d l0 l1 l2 l3 l4 l5 o6 o7 o8 G) (gRn K d 0 2545 [some (.ref l0), some (.ref l1), some (.ref l2), some (.ref l3), some (.ref l4), some (.int l5), o6, o7, o8] [] G) := by
  unfold t_0_2545
  refine g_iinc ((q_0 _).trans rfl) rfl ?_
  refine g_goto ((q_0 _).trans rfl) ?_
  exact gle.rf _
noncomputable def t_0_253_1 (K : gK) (d : Nat) (v2 : Int32) (l0 : Nat) (l1 : Nat) (l2 : Nat) (l3 : Nat) (l4 : Nat) (l5 : Int32) (l6 : Int32) (o8 : Option Value) (G3 : gH) (j5 : Int64) : Option gO := if (lg_cmp j5 ((v2).toInt64)) = 0 then (gRn K d 0 2545 [some (.ref l0), some (.ref l1), some (.ref l2), some (.ref l3), some (.ref l4), some (.int l5), some (.int l6), some (.int v2), o8] [] G3) else (if narrow .boolean (.int (0 : Int32)) = .int (0 : Int32) then some (.inl (some (.int (0 : Int32))), G3) else none)
noncomputable def t_0_253_2 (K : gK) (d : Nat) (l6 : Int32) (l3 : Nat) (v2 : Int32) (l0 : Nat) (l1 : Nat) (l2 : Nat) (l4 : Nat) (l5 : Int32) (o8 : Option Value) (v4 : Int32) (G3 : gH) : Option gO := if v4 = l6 then (if l6 = 0 then (xJ G3 l3 (0 : Int32) (t_0_253_1 K d v2 l0 l1 l2 l3 l4 l5 l6 o8 G3)) else (gRn K d 0 2545 [some (.ref l0), some (.ref l1), some (.ref l2), some (.ref l3), some (.ref l4), some (.int l5), some (.int l6), some (.int v2), o8] [] G3)) else (if narrow .boolean (.int (0 : Int32)) = .int (0 : Int32) then some (.inl (some (.int (0 : Int32))), G3) else none)
noncomputable def t_0_253_3 (K : gK) (d : Nat) (l2 : Nat) (l6 : Int32) (l3 : Nat) (l0 : Nat) (l1 : Nat) (l4 : Nat) (l5 : Int32) (o8 : Option Value) (v2 : Int32) (G1 : gH) : Option gO := if g_cls G1 l2 = some 3 then (cI (gCa K d 5 [.ref l2] G1) (t_0_253_2 K d l6 l3 v2 l0 l1 l2 l4 l5 o8)) else none
noncomputable def t_0_253_4 (K : gK) (d : Nat) (v7 : Int32) (l0 : Nat) (l1 : Nat) (l2 : Nat) (l3 : Nat) (l4 : Nat) (l5 : Int32) (l6 : Int32) (o8 : Option Value) (G8 : gH) (j10 : Int64) : Option gO := if (lg_cmp j10 ((v7).toInt64)) = 0 then (gRn K d 0 2545 [some (.ref l0), some (.ref l1), some (.ref l2), some (.ref l3), some (.ref l4), some (.int l5), some (.int l6), some (.int v7), o8] [] G8) else (if narrow .boolean (.int (0 : Int32)) = .int (0 : Int32) then some (.inl (some (.int (0 : Int32))), G8) else none)
noncomputable def t_0_253_5 (K : gK) (d : Nat) (l6 : Int32) (l3 : Nat) (v7 : Int32) (l0 : Nat) (l1 : Nat) (l2 : Nat) (l4 : Nat) (l5 : Int32) (o8 : Option Value) (v9 : Int32) (G8 : gH) : Option gO := if v9 = l6 then (if l6 = 0 then (xJ G8 l3 (0 : Int32) (t_0_253_4 K d v7 l0 l1 l2 l3 l4 l5 l6 o8 G8)) else (gRn K d 0 2545 [some (.ref l0), some (.ref l1), some (.ref l2), some (.ref l3), some (.ref l4), some (.int l5), some (.int l6), some (.int v7), o8] [] G8)) else (if narrow .boolean (.int (0 : Int32)) = .int (0 : Int32) then some (.inl (some (.int (0 : Int32))), G8) else none)
noncomputable def t_0_253_6 (K : gK) (d : Nat) (l2 : Nat) (l6 : Int32) (l3 : Nat) (l0 : Nat) (l1 : Nat) (l4 : Nat) (l5 : Int32) (o8 : Option Value) (v7 : Int32) (G6 : gH) : Option gO := if g_cls G6 l2 = some 3 then (cI (gCa K d 5 [.ref l2] G6) (t_0_253_5 K d l6 l3 v7 l0 l1 l2 l4 l5 o8)) else none
noncomputable def t_0_253 (K : gK) (d : Nat) (l0 : Nat) (l1 : Nat) (l2 : Nat) (l3 : Nat) (l4 : Nat) (l5 : Int32) (l6 : Int32) (o7 : Option Value) (o8 : Option Value) (G : gH) : Option gO := if l0 = K.1.1 ∧ ¬ ((l5 + (1 : Int32)) < 0 ∨ K.1.2.1 ≤ ((l5 + (1 : Int32))).toNatClampNeg) then (if l0 = K.1.1 ∧ ¬ ((l5 + (2 : Int32)) < 0 ∨ K.1.2.1 ≤ ((l5 + (2 : Int32))).toNatClampNeg) then (if (K.1.2.2 ((l5 + (2 : Int32))).toNatClampNeg) = 0 then (if l0 = K.1.1 ∧ ¬ ((l5 + (3 : Int32)) < 0 ∨ K.1.2.1 ≤ ((l5 + (3 : Int32))).toNatClampNeg) then (if g_cls G l2 = some 3 then (cI (gCa K d 4 [.ref l2, .int (K.1.2.2 ((l5 + (1 : Int32))).toNatClampNeg), .int (0 : Int32), .int (K.1.2.2 ((l5 + (3 : Int32))).toNatClampNeg)] G) (t_0_253_3 K d l2 l6 l3 l0 l1 l4 l5 o8)) else none) else none) else (if l0 = K.1.1 ∧ ¬ ((l5 + (3 : Int32)) < 0 ∨ K.1.2.1 ≤ ((l5 + (3 : Int32))).toNatClampNeg) then (if g_cls G l2 = some 3 then (cI (gCa K d 4 [.ref l2, .int (K.1.2.2 ((l5 + (1 : Int32))).toNatClampNeg), .int (1 : Int32), .int (K.1.2.2 ((l5 + (3 : Int32))).toNatClampNeg)] G) (t_0_253_6 K d l2 l6 l3 l0 l1 l4 l5 o8)) else none) else none)) else none) else none
theorem e_0_253 {K : gK} {d : Nat} {l0 : Nat} {l1 : Nat} {l2 : Nat} {l3 : Nat} {l4 : Nat} {l5 : Int32} {l6 : Int32} {o7 : Option Value} {o8 : Option Value} {G : gH} : gle (t_0_253 K d l0 l1 l2 l3 l4 l5 l6 o7 o8 G) (gRn K d 0 253 [some (.ref l0), some (.ref l1), some (.ref l2), some (.ref l3), some (.ref l4), some (.int l5), some (.int l6), o7, o8] [] G) := by
  unfold t_0_253
  refine g_aload ((q_0 _).trans rfl) rfl ?_
  refine g_aload ((q_0 _).trans rfl) rfl ?_
  refine g_iload ((q_0 _).trans rfl) rfl ?_
  refine g_push ((q_0 _).trans rfl) ?_
  refine g_iadd ((q_0 _).trans rfl) ?_
  refine g_sld ((q_0 _).trans rfl) ?_
  refine g_aload ((q_0 _).trans rfl) rfl ?_
  refine g_iload ((q_0 _).trans rfl) rfl ?_
  refine g_push ((q_0 _).trans rfl) ?_
  refine g_iadd ((q_0 _).trans rfl) ?_
  refine g_sld ((q_0 _).trans rfl) ?_
  refine g_ifeq ((q_0 _).trans rfl) (fun _ => ?_) (fun _ => ?_)
  · refine g_push ((q_0 _).trans rfl) ?_
    refine g_aload ((q_0 _).trans rfl) rfl ?_
    refine g_iload ((q_0 _).trans rfl) rfl ?_
    refine g_push ((q_0 _).trans rfl) ?_
    refine g_iadd ((q_0 _).trans rfl) ?_
    refine g_sld ((q_0 _).trans rfl) ?_
    refine g_callV (kk := 3) ((q_0 _).trans rfl) (gHn m_0) rfl (by exact ⟨Nat.le_of_ble_eq_true rfl, rfl⟩) rfl (fun w G1 => gm_I (fun v2 hw => ?_))
    subst hw
    refine g_istore ((q_0 _).trans rfl) ?_
    refine g_aload ((q_0 _).trans rfl) rfl ?_
    refine g_callV (kk := 0) ((q_0 _).trans rfl) (gHn m_0) rfl (by exact ⟨Nat.le_of_ble_eq_true rfl, rfl⟩) rfl (fun w G3 => gm_I (fun v4 hw => ?_))
    subst hw
    refine g_iload ((q_0 _).trans rfl) rfl ?_
    refine g_cmpeq ((q_0 _).trans rfl) (fun _ => ?_) (fun _ => ?_)
    · refine g_iload ((q_0 _).trans rfl) rfl ?_
      refine g_ifne ((q_0 _).trans rfl) (fun _ => ?_) (fun _ => ?_)
      · refine g_aload ((q_0 _).trans rfl) rfl ?_
        refine g_push ((q_0 _).trans rfl) ?_
        refine g_lald ((q_0 _).trans rfl) (fun j5 => ?_)
        refine g_iload ((q_0 _).trans rfl) rfl ?_
        refine g_i2l ((q_0 _).trans rfl) ?_
        refine g_lcmp ((q_0 _).trans rfl) ?_
        refine g_ifeq ((q_0 _).trans rfl) (fun _ => ?_) (fun _ => ?_)
        · refine g_goto ((q_0 _).trans rfl) ?_
          exact gle.rf _
        · refine g_push ((q_0 _).trans rfl) ?_
          exact g_zret ((q_0 _).trans rfl)
      · refine g_goto ((q_0 _).trans rfl) ?_
        exact gle.rf _
    · refine g_push ((q_0 _).trans rfl) ?_
      exact g_zret ((q_0 _).trans rfl)
  · refine g_push ((q_0 _).trans rfl) ?_
    refine g_goto ((q_0 _).trans rfl) ?_
    refine g_aload ((q_0 _).trans rfl) rfl ?_
    refine g_iload ((q_0 _).trans rfl) rfl ?_
    refine g_push ((q_0 _).trans rfl) ?_
    refine g_iadd ((q_0 _).trans rfl) ?_
    refine g_sld ((q_0 _).trans rfl) ?_
    refine g_callV (kk := 3) ((q_0 _).trans rfl) (gHn m_0) rfl (by exact ⟨Nat.le_of_ble_eq_true rfl, rfl⟩) rfl (fun w G6 => gm_I (fun v7 hw => ?_))
    subst hw
    refine g_istore ((q_0 _).trans rfl) ?_
    refine g_aload ((q_0 _).trans rfl) rfl ?_
    refine g_callV (kk := 0) ((q_0 _).trans rfl) (gHn m_0) rfl (by exact ⟨Nat.le_of_ble_eq_true rfl, rfl⟩) rfl (fun w G8 => gm_I (fun v9 hw => ?_))
    subst hw
    refine g_iload ((q_0 _).trans rfl) rfl ?_
    refine g_cmpeq ((q_0 _).trans rfl) (fun _ => ?_) (fun _ => ?_)
    · refine g_iload ((q_0 _).trans rfl) rfl ?_
      refine g_ifne ((q_0 _).trans rfl) (fun _ => ?_) (fun _ => ?_)
      · refine g_aload ((q_0 _).trans rfl) rfl ?_
        refine g_push ((q_0 _).trans rfl) ?_
        refine g_lald ((q_0 _).trans rfl) (fun j10 => ?_)
        refine g_iload ((q_0 _).trans rfl) rfl ?_
        refine g_i2l ((q_0 _).trans rfl) ?_
        refine g_lcmp ((q_0 _).trans rfl) ?_
        refine g_ifeq ((q_0 _).trans rfl) (fun _ => ?_) (fun _ => ?_)
        · refine g_goto ((q_0 _).trans rfl) ?_
          exact gle.rf _
        · refine g_push ((q_0 _).trans rfl) ?_
          exact g_zret ((q_0 _).trans rfl)
      · refine g_goto ((q_0 _).trans rfl) ?_
        exact gle.rf _
    · refine g_push ((q_0 _).trans rfl) ?_
      exact g_zret ((q_0 _).trans rfl)
noncomputable def t_0_337_1 (K : gK) (d : Nat) (v2 : Int32) (l0 : Nat) (l1 : Nat) (l2 : Nat) (l3 : Nat) (l4 : Nat) (l5 : Int32) (l6 : Int32) (o8 : Option Value) (G3 : gH) (j5 : Int64) : Option gO := if v2 = 0 then (if (lg_cmp j5 (0 : Int64)) = 0 then (gRn K d 0 2545 [some (.ref l0), some (.ref l1), some (.ref l2), some (.ref l3), some (.ref l4), some (.int l5), some (.int l6), some (.int v2), o8] [] G3) else (if narrow .boolean (.int (0 : Int32)) = .int (0 : Int32) then some (.inl (some (.int (0 : Int32))), G3) else none)) else (if (lg_cmp j5 (1 : Int64)) = 0 then (gRn K d 0 2545 [some (.ref l0), some (.ref l1), some (.ref l2), some (.ref l3), some (.ref l4), some (.int l5), some (.int l6), some (.int v2), o8] [] G3) else (if narrow .boolean (.int (0 : Int32)) = .int (0 : Int32) then some (.inl (some (.int (0 : Int32))), G3) else none))
noncomputable def t_0_337_2 (K : gK) (d : Nat) (l6 : Int32) (l3 : Nat) (v2 : Int32) (l0 : Nat) (l1 : Nat) (l2 : Nat) (l4 : Nat) (l5 : Int32) (o8 : Option Value) (v4 : Int32) (G3 : gH) : Option gO := if v4 = l6 then (if l6 = 0 then (xJ G3 l3 (0 : Int32) (t_0_337_1 K d v2 l0 l1 l2 l3 l4 l5 l6 o8 G3)) else (gRn K d 0 2545 [some (.ref l0), some (.ref l1), some (.ref l2), some (.ref l3), some (.ref l4), some (.int l5), some (.int l6), some (.int v2), o8] [] G3)) else (if narrow .boolean (.int (0 : Int32)) = .int (0 : Int32) then some (.inl (some (.int (0 : Int32))), G3) else none)
noncomputable def t_0_337_3 (K : gK) (d : Nat) (l2 : Nat) (l6 : Int32) (l3 : Nat) (l0 : Nat) (l1 : Nat) (l4 : Nat) (l5 : Int32) (o8 : Option Value) (v2 : Int32) (G1 : gH) : Option gO := if g_cls G1 l2 = some 3 then (cI (gCa K d 5 [.ref l2] G1) (t_0_337_2 K d l6 l3 v2 l0 l1 l2 l4 l5 o8)) else none
noncomputable def t_0_337_4 (K : gK) (d : Nat) (v7 : Int32) (l0 : Nat) (l1 : Nat) (l2 : Nat) (l3 : Nat) (l4 : Nat) (l5 : Int32) (l6 : Int32) (o8 : Option Value) (G8 : gH) (j10 : Int64) : Option gO := if v7 = 0 then (if (lg_cmp j10 (0 : Int64)) = 0 then (gRn K d 0 2545 [some (.ref l0), some (.ref l1), some (.ref l2), some (.ref l3), some (.ref l4), some (.int l5), some (.int l6), some (.int v7), o8] [] G8) else (if narrow .boolean (.int (0 : Int32)) = .int (0 : Int32) then some (.inl (some (.int (0 : Int32))), G8) else none)) else (if (lg_cmp j10 (1 : Int64)) = 0 then (gRn K d 0 2545 [some (.ref l0), some (.ref l1), some (.ref l2), some (.ref l3), some (.ref l4), some (.int l5), some (.int l6), some (.int v7), o8] [] G8) else (if narrow .boolean (.int (0 : Int32)) = .int (0 : Int32) then some (.inl (some (.int (0 : Int32))), G8) else none))
noncomputable def t_0_337_5 (K : gK) (d : Nat) (l6 : Int32) (l3 : Nat) (v7 : Int32) (l0 : Nat) (l1 : Nat) (l2 : Nat) (l4 : Nat) (l5 : Int32) (o8 : Option Value) (v9 : Int32) (G8 : gH) : Option gO := if v9 = l6 then (if l6 = 0 then (xJ G8 l3 (0 : Int32) (t_0_337_4 K d v7 l0 l1 l2 l3 l4 l5 l6 o8 G8)) else (gRn K d 0 2545 [some (.ref l0), some (.ref l1), some (.ref l2), some (.ref l3), some (.ref l4), some (.int l5), some (.int l6), some (.int v7), o8] [] G8)) else (if narrow .boolean (.int (0 : Int32)) = .int (0 : Int32) then some (.inl (some (.int (0 : Int32))), G8) else none)
noncomputable def t_0_337_6 (K : gK) (d : Nat) (l2 : Nat) (l6 : Int32) (l3 : Nat) (l0 : Nat) (l1 : Nat) (l4 : Nat) (l5 : Int32) (o8 : Option Value) (v7 : Int32) (G6 : gH) : Option gO := if g_cls G6 l2 = some 3 then (cI (gCa K d 5 [.ref l2] G6) (t_0_337_5 K d l6 l3 v7 l0 l1 l2 l4 l5 o8)) else none
noncomputable def t_0_337 (K : gK) (d : Nat) (l0 : Nat) (l1 : Nat) (l2 : Nat) (l3 : Nat) (l4 : Nat) (l5 : Int32) (l6 : Int32) (o7 : Option Value) (o8 : Option Value) (G : gH) : Option gO := if l0 = K.1.1 ∧ ¬ ((l5 + (1 : Int32)) < 0 ∨ K.1.2.1 ≤ ((l5 + (1 : Int32))).toNatClampNeg) then (if (K.1.2.2 ((l5 + (1 : Int32))).toNatClampNeg) = 0 then (if g_cls G l2 = some 3 then (cI (gCa K d 7 [.ref l2, .int (0 : Int32)] G) (t_0_337_3 K d l2 l6 l3 l0 l1 l4 l5 o8)) else none) else (if g_cls G l2 = some 3 then (cI (gCa K d 7 [.ref l2, .int (1 : Int32)] G) (t_0_337_6 K d l2 l6 l3 l0 l1 l4 l5 o8)) else none)) else none
theorem e_0_337 {K : gK} {d : Nat} {l0 : Nat} {l1 : Nat} {l2 : Nat} {l3 : Nat} {l4 : Nat} {l5 : Int32} {l6 : Int32} {o7 : Option Value} {o8 : Option Value} {G : gH} : gle (t_0_337 K d l0 l1 l2 l3 l4 l5 l6 o7 o8 G) (gRn K d 0 337 [some (.ref l0), some (.ref l1), some (.ref l2), some (.ref l3), some (.ref l4), some (.int l5), some (.int l6), o7, o8] [] G) := by
  unfold t_0_337
  refine g_aload ((q_0 _).trans rfl) rfl ?_
  refine g_aload ((q_0 _).trans rfl) rfl ?_
  refine g_iload ((q_0 _).trans rfl) rfl ?_
  refine g_push ((q_0 _).trans rfl) ?_
  refine g_iadd ((q_0 _).trans rfl) ?_
  refine g_sld ((q_0 _).trans rfl) ?_
  refine g_ifeq ((q_0 _).trans rfl) (fun _ => ?_) (fun _ => ?_)
  · refine g_push ((q_0 _).trans rfl) ?_
    refine g_callV (kk := 1) ((q_0 _).trans rfl) (gHn m_0) rfl (by exact ⟨Nat.le_of_ble_eq_true rfl, rfl⟩) rfl (fun w G1 => gm_I (fun v2 hw => ?_))
    subst hw
    refine g_istore ((q_0 _).trans rfl) ?_
    refine g_aload ((q_0 _).trans rfl) rfl ?_
    refine g_callV (kk := 0) ((q_0 _).trans rfl) (gHn m_0) rfl (by exact ⟨Nat.le_of_ble_eq_true rfl, rfl⟩) rfl (fun w G3 => gm_I (fun v4 hw => ?_))
    subst hw
    refine g_iload ((q_0 _).trans rfl) rfl ?_
    refine g_cmpeq ((q_0 _).trans rfl) (fun _ => ?_) (fun _ => ?_)
    · refine g_iload ((q_0 _).trans rfl) rfl ?_
      refine g_ifne ((q_0 _).trans rfl) (fun _ => ?_) (fun _ => ?_)
      · refine g_aload ((q_0 _).trans rfl) rfl ?_
        refine g_push ((q_0 _).trans rfl) ?_
        refine g_lald ((q_0 _).trans rfl) (fun j5 => ?_)
        refine g_iload ((q_0 _).trans rfl) rfl ?_
        refine g_ifeq ((q_0 _).trans rfl) (fun _ => ?_) (fun _ => ?_)
        · refine g_push ((q_0 _).trans rfl) ?_
          refine g_lcmp ((q_0 _).trans rfl) ?_
          refine g_ifeq ((q_0 _).trans rfl) (fun _ => ?_) (fun _ => ?_)
          · refine g_goto ((q_0 _).trans rfl) ?_
            exact gle.rf _
          · refine g_push ((q_0 _).trans rfl) ?_
            exact g_zret ((q_0 _).trans rfl)
        · refine g_push ((q_0 _).trans rfl) ?_
          refine g_goto ((q_0 _).trans rfl) ?_
          refine g_lcmp ((q_0 _).trans rfl) ?_
          refine g_ifeq ((q_0 _).trans rfl) (fun _ => ?_) (fun _ => ?_)
          · refine g_goto ((q_0 _).trans rfl) ?_
            exact gle.rf _
          · refine g_push ((q_0 _).trans rfl) ?_
            exact g_zret ((q_0 _).trans rfl)
      · refine g_goto ((q_0 _).trans rfl) ?_
        exact gle.rf _
    · refine g_push ((q_0 _).trans rfl) ?_
      exact g_zret ((q_0 _).trans rfl)
  · refine g_push ((q_0 _).trans rfl) ?_
    refine g_goto ((q_0 _).trans rfl) ?_
    refine g_callV (kk := 1) ((q_0 _).trans rfl) (gHn m_0) rfl (by exact ⟨Nat.le_of_ble_eq_true rfl, rfl⟩) rfl (fun w G6 => gm_I (fun v7 hw => ?_))
    subst hw
    refine g_istore ((q_0 _).trans rfl) ?_
    refine g_aload ((q_0 _).trans rfl) rfl ?_
    refine g_callV (kk := 0) ((q_0 _).trans rfl) (gHn m_0) rfl (by exact ⟨Nat.le_of_ble_eq_true rfl, rfl⟩) rfl (fun w G8 => gm_I (fun v9 hw => ?_))
    subst hw
    refine g_iload ((q_0 _).trans rfl) rfl ?_
    refine g_cmpeq ((q_0 _).trans rfl) (fun _ => ?_) (fun _ => ?_)
    · refine g_iload ((q_0 _).trans rfl) rfl ?_
      refine g_ifne ((q_0 _).trans rfl) (fun _ => ?_) (fun _ => ?_)
      · refine g_aload ((q_0 _).trans rfl) rfl ?_
        refine g_push ((q_0 _).trans rfl) ?_
        refine g_lald ((q_0 _).trans rfl) (fun j10 => ?_)
        refine g_iload ((q_0 _).trans rfl) rfl ?_
        refine g_ifeq ((q_0 _).trans rfl) (fun _ => ?_) (fun _ => ?_)
        · refine g_push ((q_0 _).trans rfl) ?_
          refine g_lcmp ((q_0 _).trans rfl) ?_
          refine g_ifeq ((q_0 _).trans rfl) (fun _ => ?_) (fun _ => ?_)
          · refine g_goto ((q_0 _).trans rfl) ?_
            exact gle.rf _
          · refine g_push ((q_0 _).trans rfl) ?_
            exact g_zret ((q_0 _).trans rfl)
        · refine g_push ((q_0 _).trans rfl) ?_
          refine g_goto ((q_0 _).trans rfl) ?_
          refine g_lcmp ((q_0 _).trans rfl) ?_
          refine g_ifeq ((q_0 _).trans rfl) (fun _ => ?_) (fun _ => ?_)
          · refine g_goto ((q_0 _).trans rfl) ?_
            exact gle.rf _
          · refine g_push ((q_0 _).trans rfl) ?_
            exact g_zret ((q_0 _).trans rfl)
      · refine g_goto ((q_0 _).trans rfl) ?_
        exact gle.rf _
    · refine g_push ((q_0 _).trans rfl) ?_
      exact g_zret ((q_0 _).trans rfl)
noncomputable def t_0_414_1 (K : gK) (d : Nat) (v2 : Int32) (l0 : Nat) (l1 : Nat) (l2 : Nat) (l3 : Nat) (l4 : Nat) (l5 : Int32) (l6 : Int32) (o8 : Option Value) (G3 : gH) (j5 : Int64) : Option gO := if (lg_cmp j5 ((v2).toInt64)) = 0 then (gRn K d 0 2545 [some (.ref l0), some (.ref l1), some (.ref l2), some (.ref l3), some (.ref l4), some (.int l5), some (.int l6), some (.int v2), o8] [] G3) else (if narrow .boolean (.int (0 : Int32)) = .int (0 : Int32) then some (.inl (some (.int (0 : Int32))), G3) else none)
noncomputable def t_0_414_2 (K : gK) (d : Nat) (l6 : Int32) (l3 : Nat) (v2 : Int32) (l0 : Nat) (l1 : Nat) (l2 : Nat) (l4 : Nat) (l5 : Int32) (o8 : Option Value) (v4 : Int32) (G3 : gH) : Option gO := if v4 = l6 then (if l6 = 0 then (xJ G3 l3 (0 : Int32) (t_0_414_1 K d v2 l0 l1 l2 l3 l4 l5 l6 o8 G3)) else (gRn K d 0 2545 [some (.ref l0), some (.ref l1), some (.ref l2), some (.ref l3), some (.ref l4), some (.int l5), some (.int l6), some (.int v2), o8] [] G3)) else (if narrow .boolean (.int (0 : Int32)) = .int (0 : Int32) then some (.inl (some (.int (0 : Int32))), G3) else none)
noncomputable def t_0_414_3 (K : gK) (d : Nat) (l2 : Nat) (l6 : Int32) (l3 : Nat) (l0 : Nat) (l1 : Nat) (l4 : Nat) (l5 : Int32) (o8 : Option Value) (v2 : Int32) (G1 : gH) : Option gO := if g_cls G1 l2 = some 3 then (cI (gCa K d 5 [.ref l2] G1) (t_0_414_2 K d l6 l3 v2 l0 l1 l2 l4 l5 o8)) else none
noncomputable def t_0_414 (K : gK) (d : Nat) (l0 : Nat) (l1 : Nat) (l2 : Nat) (l3 : Nat) (l4 : Nat) (l5 : Int32) (l6 : Int32) (o7 : Option Value) (o8 : Option Value) (G : gH) : Option gO := if l0 = K.1.1 ∧ ¬ ((l5 + (1 : Int32)) < 0 ∨ K.1.2.1 ≤ ((l5 + (1 : Int32))).toNatClampNeg) then (if l0 = K.1.1 ∧ ¬ ((l5 + (2 : Int32)) < 0 ∨ K.1.2.1 ≤ ((l5 + (2 : Int32))).toNatClampNeg) then (if g_cls G l2 = some 3 then (cI (gCa K d 9 [.ref l2, .int (K.1.2.2 ((l5 + (1 : Int32))).toNatClampNeg), .int (K.1.2.2 ((l5 + (2 : Int32))).toNatClampNeg)] G) (t_0_414_3 K d l2 l6 l3 l0 l1 l4 l5 o8)) else none) else none) else none
theorem e_0_414 {K : gK} {d : Nat} {l0 : Nat} {l1 : Nat} {l2 : Nat} {l3 : Nat} {l4 : Nat} {l5 : Int32} {l6 : Int32} {o7 : Option Value} {o8 : Option Value} {G : gH} : gle (t_0_414 K d l0 l1 l2 l3 l4 l5 l6 o7 o8 G) (gRn K d 0 414 [some (.ref l0), some (.ref l1), some (.ref l2), some (.ref l3), some (.ref l4), some (.int l5), some (.int l6), o7, o8] [] G) := by
  unfold t_0_414
  refine g_aload ((q_0 _).trans rfl) rfl ?_
  refine g_aload ((q_0 _).trans rfl) rfl ?_
  refine g_iload ((q_0 _).trans rfl) rfl ?_
  refine g_push ((q_0 _).trans rfl) ?_
  refine g_iadd ((q_0 _).trans rfl) ?_
  refine g_sld ((q_0 _).trans rfl) ?_
  refine g_aload ((q_0 _).trans rfl) rfl ?_
  refine g_iload ((q_0 _).trans rfl) rfl ?_
  refine g_push ((q_0 _).trans rfl) ?_
  refine g_iadd ((q_0 _).trans rfl) ?_
  refine g_sld ((q_0 _).trans rfl) ?_
  refine g_callV (kk := 2) ((q_0 _).trans rfl) (gHn m_0) rfl (by exact ⟨Nat.le_of_ble_eq_true rfl, rfl⟩) rfl (fun w G1 => gm_I (fun v2 hw => ?_))
  subst hw
  refine g_istore ((q_0 _).trans rfl) ?_
  refine g_aload ((q_0 _).trans rfl) rfl ?_
  refine g_callV (kk := 0) ((q_0 _).trans rfl) (gHn m_0) rfl (by exact ⟨Nat.le_of_ble_eq_true rfl, rfl⟩) rfl (fun w G3 => gm_I (fun v4 hw => ?_))
  subst hw
  refine g_iload ((q_0 _).trans rfl) rfl ?_
  refine g_cmpeq ((q_0 _).trans rfl) (fun _ => ?_) (fun _ => ?_)
  · refine g_iload ((q_0 _).trans rfl) rfl ?_
    refine g_ifne ((q_0 _).trans rfl) (fun _ => ?_) (fun _ => ?_)
    · refine g_aload ((q_0 _).trans rfl) rfl ?_
      refine g_push ((q_0 _).trans rfl) ?_
      refine g_lald ((q_0 _).trans rfl) (fun j5 => ?_)
      refine g_iload ((q_0 _).trans rfl) rfl ?_
      refine g_i2l ((q_0 _).trans rfl) ?_
      refine g_lcmp ((q_0 _).trans rfl) ?_
      refine g_ifeq ((q_0 _).trans rfl) (fun _ => ?_) (fun _ => ?_)
      · refine g_goto ((q_0 _).trans rfl) ?_
        exact gle.rf _
      · refine g_push ((q_0 _).trans rfl) ?_
        exact g_zret ((q_0 _).trans rfl)
    · refine g_goto ((q_0 _).trans rfl) ?_
      exact gle.rf _
  · refine g_push ((q_0 _).trans rfl) ?_
    exact g_zret ((q_0 _).trans rfl)
noncomputable def t_0_504_1 (K : gK) (d : Nat) (v2 : Int32) (l0 : Nat) (l1 : Nat) (l2 : Nat) (l3 : Nat) (l4 : Nat) (l5 : Int32) (l6 : Int32) (o8 : Option Value) (G3 : gH) (j5 : Int64) : Option gO := if (lg_cmp j5 ((v2).toInt64)) = 0 then (gRn K d 0 2545 [some (.ref l0), some (.ref l1), some (.ref l2), some (.ref l3), some (.ref l4), some (.int l5), some (.int l6), some (.int v2), o8] [] G3) else (if narrow .boolean (.int (0 : Int32)) = .int (0 : Int32) then some (.inl (some (.int (0 : Int32))), G3) else none)
noncomputable def t_0_504_2 (K : gK) (d : Nat) (l6 : Int32) (l3 : Nat) (v2 : Int32) (l0 : Nat) (l1 : Nat) (l2 : Nat) (l4 : Nat) (l5 : Int32) (o8 : Option Value) (v4 : Int32) (G3 : gH) : Option gO := if v4 = l6 then (if l6 = 0 then (xJ G3 l3 (0 : Int32) (t_0_504_1 K d v2 l0 l1 l2 l3 l4 l5 l6 o8 G3)) else (gRn K d 0 2545 [some (.ref l0), some (.ref l1), some (.ref l2), some (.ref l3), some (.ref l4), some (.int l5), some (.int l6), some (.int v2), o8] [] G3)) else (if narrow .boolean (.int (0 : Int32)) = .int (0 : Int32) then some (.inl (some (.int (0 : Int32))), G3) else none)
noncomputable def t_0_504_3 (K : gK) (d : Nat) (l2 : Nat) (l6 : Int32) (l3 : Nat) (l0 : Nat) (l1 : Nat) (l4 : Nat) (l5 : Int32) (o8 : Option Value) (v2 : Int32) (G1 : gH) : Option gO := if g_cls G1 l2 = some 3 then (cI (gCa K d 5 [.ref l2] G1) (t_0_504_2 K d l6 l3 v2 l0 l1 l2 l4 l5 o8)) else none
noncomputable def t_0_504_4 (K : gK) (d : Nat) (v7 : Int32) (l0 : Nat) (l1 : Nat) (l2 : Nat) (l3 : Nat) (l4 : Nat) (l5 : Int32) (l6 : Int32) (o8 : Option Value) (G8 : gH) (j10 : Int64) : Option gO := if (lg_cmp j10 ((v7).toInt64)) = 0 then (gRn K d 0 2545 [some (.ref l0), some (.ref l1), some (.ref l2), some (.ref l3), some (.ref l4), some (.int l5), some (.int l6), some (.int v7), o8] [] G8) else (if narrow .boolean (.int (0 : Int32)) = .int (0 : Int32) then some (.inl (some (.int (0 : Int32))), G8) else none)
noncomputable def t_0_504_5 (K : gK) (d : Nat) (l6 : Int32) (l3 : Nat) (v7 : Int32) (l0 : Nat) (l1 : Nat) (l2 : Nat) (l4 : Nat) (l5 : Int32) (o8 : Option Value) (v9 : Int32) (G8 : gH) : Option gO := if v9 = l6 then (if l6 = 0 then (xJ G8 l3 (0 : Int32) (t_0_504_4 K d v7 l0 l1 l2 l3 l4 l5 l6 o8 G8)) else (gRn K d 0 2545 [some (.ref l0), some (.ref l1), some (.ref l2), some (.ref l3), some (.ref l4), some (.int l5), some (.int l6), some (.int v7), o8] [] G8)) else (if narrow .boolean (.int (0 : Int32)) = .int (0 : Int32) then some (.inl (some (.int (0 : Int32))), G8) else none)
noncomputable def t_0_504_6 (K : gK) (d : Nat) (l2 : Nat) (l6 : Int32) (l3 : Nat) (l0 : Nat) (l1 : Nat) (l4 : Nat) (l5 : Int32) (o8 : Option Value) (v7 : Int32) (G6 : gH) : Option gO := if g_cls G6 l2 = some 3 then (cI (gCa K d 5 [.ref l2] G6) (t_0_504_5 K d l6 l3 v7 l0 l1 l2 l4 l5 o8)) else none
noncomputable def t_0_504 (K : gK) (d : Nat) (l0 : Nat) (l1 : Nat) (l2 : Nat) (l3 : Nat) (l4 : Nat) (l5 : Int32) (l6 : Int32) (o7 : Option Value) (o8 : Option Value) (G : gH) : Option gO := if l0 = K.1.1 ∧ ¬ ((l5 + (1 : Int32)) < 0 ∨ K.1.2.1 ≤ ((l5 + (1 : Int32))).toNatClampNeg) then (if l0 = K.1.1 ∧ ¬ ((l5 + (2 : Int32)) < 0 ∨ K.1.2.1 ≤ ((l5 + (2 : Int32))).toNatClampNeg) then (if (K.1.2.2 ((l5 + (2 : Int32))).toNatClampNeg) = 0 then (if g_cls G l2 = some 3 then (cI (gCa K d 13 [.ref l2, .int (((K.1.2.2 ((l5 + (1 : Int32))).toNatClampNeg)).toUInt32 % 65536).toInt32, .int (0 : Int32)] G) (t_0_504_3 K d l2 l6 l3 l0 l1 l4 l5 o8)) else none) else (if g_cls G l2 = some 3 then (cI (gCa K d 13 [.ref l2, .int (((K.1.2.2 ((l5 + (1 : Int32))).toNatClampNeg)).toUInt32 % 65536).toInt32, .int (1 : Int32)] G) (t_0_504_6 K d l2 l6 l3 l0 l1 l4 l5 o8)) else none)) else none) else none
theorem e_0_504 {K : gK} {d : Nat} {l0 : Nat} {l1 : Nat} {l2 : Nat} {l3 : Nat} {l4 : Nat} {l5 : Int32} {l6 : Int32} {o7 : Option Value} {o8 : Option Value} {G : gH} : gle (t_0_504 K d l0 l1 l2 l3 l4 l5 l6 o7 o8 G) (gRn K d 0 504 [some (.ref l0), some (.ref l1), some (.ref l2), some (.ref l3), some (.ref l4), some (.int l5), some (.int l6), o7, o8] [] G) := by
  unfold t_0_504
  refine g_aload ((q_0 _).trans rfl) rfl ?_
  refine g_aload ((q_0 _).trans rfl) rfl ?_
  refine g_iload ((q_0 _).trans rfl) rfl ?_
  refine g_push ((q_0 _).trans rfl) ?_
  refine g_iadd ((q_0 _).trans rfl) ?_
  refine g_sld ((q_0 _).trans rfl) ?_
  refine g_i2c ((q_0 _).trans rfl) ?_
  refine g_aload ((q_0 _).trans rfl) rfl ?_
  refine g_iload ((q_0 _).trans rfl) rfl ?_
  refine g_push ((q_0 _).trans rfl) ?_
  refine g_iadd ((q_0 _).trans rfl) ?_
  refine g_sld ((q_0 _).trans rfl) ?_
  refine g_ifeq ((q_0 _).trans rfl) (fun _ => ?_) (fun _ => ?_)
  · refine g_push ((q_0 _).trans rfl) ?_
    refine g_callV (kk := 2) ((q_0 _).trans rfl) (gHn m_0) rfl (by exact ⟨Nat.le_of_ble_eq_true rfl, rfl⟩) rfl (fun w G1 => gm_I (fun v2 hw => ?_))
    subst hw
    refine g_istore ((q_0 _).trans rfl) ?_
    refine g_aload ((q_0 _).trans rfl) rfl ?_
    refine g_callV (kk := 0) ((q_0 _).trans rfl) (gHn m_0) rfl (by exact ⟨Nat.le_of_ble_eq_true rfl, rfl⟩) rfl (fun w G3 => gm_I (fun v4 hw => ?_))
    subst hw
    refine g_iload ((q_0 _).trans rfl) rfl ?_
    refine g_cmpeq ((q_0 _).trans rfl) (fun _ => ?_) (fun _ => ?_)
    · refine g_iload ((q_0 _).trans rfl) rfl ?_
      refine g_ifne ((q_0 _).trans rfl) (fun _ => ?_) (fun _ => ?_)
      · refine g_aload ((q_0 _).trans rfl) rfl ?_
        refine g_push ((q_0 _).trans rfl) ?_
        refine g_lald ((q_0 _).trans rfl) (fun j5 => ?_)
        refine g_iload ((q_0 _).trans rfl) rfl ?_
        refine g_i2l ((q_0 _).trans rfl) ?_
        refine g_lcmp ((q_0 _).trans rfl) ?_
        refine g_ifeq ((q_0 _).trans rfl) (fun _ => ?_) (fun _ => ?_)
        · refine g_goto ((q_0 _).trans rfl) ?_
          exact gle.rf _
        · refine g_push ((q_0 _).trans rfl) ?_
          exact g_zret ((q_0 _).trans rfl)
      · refine g_goto ((q_0 _).trans rfl) ?_
        exact gle.rf _
    · refine g_push ((q_0 _).trans rfl) ?_
      exact g_zret ((q_0 _).trans rfl)
  · refine g_push ((q_0 _).trans rfl) ?_
    refine g_goto ((q_0 _).trans rfl) ?_
    refine g_callV (kk := 2) ((q_0 _).trans rfl) (gHn m_0) rfl (by exact ⟨Nat.le_of_ble_eq_true rfl, rfl⟩) rfl (fun w G6 => gm_I (fun v7 hw => ?_))
    subst hw
    refine g_istore ((q_0 _).trans rfl) ?_
    refine g_aload ((q_0 _).trans rfl) rfl ?_
    refine g_callV (kk := 0) ((q_0 _).trans rfl) (gHn m_0) rfl (by exact ⟨Nat.le_of_ble_eq_true rfl, rfl⟩) rfl (fun w G8 => gm_I (fun v9 hw => ?_))
    subst hw
    refine g_iload ((q_0 _).trans rfl) rfl ?_
    refine g_cmpeq ((q_0 _).trans rfl) (fun _ => ?_) (fun _ => ?_)
    · refine g_iload ((q_0 _).trans rfl) rfl ?_
      refine g_ifne ((q_0 _).trans rfl) (fun _ => ?_) (fun _ => ?_)
      · refine g_aload ((q_0 _).trans rfl) rfl ?_
        refine g_push ((q_0 _).trans rfl) ?_
        refine g_lald ((q_0 _).trans rfl) (fun j10 => ?_)
        refine g_iload ((q_0 _).trans rfl) rfl ?_
        refine g_i2l ((q_0 _).trans rfl) ?_
        refine g_lcmp ((q_0 _).trans rfl) ?_
        refine g_ifeq ((q_0 _).trans rfl) (fun _ => ?_) (fun _ => ?_)
        · refine g_goto ((q_0 _).trans rfl) ?_
          exact gle.rf _
        · refine g_push ((q_0 _).trans rfl) ?_
          exact g_zret ((q_0 _).trans rfl)
      · refine g_goto ((q_0 _).trans rfl) ?_
        exact gle.rf _
    · refine g_push ((q_0 _).trans rfl) ?_
      exact g_zret ((q_0 _).trans rfl)
noncomputable def t_0_587_1 (K : gK) (d : Nat) (v2 : Int32) (l0 : Nat) (l1 : Nat) (l2 : Nat) (l3 : Nat) (l4 : Nat) (l5 : Int32) (l6 : Int32) (o8 : Option Value) (G3 : gH) (j5 : Int64) : Option gO := if (lg_cmp j5 ((v2).toInt64)) = 0 then (gRn K d 0 2545 [some (.ref l0), some (.ref l1), some (.ref l2), some (.ref l3), some (.ref l4), some (.int l5), some (.int l6), some (.int v2), o8] [] G3) else (if narrow .boolean (.int (0 : Int32)) = .int (0 : Int32) then some (.inl (some (.int (0 : Int32))), G3) else none)
noncomputable def t_0_587_2 (K : gK) (d : Nat) (l6 : Int32) (l3 : Nat) (v2 : Int32) (l0 : Nat) (l1 : Nat) (l2 : Nat) (l4 : Nat) (l5 : Int32) (o8 : Option Value) (v4 : Int32) (G3 : gH) : Option gO := if v4 = l6 then (if l6 = 0 then (xJ G3 l3 (0 : Int32) (t_0_587_1 K d v2 l0 l1 l2 l3 l4 l5 l6 o8 G3)) else (gRn K d 0 2545 [some (.ref l0), some (.ref l1), some (.ref l2), some (.ref l3), some (.ref l4), some (.int l5), some (.int l6), some (.int v2), o8] [] G3)) else (if narrow .boolean (.int (0 : Int32)) = .int (0 : Int32) then some (.inl (some (.int (0 : Int32))), G3) else none)
noncomputable def t_0_587_3 (K : gK) (d : Nat) (l2 : Nat) (l6 : Int32) (l3 : Nat) (l0 : Nat) (l1 : Nat) (l4 : Nat) (l5 : Int32) (o8 : Option Value) (v2 : Int32) (G1 : gH) : Option gO := if g_cls G1 l2 = some 3 then (cI (gCa K d 5 [.ref l2] G1) (t_0_587_2 K d l6 l3 v2 l0 l1 l2 l4 l5 o8)) else none
noncomputable def t_0_587 (K : gK) (d : Nat) (l0 : Nat) (l1 : Nat) (l2 : Nat) (l3 : Nat) (l4 : Nat) (l5 : Int32) (l6 : Int32) (o7 : Option Value) (o8 : Option Value) (G : gH) : Option gO := if l0 = K.1.1 ∧ ¬ ((l5 + (1 : Int32)) < 0 ∨ K.1.2.1 ≤ ((l5 + (1 : Int32))).toNatClampNeg) then (if l0 = K.1.1 ∧ ¬ ((l5 + (2 : Int32)) < 0 ∨ K.1.2.1 ≤ ((l5 + (2 : Int32))).toNatClampNeg) then (if l0 = K.1.1 ∧ ¬ ((l5 + (3 : Int32)) < 0 ∨ K.1.2.1 ≤ ((l5 + (3 : Int32))).toNatClampNeg) then (if g_cls G l2 = some 3 then (cI (gCa K d 15 [.ref l2, .int (K.1.2.2 ((l5 + (1 : Int32))).toNatClampNeg), .int (K.1.2.2 ((l5 + (2 : Int32))).toNatClampNeg), .int (K.1.2.2 ((l5 + (3 : Int32))).toNatClampNeg)] G) (t_0_587_3 K d l2 l6 l3 l0 l1 l4 l5 o8)) else none) else none) else none) else none
theorem e_0_587 {K : gK} {d : Nat} {l0 : Nat} {l1 : Nat} {l2 : Nat} {l3 : Nat} {l4 : Nat} {l5 : Int32} {l6 : Int32} {o7 : Option Value} {o8 : Option Value} {G : gH} : gle (t_0_587 K d l0 l1 l2 l3 l4 l5 l6 o7 o8 G) (gRn K d 0 587 [some (.ref l0), some (.ref l1), some (.ref l2), some (.ref l3), some (.ref l4), some (.int l5), some (.int l6), o7, o8] [] G) := by
  unfold t_0_587
  refine g_aload ((q_0 _).trans rfl) rfl ?_
  refine g_aload ((q_0 _).trans rfl) rfl ?_
  refine g_iload ((q_0 _).trans rfl) rfl ?_
  refine g_push ((q_0 _).trans rfl) ?_
  refine g_iadd ((q_0 _).trans rfl) ?_
  refine g_sld ((q_0 _).trans rfl) ?_
  refine g_aload ((q_0 _).trans rfl) rfl ?_
  refine g_iload ((q_0 _).trans rfl) rfl ?_
  refine g_push ((q_0 _).trans rfl) ?_
  refine g_iadd ((q_0 _).trans rfl) ?_
  refine g_sld ((q_0 _).trans rfl) ?_
  refine g_aload ((q_0 _).trans rfl) rfl ?_
  refine g_iload ((q_0 _).trans rfl) rfl ?_
  refine g_push ((q_0 _).trans rfl) ?_
  refine g_iadd ((q_0 _).trans rfl) ?_
  refine g_sld ((q_0 _).trans rfl) ?_
  refine g_callV (kk := 3) ((q_0 _).trans rfl) (gHn m_0) rfl (by exact ⟨Nat.le_of_ble_eq_true rfl, rfl⟩) rfl (fun w G1 => gm_I (fun v2 hw => ?_))
  subst hw
  refine g_istore ((q_0 _).trans rfl) ?_
  refine g_aload ((q_0 _).trans rfl) rfl ?_
  refine g_callV (kk := 0) ((q_0 _).trans rfl) (gHn m_0) rfl (by exact ⟨Nat.le_of_ble_eq_true rfl, rfl⟩) rfl (fun w G3 => gm_I (fun v4 hw => ?_))
  subst hw
  refine g_iload ((q_0 _).trans rfl) rfl ?_
  refine g_cmpeq ((q_0 _).trans rfl) (fun _ => ?_) (fun _ => ?_)
  · refine g_iload ((q_0 _).trans rfl) rfl ?_
    refine g_ifne ((q_0 _).trans rfl) (fun _ => ?_) (fun _ => ?_)
    · refine g_aload ((q_0 _).trans rfl) rfl ?_
      refine g_push ((q_0 _).trans rfl) ?_
      refine g_lald ((q_0 _).trans rfl) (fun j5 => ?_)
      refine g_iload ((q_0 _).trans rfl) rfl ?_
      refine g_i2l ((q_0 _).trans rfl) ?_
      refine g_lcmp ((q_0 _).trans rfl) ?_
      refine g_ifeq ((q_0 _).trans rfl) (fun _ => ?_) (fun _ => ?_)
      · refine g_goto ((q_0 _).trans rfl) ?_
        exact gle.rf _
      · refine g_push ((q_0 _).trans rfl) ?_
        exact g_zret ((q_0 _).trans rfl)
    · refine g_goto ((q_0 _).trans rfl) ?_
      exact gle.rf _
  · refine g_push ((q_0 _).trans rfl) ?_
    exact g_zret ((q_0 _).trans rfl)
noncomputable def t_0_673_1 (K : gK) (d : Nat) (v2 : Int32) (l0 : Nat) (l1 : Nat) (l2 : Nat) (l3 : Nat) (l4 : Nat) (l5 : Int32) (l6 : Int32) (o8 : Option Value) (G3 : gH) (j5 : Int64) : Option gO := if (lg_cmp j5 ((v2).toInt64)) = 0 then (gRn K d 0 2545 [some (.ref l0), some (.ref l1), some (.ref l2), some (.ref l3), some (.ref l4), some (.int l5), some (.int l6), some (.int v2), o8] [] G3) else (if narrow .boolean (.int (0 : Int32)) = .int (0 : Int32) then some (.inl (some (.int (0 : Int32))), G3) else none)
noncomputable def t_0_673_2 (K : gK) (d : Nat) (l6 : Int32) (l3 : Nat) (v2 : Int32) (l0 : Nat) (l1 : Nat) (l2 : Nat) (l4 : Nat) (l5 : Int32) (o8 : Option Value) (v4 : Int32) (G3 : gH) : Option gO := if v4 = l6 then (if l6 = 0 then (xJ G3 l3 (0 : Int32) (t_0_673_1 K d v2 l0 l1 l2 l3 l4 l5 l6 o8 G3)) else (gRn K d 0 2545 [some (.ref l0), some (.ref l1), some (.ref l2), some (.ref l3), some (.ref l4), some (.int l5), some (.int l6), some (.int v2), o8] [] G3)) else (if narrow .boolean (.int (0 : Int32)) = .int (0 : Int32) then some (.inl (some (.int (0 : Int32))), G3) else none)
noncomputable def t_0_673_3 (K : gK) (d : Nat) (l2 : Nat) (l6 : Int32) (l3 : Nat) (l0 : Nat) (l1 : Nat) (l4 : Nat) (l5 : Int32) (o8 : Option Value) (v2 : Int32) (G1 : gH) : Option gO := if g_cls G1 l2 = some 3 then (cI (gCa K d 5 [.ref l2] G1) (t_0_673_2 K d l6 l3 v2 l0 l1 l2 l4 l5 o8)) else none
noncomputable def t_0_673 (K : gK) (d : Nat) (l0 : Nat) (l1 : Nat) (l2 : Nat) (l3 : Nat) (l4 : Nat) (l5 : Int32) (l6 : Int32) (o7 : Option Value) (o8 : Option Value) (G : gH) : Option gO := if l0 = K.1.1 ∧ ¬ ((l5 + (1 : Int32)) < 0 ∨ K.1.2.1 ≤ ((l5 + (1 : Int32))).toNatClampNeg) then (if l0 = K.1.1 ∧ ¬ ((l5 + (2 : Int32)) < 0 ∨ K.1.2.1 ≤ ((l5 + (2 : Int32))).toNatClampNeg) then (if l0 = K.1.1 ∧ ¬ ((l5 + (3 : Int32)) < 0 ∨ K.1.2.1 ≤ ((l5 + (3 : Int32))).toNatClampNeg) then (if l0 = K.1.1 ∧ ¬ ((l5 + (4 : Int32)) < 0 ∨ K.1.2.1 ≤ ((l5 + (4 : Int32))).toNatClampNeg) then (if g_cls G l2 = some 3 then (cI (gCa K d 17 [.ref l2, .int (K.1.2.2 ((l5 + (1 : Int32))).toNatClampNeg), .int (K.1.2.2 ((l5 + (2 : Int32))).toNatClampNeg), .int (K.1.2.2 ((l5 + (3 : Int32))).toNatClampNeg), .int (K.1.2.2 ((l5 + (4 : Int32))).toNatClampNeg)] G) (t_0_673_3 K d l2 l6 l3 l0 l1 l4 l5 o8)) else none) else none) else none) else none) else none
theorem e_0_673 {K : gK} {d : Nat} {l0 : Nat} {l1 : Nat} {l2 : Nat} {l3 : Nat} {l4 : Nat} {l5 : Int32} {l6 : Int32} {o7 : Option Value} {o8 : Option Value} {G : gH} : gle (t_0_673 K d l0 l1 l2 l3 l4 l5 l6 o7 o8 G) (gRn K d 0 673 [some (.ref l0), some (.ref l1), some (.ref l2), some (.ref l3), some (.ref l4), some (.int l5), some (.int l6), o7, o8] [] G) := by
  unfold t_0_673
  refine g_aload ((q_0 _).trans rfl) rfl ?_
  refine g_aload ((q_0 _).trans rfl) rfl ?_
  refine g_iload ((q_0 _).trans rfl) rfl ?_
  refine g_push ((q_0 _).trans rfl) ?_
  refine g_iadd ((q_0 _).trans rfl) ?_
  refine g_sld ((q_0 _).trans rfl) ?_
  refine g_aload ((q_0 _).trans rfl) rfl ?_
  refine g_iload ((q_0 _).trans rfl) rfl ?_
  refine g_push ((q_0 _).trans rfl) ?_
  refine g_iadd ((q_0 _).trans rfl) ?_
  refine g_sld ((q_0 _).trans rfl) ?_
  refine g_aload ((q_0 _).trans rfl) rfl ?_
  refine g_iload ((q_0 _).trans rfl) rfl ?_
  refine g_push ((q_0 _).trans rfl) ?_
  refine g_iadd ((q_0 _).trans rfl) ?_
  refine g_sld ((q_0 _).trans rfl) ?_
  refine g_aload ((q_0 _).trans rfl) rfl ?_
  refine g_iload ((q_0 _).trans rfl) rfl ?_
  refine g_push ((q_0 _).trans rfl) ?_
  refine g_iadd ((q_0 _).trans rfl) ?_
  refine g_sld ((q_0 _).trans rfl) ?_
  refine g_callV (kk := 4) ((q_0 _).trans rfl) (gHn m_0) rfl (by exact ⟨Nat.le_of_ble_eq_true rfl, rfl⟩) rfl (fun w G1 => gm_I (fun v2 hw => ?_))
  subst hw
  refine g_istore ((q_0 _).trans rfl) ?_
  refine g_aload ((q_0 _).trans rfl) rfl ?_
  refine g_callV (kk := 0) ((q_0 _).trans rfl) (gHn m_0) rfl (by exact ⟨Nat.le_of_ble_eq_true rfl, rfl⟩) rfl (fun w G3 => gm_I (fun v4 hw => ?_))
  subst hw
  refine g_iload ((q_0 _).trans rfl) rfl ?_
  refine g_cmpeq ((q_0 _).trans rfl) (fun _ => ?_) (fun _ => ?_)
  · refine g_iload ((q_0 _).trans rfl) rfl ?_
    refine g_ifne ((q_0 _).trans rfl) (fun _ => ?_) (fun _ => ?_)
    · refine g_aload ((q_0 _).trans rfl) rfl ?_
      refine g_push ((q_0 _).trans rfl) ?_
      refine g_lald ((q_0 _).trans rfl) (fun j5 => ?_)
      refine g_iload ((q_0 _).trans rfl) rfl ?_
      refine g_i2l ((q_0 _).trans rfl) ?_
      refine g_lcmp ((q_0 _).trans rfl) ?_
      refine g_ifeq ((q_0 _).trans rfl) (fun _ => ?_) (fun _ => ?_)
      · refine g_goto ((q_0 _).trans rfl) ?_
        exact gle.rf _
      · refine g_push ((q_0 _).trans rfl) ?_
        exact g_zret ((q_0 _).trans rfl)
    · refine g_goto ((q_0 _).trans rfl) ?_
      exact gle.rf _
  · refine g_push ((q_0 _).trans rfl) ?_
    exact g_zret ((q_0 _).trans rfl)
noncomputable def t_0_747_1 (K : gK) (d : Nat) (v2 : Int32) (l0 : Nat) (l1 : Nat) (l2 : Nat) (l3 : Nat) (l4 : Nat) (l5 : Int32) (l6 : Int32) (o8 : Option Value) (G3 : gH) (j5 : Int64) : Option gO := if (lg_cmp j5 ((v2).toInt64)) = 0 then (gRn K d 0 2545 [some (.ref l0), some (.ref l1), some (.ref l2), some (.ref l3), some (.ref l4), some (.int l5), some (.int l6), some (.int v2), o8] [] G3) else (if narrow .boolean (.int (0 : Int32)) = .int (0 : Int32) then some (.inl (some (.int (0 : Int32))), G3) else none)
noncomputable def t_0_747_2 (K : gK) (d : Nat) (l6 : Int32) (l3 : Nat) (v2 : Int32) (l0 : Nat) (l1 : Nat) (l2 : Nat) (l4 : Nat) (l5 : Int32) (o8 : Option Value) (v4 : Int32) (G3 : gH) : Option gO := if v4 = l6 then (if l6 = 0 then (xJ G3 l3 (0 : Int32) (t_0_747_1 K d v2 l0 l1 l2 l3 l4 l5 l6 o8 G3)) else (gRn K d 0 2545 [some (.ref l0), some (.ref l1), some (.ref l2), some (.ref l3), some (.ref l4), some (.int l5), some (.int l6), some (.int v2), o8] [] G3)) else (if narrow .boolean (.int (0 : Int32)) = .int (0 : Int32) then some (.inl (some (.int (0 : Int32))), G3) else none)
noncomputable def t_0_747_3 (K : gK) (d : Nat) (l2 : Nat) (l6 : Int32) (l3 : Nat) (l0 : Nat) (l1 : Nat) (l4 : Nat) (l5 : Int32) (o8 : Option Value) (v2 : Int32) (G1 : gH) : Option gO := if g_cls G1 l2 = some 3 then (cI (gCa K d 5 [.ref l2] G1) (t_0_747_2 K d l6 l3 v2 l0 l1 l2 l4 l5 o8)) else none
noncomputable def t_0_747 (K : gK) (d : Nat) (l0 : Nat) (l1 : Nat) (l2 : Nat) (l3 : Nat) (l4 : Nat) (l5 : Int32) (l6 : Int32) (o7 : Option Value) (o8 : Option Value) (G : gH) : Option gO := if l0 = K.1.1 ∧ ¬ ((l5 + (1 : Int32)) < 0 ∨ K.1.2.1 ≤ ((l5 + (1 : Int32))).toNatClampNeg) then (if g_cls G l2 = some 3 then (cI (gCa K d 19 [.ref l2, .int (K.1.2.2 ((l5 + (1 : Int32))).toNatClampNeg)] G) (t_0_747_3 K d l2 l6 l3 l0 l1 l4 l5 o8)) else none) else none
theorem e_0_747 {K : gK} {d : Nat} {l0 : Nat} {l1 : Nat} {l2 : Nat} {l3 : Nat} {l4 : Nat} {l5 : Int32} {l6 : Int32} {o7 : Option Value} {o8 : Option Value} {G : gH} : gle (t_0_747 K d l0 l1 l2 l3 l4 l5 l6 o7 o8 G) (gRn K d 0 747 [some (.ref l0), some (.ref l1), some (.ref l2), some (.ref l3), some (.ref l4), some (.int l5), some (.int l6), o7, o8] [] G) := by
  unfold t_0_747
  refine g_aload ((q_0 _).trans rfl) rfl ?_
  refine g_aload ((q_0 _).trans rfl) rfl ?_
  refine g_iload ((q_0 _).trans rfl) rfl ?_
  refine g_push ((q_0 _).trans rfl) ?_
  refine g_iadd ((q_0 _).trans rfl) ?_
  refine g_sld ((q_0 _).trans rfl) ?_
  refine g_callV (kk := 1) ((q_0 _).trans rfl) (gHn m_0) rfl (by exact ⟨Nat.le_of_ble_eq_true rfl, rfl⟩) rfl (fun w G1 => gm_I (fun v2 hw => ?_))
  subst hw
  refine g_istore ((q_0 _).trans rfl) ?_
  refine g_aload ((q_0 _).trans rfl) rfl ?_
  refine g_callV (kk := 0) ((q_0 _).trans rfl) (gHn m_0) rfl (by exact ⟨Nat.le_of_ble_eq_true rfl, rfl⟩) rfl (fun w G3 => gm_I (fun v4 hw => ?_))
  subst hw
  refine g_iload ((q_0 _).trans rfl) rfl ?_
  refine g_cmpeq ((q_0 _).trans rfl) (fun _ => ?_) (fun _ => ?_)
  · refine g_iload ((q_0 _).trans rfl) rfl ?_
    refine g_ifne ((q_0 _).trans rfl) (fun _ => ?_) (fun _ => ?_)
    · refine g_aload ((q_0 _).trans rfl) rfl ?_
      refine g_push ((q_0 _).trans rfl) ?_
      refine g_lald ((q_0 _).trans rfl) (fun j5 => ?_)
      refine g_iload ((q_0 _).trans rfl) rfl ?_
      refine g_i2l ((q_0 _).trans rfl) ?_
      refine g_lcmp ((q_0 _).trans rfl) ?_
      refine g_ifeq ((q_0 _).trans rfl) (fun _ => ?_) (fun _ => ?_)
      · refine g_goto ((q_0 _).trans rfl) ?_
        exact gle.rf _
      · refine g_push ((q_0 _).trans rfl) ?_
        exact g_zret ((q_0 _).trans rfl)
    · refine g_goto ((q_0 _).trans rfl) ?_
      exact gle.rf _
  · refine g_push ((q_0 _).trans rfl) ?_
    exact g_zret ((q_0 _).trans rfl)
noncomputable def t_0_835_1 (K : gK) (d : Nat) (v2 : Int32) (l0 : Nat) (l1 : Nat) (l2 : Nat) (l3 : Nat) (l4 : Nat) (l5 : Int32) (l6 : Int32) (o8 : Option Value) (G3 : gH) (j5 : Int64) : Option gO := if (lg_cmp j5 ((v2).toInt64)) = 0 then (gRn K d 0 2545 [some (.ref l0), some (.ref l1), some (.ref l2), some (.ref l3), some (.ref l4), some (.int l5), some (.int l6), some (.int v2), o8] [] G3) else (if narrow .boolean (.int (0 : Int32)) = .int (0 : Int32) then some (.inl (some (.int (0 : Int32))), G3) else none)
noncomputable def t_0_835_2 (K : gK) (d : Nat) (l6 : Int32) (l3 : Nat) (v2 : Int32) (l0 : Nat) (l1 : Nat) (l2 : Nat) (l4 : Nat) (l5 : Int32) (o8 : Option Value) (v4 : Int32) (G3 : gH) : Option gO := if v4 = l6 then (if l6 = 0 then (xJ G3 l3 (0 : Int32) (t_0_835_1 K d v2 l0 l1 l2 l3 l4 l5 l6 o8 G3)) else (gRn K d 0 2545 [some (.ref l0), some (.ref l1), some (.ref l2), some (.ref l3), some (.ref l4), some (.int l5), some (.int l6), some (.int v2), o8] [] G3)) else (if narrow .boolean (.int (0 : Int32)) = .int (0 : Int32) then some (.inl (some (.int (0 : Int32))), G3) else none)
noncomputable def t_0_835_3 (K : gK) (d : Nat) (l2 : Nat) (l6 : Int32) (l3 : Nat) (l0 : Nat) (l1 : Nat) (l4 : Nat) (l5 : Int32) (o8 : Option Value) (v2 : Int32) (G1 : gH) : Option gO := if g_cls G1 l2 = some 3 then (cI (gCa K d 5 [.ref l2] G1) (t_0_835_2 K d l6 l3 v2 l0 l1 l2 l4 l5 o8)) else none
noncomputable def t_0_835_4 (K : gK) (d : Nat) (v7 : Int32) (l0 : Nat) (l1 : Nat) (l2 : Nat) (l3 : Nat) (l4 : Nat) (l5 : Int32) (l6 : Int32) (o8 : Option Value) (G8 : gH) (j10 : Int64) : Option gO := if (lg_cmp j10 ((v7).toInt64)) = 0 then (gRn K d 0 2545 [some (.ref l0), some (.ref l1), some (.ref l2), some (.ref l3), some (.ref l4), some (.int l5), some (.int l6), some (.int v7), o8] [] G8) else (if narrow .boolean (.int (0 : Int32)) = .int (0 : Int32) then some (.inl (some (.int (0 : Int32))), G8) else none)
noncomputable def t_0_835_5 (K : gK) (d : Nat) (l6 : Int32) (l3 : Nat) (v7 : Int32) (l0 : Nat) (l1 : Nat) (l2 : Nat) (l4 : Nat) (l5 : Int32) (o8 : Option Value) (v9 : Int32) (G8 : gH) : Option gO := if v9 = l6 then (if l6 = 0 then (xJ G8 l3 (0 : Int32) (t_0_835_4 K d v7 l0 l1 l2 l3 l4 l5 l6 o8 G8)) else (gRn K d 0 2545 [some (.ref l0), some (.ref l1), some (.ref l2), some (.ref l3), some (.ref l4), some (.int l5), some (.int l6), some (.int v7), o8] [] G8)) else (if narrow .boolean (.int (0 : Int32)) = .int (0 : Int32) then some (.inl (some (.int (0 : Int32))), G8) else none)
noncomputable def t_0_835_6 (K : gK) (d : Nat) (l2 : Nat) (l6 : Int32) (l3 : Nat) (l0 : Nat) (l1 : Nat) (l4 : Nat) (l5 : Int32) (o8 : Option Value) (v7 : Int32) (G6 : gH) : Option gO := if g_cls G6 l2 = some 3 then (cI (gCa K d 5 [.ref l2] G6) (t_0_835_5 K d l6 l3 v7 l0 l1 l2 l4 l5 o8)) else none
noncomputable def t_0_835 (K : gK) (d : Nat) (l0 : Nat) (l1 : Nat) (l2 : Nat) (l3 : Nat) (l4 : Nat) (l5 : Int32) (l6 : Int32) (o7 : Option Value) (o8 : Option Value) (G : gH) : Option gO := if l0 = K.1.1 ∧ ¬ ((l5 + (1 : Int32)) < 0 ∨ K.1.2.1 ≤ ((l5 + (1 : Int32))).toNatClampNeg) then (if l0 = K.1.1 ∧ ¬ ((l5 + (2 : Int32)) < 0 ∨ K.1.2.1 ≤ ((l5 + (2 : Int32))).toNatClampNeg) then (if l0 = K.1.1 ∧ ¬ ((l5 + (3 : Int32)) < 0 ∨ K.1.2.1 ≤ ((l5 + (3 : Int32))).toNatClampNeg) then (if l0 = K.1.1 ∧ ¬ ((l5 + (4 : Int32)) < 0 ∨ K.1.2.1 ≤ ((l5 + (4 : Int32))).toNatClampNeg) then (if l0 = K.1.1 ∧ ¬ ((l5 + (5 : Int32)) < 0 ∨ K.1.2.1 ≤ ((l5 + (5 : Int32))).toNatClampNeg) then (if (K.1.2.2 ((l5 + (5 : Int32))).toNatClampNeg) = 0 then (if g_cls G l2 = some 3 then (cI (gCa K d 21 [.ref l2, .int (K.1.2.2 ((l5 + (1 : Int32))).toNatClampNeg), .int (K.1.2.2 ((l5 + (2 : Int32))).toNatClampNeg), .int (K.1.2.2 ((l5 + (3 : Int32))).toNatClampNeg), .int (K.1.2.2 ((l5 + (4 : Int32))).toNatClampNeg), .int (0 : Int32)] G) (t_0_835_3 K d l2 l6 l3 l0 l1 l4 l5 o8)) else none) else (if g_cls G l2 = some 3 then (cI (gCa K d 21 [.ref l2, .int (K.1.2.2 ((l5 + (1 : Int32))).toNatClampNeg), .int (K.1.2.2 ((l5 + (2 : Int32))).toNatClampNeg), .int (K.1.2.2 ((l5 + (3 : Int32))).toNatClampNeg), .int (K.1.2.2 ((l5 + (4 : Int32))).toNatClampNeg), .int (1 : Int32)] G) (t_0_835_6 K d l2 l6 l3 l0 l1 l4 l5 o8)) else none)) else none) else none) else none) else none) else none
theorem e_0_835 {K : gK} {d : Nat} {l0 : Nat} {l1 : Nat} {l2 : Nat} {l3 : Nat} {l4 : Nat} {l5 : Int32} {l6 : Int32} {o7 : Option Value} {o8 : Option Value} {G : gH} : gle (t_0_835 K d l0 l1 l2 l3 l4 l5 l6 o7 o8 G) (gRn K d 0 835 [some (.ref l0), some (.ref l1), some (.ref l2), some (.ref l3), some (.ref l4), some (.int l5), some (.int l6), o7, o8] [] G) := by
  unfold t_0_835
  refine g_aload ((q_0 _).trans rfl) rfl ?_
  refine g_aload ((q_0 _).trans rfl) rfl ?_
  refine g_iload ((q_0 _).trans rfl) rfl ?_
  refine g_push ((q_0 _).trans rfl) ?_
  refine g_iadd ((q_0 _).trans rfl) ?_
  refine g_sld ((q_0 _).trans rfl) ?_
  refine g_aload ((q_0 _).trans rfl) rfl ?_
  refine g_iload ((q_0 _).trans rfl) rfl ?_
  refine g_push ((q_0 _).trans rfl) ?_
  refine g_iadd ((q_0 _).trans rfl) ?_
  refine g_sld ((q_0 _).trans rfl) ?_
  refine g_aload ((q_0 _).trans rfl) rfl ?_
  refine g_iload ((q_0 _).trans rfl) rfl ?_
  refine g_push ((q_0 _).trans rfl) ?_
  refine g_iadd ((q_0 _).trans rfl) ?_
  refine g_sld ((q_0 _).trans rfl) ?_
  refine g_aload ((q_0 _).trans rfl) rfl ?_
  refine g_iload ((q_0 _).trans rfl) rfl ?_
  refine g_push ((q_0 _).trans rfl) ?_
  refine g_iadd ((q_0 _).trans rfl) ?_
  refine g_sld ((q_0 _).trans rfl) ?_
  refine g_aload ((q_0 _).trans rfl) rfl ?_
  refine g_iload ((q_0 _).trans rfl) rfl ?_
  refine g_push ((q_0 _).trans rfl) ?_
  refine g_iadd ((q_0 _).trans rfl) ?_
  refine g_sld ((q_0 _).trans rfl) ?_
  refine g_ifeq ((q_0 _).trans rfl) (fun _ => ?_) (fun _ => ?_)
  · refine g_push ((q_0 _).trans rfl) ?_
    refine g_callV (kk := 5) ((q_0 _).trans rfl) (gHn m_0) rfl (by exact ⟨Nat.le_of_ble_eq_true rfl, rfl⟩) rfl (fun w G1 => gm_I (fun v2 hw => ?_))
    subst hw
    refine g_istore ((q_0 _).trans rfl) ?_
    refine g_aload ((q_0 _).trans rfl) rfl ?_
    refine g_callV (kk := 0) ((q_0 _).trans rfl) (gHn m_0) rfl (by exact ⟨Nat.le_of_ble_eq_true rfl, rfl⟩) rfl (fun w G3 => gm_I (fun v4 hw => ?_))
    subst hw
    refine g_iload ((q_0 _).trans rfl) rfl ?_
    refine g_cmpeq ((q_0 _).trans rfl) (fun _ => ?_) (fun _ => ?_)
    · refine g_iload ((q_0 _).trans rfl) rfl ?_
      refine g_ifne ((q_0 _).trans rfl) (fun _ => ?_) (fun _ => ?_)
      · refine g_aload ((q_0 _).trans rfl) rfl ?_
        refine g_push ((q_0 _).trans rfl) ?_
        refine g_lald ((q_0 _).trans rfl) (fun j5 => ?_)
        refine g_iload ((q_0 _).trans rfl) rfl ?_
        refine g_i2l ((q_0 _).trans rfl) ?_
        refine g_lcmp ((q_0 _).trans rfl) ?_
        refine g_ifeq ((q_0 _).trans rfl) (fun _ => ?_) (fun _ => ?_)
        · refine g_goto ((q_0 _).trans rfl) ?_
          exact gle.rf _
        · refine g_push ((q_0 _).trans rfl) ?_
          exact g_zret ((q_0 _).trans rfl)
      · refine g_goto ((q_0 _).trans rfl) ?_
        exact gle.rf _
    · refine g_push ((q_0 _).trans rfl) ?_
      exact g_zret ((q_0 _).trans rfl)
  · refine g_push ((q_0 _).trans rfl) ?_
    refine g_goto ((q_0 _).trans rfl) ?_
    refine g_callV (kk := 5) ((q_0 _).trans rfl) (gHn m_0) rfl (by exact ⟨Nat.le_of_ble_eq_true rfl, rfl⟩) rfl (fun w G6 => gm_I (fun v7 hw => ?_))
    subst hw
    refine g_istore ((q_0 _).trans rfl) ?_
    refine g_aload ((q_0 _).trans rfl) rfl ?_
    refine g_callV (kk := 0) ((q_0 _).trans rfl) (gHn m_0) rfl (by exact ⟨Nat.le_of_ble_eq_true rfl, rfl⟩) rfl (fun w G8 => gm_I (fun v9 hw => ?_))
    subst hw
    refine g_iload ((q_0 _).trans rfl) rfl ?_
    refine g_cmpeq ((q_0 _).trans rfl) (fun _ => ?_) (fun _ => ?_)
    · refine g_iload ((q_0 _).trans rfl) rfl ?_
      refine g_ifne ((q_0 _).trans rfl) (fun _ => ?_) (fun _ => ?_)
      · refine g_aload ((q_0 _).trans rfl) rfl ?_
        refine g_push ((q_0 _).trans rfl) ?_
        refine g_lald ((q_0 _).trans rfl) (fun j10 => ?_)
        refine g_iload ((q_0 _).trans rfl) rfl ?_
        refine g_i2l ((q_0 _).trans rfl) ?_
        refine g_lcmp ((q_0 _).trans rfl) ?_
        refine g_ifeq ((q_0 _).trans rfl) (fun _ => ?_) (fun _ => ?_)
        · refine g_goto ((q_0 _).trans rfl) ?_
          exact gle.rf _
        · refine g_push ((q_0 _).trans rfl) ?_
          exact g_zret ((q_0 _).trans rfl)
      · refine g_goto ((q_0 _).trans rfl) ?_
        exact gle.rf _
    · refine g_push ((q_0 _).trans rfl) ?_
      exact g_zret ((q_0 _).trans rfl)
noncomputable def t_0_955_1 (K : gK) (d : Nat) (v2 : Int32) (l0 : Nat) (l1 : Nat) (l2 : Nat) (l3 : Nat) (l4 : Nat) (l5 : Int32) (l6 : Int32) (o8 : Option Value) (G3 : gH) (j5 : Int64) : Option gO := if (lg_cmp j5 ((v2).toInt64)) = 0 then (gRn K d 0 2545 [some (.ref l0), some (.ref l1), some (.ref l2), some (.ref l3), some (.ref l4), some (.int l5), some (.int l6), some (.int v2), o8] [] G3) else (if narrow .boolean (.int (0 : Int32)) = .int (0 : Int32) then some (.inl (some (.int (0 : Int32))), G3) else none)
noncomputable def t_0_955_2 (K : gK) (d : Nat) (l6 : Int32) (l3 : Nat) (v2 : Int32) (l0 : Nat) (l1 : Nat) (l2 : Nat) (l4 : Nat) (l5 : Int32) (o8 : Option Value) (v4 : Int32) (G3 : gH) : Option gO := if v4 = l6 then (if l6 = 0 then (xJ G3 l3 (0 : Int32) (t_0_955_1 K d v2 l0 l1 l2 l3 l4 l5 l6 o8 G3)) else (gRn K d 0 2545 [some (.ref l0), some (.ref l1), some (.ref l2), some (.ref l3), some (.ref l4), some (.int l5), some (.int l6), some (.int v2), o8] [] G3)) else (if narrow .boolean (.int (0 : Int32)) = .int (0 : Int32) then some (.inl (some (.int (0 : Int32))), G3) else none)
noncomputable def t_0_955_3 (K : gK) (d : Nat) (l2 : Nat) (l6 : Int32) (l3 : Nat) (l0 : Nat) (l1 : Nat) (l4 : Nat) (l5 : Int32) (o8 : Option Value) (v2 : Int32) (G1 : gH) : Option gO := if g_cls G1 l2 = some 3 then (cI (gCa K d 5 [.ref l2] G1) (t_0_955_2 K d l6 l3 v2 l0 l1 l2 l4 l5 o8)) else none
noncomputable def t_0_955_4 (K : gK) (d : Nat) (v7 : Int32) (l0 : Nat) (l1 : Nat) (l2 : Nat) (l3 : Nat) (l4 : Nat) (l5 : Int32) (l6 : Int32) (o8 : Option Value) (G8 : gH) (j10 : Int64) : Option gO := if (lg_cmp j10 ((v7).toInt64)) = 0 then (gRn K d 0 2545 [some (.ref l0), some (.ref l1), some (.ref l2), some (.ref l3), some (.ref l4), some (.int l5), some (.int l6), some (.int v7), o8] [] G8) else (if narrow .boolean (.int (0 : Int32)) = .int (0 : Int32) then some (.inl (some (.int (0 : Int32))), G8) else none)
noncomputable def t_0_955_5 (K : gK) (d : Nat) (l6 : Int32) (l3 : Nat) (v7 : Int32) (l0 : Nat) (l1 : Nat) (l2 : Nat) (l4 : Nat) (l5 : Int32) (o8 : Option Value) (v9 : Int32) (G8 : gH) : Option gO := if v9 = l6 then (if l6 = 0 then (xJ G8 l3 (0 : Int32) (t_0_955_4 K d v7 l0 l1 l2 l3 l4 l5 l6 o8 G8)) else (gRn K d 0 2545 [some (.ref l0), some (.ref l1), some (.ref l2), some (.ref l3), some (.ref l4), some (.int l5), some (.int l6), some (.int v7), o8] [] G8)) else (if narrow .boolean (.int (0 : Int32)) = .int (0 : Int32) then some (.inl (some (.int (0 : Int32))), G8) else none)
noncomputable def t_0_955_6 (K : gK) (d : Nat) (l2 : Nat) (l6 : Int32) (l3 : Nat) (l0 : Nat) (l1 : Nat) (l4 : Nat) (l5 : Int32) (o8 : Option Value) (v7 : Int32) (G6 : gH) : Option gO := if g_cls G6 l2 = some 3 then (cI (gCa K d 5 [.ref l2] G6) (t_0_955_5 K d l6 l3 v7 l0 l1 l2 l4 l5 o8)) else none
noncomputable def t_0_955 (K : gK) (d : Nat) (l0 : Nat) (l1 : Nat) (l2 : Nat) (l3 : Nat) (l4 : Nat) (l5 : Int32) (l6 : Int32) (o7 : Option Value) (o8 : Option Value) (G : gH) : Option gO := if l0 = K.1.1 ∧ ¬ ((l5 + (1 : Int32)) < 0 ∨ K.1.2.1 ≤ ((l5 + (1 : Int32))).toNatClampNeg) then (if l0 = K.1.1 ∧ ¬ ((l5 + (2 : Int32)) < 0 ∨ K.1.2.1 ≤ ((l5 + (2 : Int32))).toNatClampNeg) then (if l0 = K.1.1 ∧ ¬ ((l5 + (3 : Int32)) < 0 ∨ K.1.2.1 ≤ ((l5 + (3 : Int32))).toNatClampNeg) then (if l0 = K.1.1 ∧ ¬ ((l5 + (4 : Int32)) < 0 ∨ K.1.2.1 ≤ ((l5 + (4 : Int32))).toNatClampNeg) then (if l0 = K.1.1 ∧ ¬ ((l5 + (5 : Int32)) < 0 ∨ K.1.2.1 ≤ ((l5 + (5 : Int32))).toNatClampNeg) then (if (K.1.2.2 ((l5 + (5 : Int32))).toNatClampNeg) = 0 then (if g_cls G l2 = some 3 then (cI (gCa K d 23 [.ref l2, .int (K.1.2.2 ((l5 + (1 : Int32))).toNatClampNeg), .int (K.1.2.2 ((l5 + (2 : Int32))).toNatClampNeg), .int (K.1.2.2 ((l5 + (3 : Int32))).toNatClampNeg), .int (K.1.2.2 ((l5 + (4 : Int32))).toNatClampNeg), .int (0 : Int32)] G) (t_0_955_3 K d l2 l6 l3 l0 l1 l4 l5 o8)) else none) else (if g_cls G l2 = some 3 then (cI (gCa K d 23 [.ref l2, .int (K.1.2.2 ((l5 + (1 : Int32))).toNatClampNeg), .int (K.1.2.2 ((l5 + (2 : Int32))).toNatClampNeg), .int (K.1.2.2 ((l5 + (3 : Int32))).toNatClampNeg), .int (K.1.2.2 ((l5 + (4 : Int32))).toNatClampNeg), .int (1 : Int32)] G) (t_0_955_6 K d l2 l6 l3 l0 l1 l4 l5 o8)) else none)) else none) else none) else none) else none) else none
theorem e_0_955 {K : gK} {d : Nat} {l0 : Nat} {l1 : Nat} {l2 : Nat} {l3 : Nat} {l4 : Nat} {l5 : Int32} {l6 : Int32} {o7 : Option Value} {o8 : Option Value} {G : gH} : gle (t_0_955 K d l0 l1 l2 l3 l4 l5 l6 o7 o8 G) (gRn K d 0 955 [some (.ref l0), some (.ref l1), some (.ref l2), some (.ref l3), some (.ref l4), some (.int l5), some (.int l6), o7, o8] [] G) := by
  unfold t_0_955
  refine g_aload ((q_0 _).trans rfl) rfl ?_
  refine g_aload ((q_0 _).trans rfl) rfl ?_
  refine g_iload ((q_0 _).trans rfl) rfl ?_
  refine g_push ((q_0 _).trans rfl) ?_
  refine g_iadd ((q_0 _).trans rfl) ?_
  refine g_sld ((q_0 _).trans rfl) ?_
  refine g_aload ((q_0 _).trans rfl) rfl ?_
  refine g_iload ((q_0 _).trans rfl) rfl ?_
  refine g_push ((q_0 _).trans rfl) ?_
  refine g_iadd ((q_0 _).trans rfl) ?_
  refine g_sld ((q_0 _).trans rfl) ?_
  refine g_aload ((q_0 _).trans rfl) rfl ?_
  refine g_iload ((q_0 _).trans rfl) rfl ?_
  refine g_push ((q_0 _).trans rfl) ?_
  refine g_iadd ((q_0 _).trans rfl) ?_
  refine g_sld ((q_0 _).trans rfl) ?_
  refine g_aload ((q_0 _).trans rfl) rfl ?_
  refine g_iload ((q_0 _).trans rfl) rfl ?_
  refine g_push ((q_0 _).trans rfl) ?_
  refine g_iadd ((q_0 _).trans rfl) ?_
  refine g_sld ((q_0 _).trans rfl) ?_
  refine g_aload ((q_0 _).trans rfl) rfl ?_
  refine g_iload ((q_0 _).trans rfl) rfl ?_
  refine g_push ((q_0 _).trans rfl) ?_
  refine g_iadd ((q_0 _).trans rfl) ?_
  refine g_sld ((q_0 _).trans rfl) ?_
  refine g_ifeq ((q_0 _).trans rfl) (fun _ => ?_) (fun _ => ?_)
  · refine g_push ((q_0 _).trans rfl) ?_
    refine g_callV (kk := 5) ((q_0 _).trans rfl) (gHn m_0) rfl (by exact ⟨Nat.le_of_ble_eq_true rfl, rfl⟩) rfl (fun w G1 => gm_I (fun v2 hw => ?_))
    subst hw
    refine g_istore ((q_0 _).trans rfl) ?_
    refine g_aload ((q_0 _).trans rfl) rfl ?_
    refine g_callV (kk := 0) ((q_0 _).trans rfl) (gHn m_0) rfl (by exact ⟨Nat.le_of_ble_eq_true rfl, rfl⟩) rfl (fun w G3 => gm_I (fun v4 hw => ?_))
    subst hw
    refine g_iload ((q_0 _).trans rfl) rfl ?_
    refine g_cmpeq ((q_0 _).trans rfl) (fun _ => ?_) (fun _ => ?_)
    · refine g_iload ((q_0 _).trans rfl) rfl ?_
      refine g_ifne ((q_0 _).trans rfl) (fun _ => ?_) (fun _ => ?_)
      · refine g_aload ((q_0 _).trans rfl) rfl ?_
        refine g_push ((q_0 _).trans rfl) ?_
        refine g_lald ((q_0 _).trans rfl) (fun j5 => ?_)
        refine g_iload ((q_0 _).trans rfl) rfl ?_
        refine g_i2l ((q_0 _).trans rfl) ?_
        refine g_lcmp ((q_0 _).trans rfl) ?_
        refine g_ifeq ((q_0 _).trans rfl) (fun _ => ?_) (fun _ => ?_)
        · refine g_goto ((q_0 _).trans rfl) ?_
          exact gle.rf _
        · refine g_push ((q_0 _).trans rfl) ?_
          exact g_zret ((q_0 _).trans rfl)
      · refine g_goto ((q_0 _).trans rfl) ?_
        exact gle.rf _
    · refine g_push ((q_0 _).trans rfl) ?_
      exact g_zret ((q_0 _).trans rfl)
  · refine g_push ((q_0 _).trans rfl) ?_
    refine g_goto ((q_0 _).trans rfl) ?_
    refine g_callV (kk := 5) ((q_0 _).trans rfl) (gHn m_0) rfl (by exact ⟨Nat.le_of_ble_eq_true rfl, rfl⟩) rfl (fun w G6 => gm_I (fun v7 hw => ?_))
    subst hw
    refine g_istore ((q_0 _).trans rfl) ?_
    refine g_aload ((q_0 _).trans rfl) rfl ?_
    refine g_callV (kk := 0) ((q_0 _).trans rfl) (gHn m_0) rfl (by exact ⟨Nat.le_of_ble_eq_true rfl, rfl⟩) rfl (fun w G8 => gm_I (fun v9 hw => ?_))
    subst hw
    refine g_iload ((q_0 _).trans rfl) rfl ?_
    refine g_cmpeq ((q_0 _).trans rfl) (fun _ => ?_) (fun _ => ?_)
    · refine g_iload ((q_0 _).trans rfl) rfl ?_
      refine g_ifne ((q_0 _).trans rfl) (fun _ => ?_) (fun _ => ?_)
      · refine g_aload ((q_0 _).trans rfl) rfl ?_
        refine g_push ((q_0 _).trans rfl) ?_
        refine g_lald ((q_0 _).trans rfl) (fun j10 => ?_)
        refine g_iload ((q_0 _).trans rfl) rfl ?_
        refine g_i2l ((q_0 _).trans rfl) ?_
        refine g_lcmp ((q_0 _).trans rfl) ?_
        refine g_ifeq ((q_0 _).trans rfl) (fun _ => ?_) (fun _ => ?_)
        · refine g_goto ((q_0 _).trans rfl) ?_
          exact gle.rf _
        · refine g_push ((q_0 _).trans rfl) ?_
          exact g_zret ((q_0 _).trans rfl)
      · refine g_goto ((q_0 _).trans rfl) ?_
        exact gle.rf _
    · refine g_push ((q_0 _).trans rfl) ?_
      exact g_zret ((q_0 _).trans rfl)
noncomputable def t_0_1057_1 (K : gK) (d : Nat) (v2 : Int32) (l0 : Nat) (l1 : Nat) (l2 : Nat) (l3 : Nat) (l4 : Nat) (l5 : Int32) (l6 : Int32) (o8 : Option Value) (G3 : gH) (j5 : Int64) : Option gO := if (lg_cmp j5 ((v2).toInt64)) = 0 then (gRn K d 0 2545 [some (.ref l0), some (.ref l1), some (.ref l2), some (.ref l3), some (.ref l4), some (.int l5), some (.int l6), some (.int v2), o8] [] G3) else (if narrow .boolean (.int (0 : Int32)) = .int (0 : Int32) then some (.inl (some (.int (0 : Int32))), G3) else none)
noncomputable def t_0_1057_2 (K : gK) (d : Nat) (l6 : Int32) (l3 : Nat) (v2 : Int32) (l0 : Nat) (l1 : Nat) (l2 : Nat) (l4 : Nat) (l5 : Int32) (o8 : Option Value) (v4 : Int32) (G3 : gH) : Option gO := if v4 = l6 then (if l6 = 0 then (xJ G3 l3 (0 : Int32) (t_0_1057_1 K d v2 l0 l1 l2 l3 l4 l5 l6 o8 G3)) else (gRn K d 0 2545 [some (.ref l0), some (.ref l1), some (.ref l2), some (.ref l3), some (.ref l4), some (.int l5), some (.int l6), some (.int v2), o8] [] G3)) else (if narrow .boolean (.int (0 : Int32)) = .int (0 : Int32) then some (.inl (some (.int (0 : Int32))), G3) else none)
noncomputable def t_0_1057_3 (K : gK) (d : Nat) (l2 : Nat) (l6 : Int32) (l3 : Nat) (l0 : Nat) (l1 : Nat) (l4 : Nat) (l5 : Int32) (o8 : Option Value) (v2 : Int32) (G1 : gH) : Option gO := if g_cls G1 l2 = some 3 then (cI (gCa K d 5 [.ref l2] G1) (t_0_1057_2 K d l6 l3 v2 l0 l1 l2 l4 l5 o8)) else none
noncomputable def t_0_1057_4 (K : gK) (d : Nat) (v7 : Int32) (l0 : Nat) (l1 : Nat) (l2 : Nat) (l3 : Nat) (l4 : Nat) (l5 : Int32) (l6 : Int32) (o8 : Option Value) (G8 : gH) (j10 : Int64) : Option gO := if (lg_cmp j10 ((v7).toInt64)) = 0 then (gRn K d 0 2545 [some (.ref l0), some (.ref l1), some (.ref l2), some (.ref l3), some (.ref l4), some (.int l5), some (.int l6), some (.int v7), o8] [] G8) else (if narrow .boolean (.int (0 : Int32)) = .int (0 : Int32) then some (.inl (some (.int (0 : Int32))), G8) else none)
noncomputable def t_0_1057_5 (K : gK) (d : Nat) (l6 : Int32) (l3 : Nat) (v7 : Int32) (l0 : Nat) (l1 : Nat) (l2 : Nat) (l4 : Nat) (l5 : Int32) (o8 : Option Value) (v9 : Int32) (G8 : gH) : Option gO := if v9 = l6 then (if l6 = 0 then (xJ G8 l3 (0 : Int32) (t_0_1057_4 K d v7 l0 l1 l2 l3 l4 l5 l6 o8 G8)) else (gRn K d 0 2545 [some (.ref l0), some (.ref l1), some (.ref l2), some (.ref l3), some (.ref l4), some (.int l5), some (.int l6), some (.int v7), o8] [] G8)) else (if narrow .boolean (.int (0 : Int32)) = .int (0 : Int32) then some (.inl (some (.int (0 : Int32))), G8) else none)
noncomputable def t_0_1057_6 (K : gK) (d : Nat) (l2 : Nat) (l6 : Int32) (l3 : Nat) (l0 : Nat) (l1 : Nat) (l4 : Nat) (l5 : Int32) (o8 : Option Value) (v7 : Int32) (G6 : gH) : Option gO := if g_cls G6 l2 = some 3 then (cI (gCa K d 5 [.ref l2] G6) (t_0_1057_5 K d l6 l3 v7 l0 l1 l2 l4 l5 o8)) else none
noncomputable def t_0_1057 (K : gK) (d : Nat) (l0 : Nat) (l1 : Nat) (l2 : Nat) (l3 : Nat) (l4 : Nat) (l5 : Int32) (l6 : Int32) (o7 : Option Value) (o8 : Option Value) (G : gH) : Option gO := if l0 = K.1.1 ∧ ¬ ((l5 + (1 : Int32)) < 0 ∨ K.1.2.1 ≤ ((l5 + (1 : Int32))).toNatClampNeg) then (if l0 = K.1.1 ∧ ¬ ((l5 + (2 : Int32)) < 0 ∨ K.1.2.1 ≤ ((l5 + (2 : Int32))).toNatClampNeg) then (if (K.1.2.2 ((l5 + (2 : Int32))).toNatClampNeg) = 0 then (if g_cls G l2 = some 3 then (cI (gCa K d 25 [.ref l2, .int (K.1.2.2 ((l5 + (1 : Int32))).toNatClampNeg), .int (0 : Int32)] G) (t_0_1057_3 K d l2 l6 l3 l0 l1 l4 l5 o8)) else none) else (if g_cls G l2 = some 3 then (cI (gCa K d 25 [.ref l2, .int (K.1.2.2 ((l5 + (1 : Int32))).toNatClampNeg), .int (1 : Int32)] G) (t_0_1057_6 K d l2 l6 l3 l0 l1 l4 l5 o8)) else none)) else none) else none
theorem e_0_1057 {K : gK} {d : Nat} {l0 : Nat} {l1 : Nat} {l2 : Nat} {l3 : Nat} {l4 : Nat} {l5 : Int32} {l6 : Int32} {o7 : Option Value} {o8 : Option Value} {G : gH} : gle (t_0_1057 K d l0 l1 l2 l3 l4 l5 l6 o7 o8 G) (gRn K d 0 1057 [some (.ref l0), some (.ref l1), some (.ref l2), some (.ref l3), some (.ref l4), some (.int l5), some (.int l6), o7, o8] [] G) := by
  unfold t_0_1057
  refine g_aload ((q_0 _).trans rfl) rfl ?_
  refine g_aload ((q_0 _).trans rfl) rfl ?_
  refine g_iload ((q_0 _).trans rfl) rfl ?_
  refine g_push ((q_0 _).trans rfl) ?_
  refine g_iadd ((q_0 _).trans rfl) ?_
  refine g_sld ((q_0 _).trans rfl) ?_
  refine g_aload ((q_0 _).trans rfl) rfl ?_
  refine g_iload ((q_0 _).trans rfl) rfl ?_
  refine g_push ((q_0 _).trans rfl) ?_
  refine g_iadd ((q_0 _).trans rfl) ?_
  refine g_sld ((q_0 _).trans rfl) ?_
  refine g_ifeq ((q_0 _).trans rfl) (fun _ => ?_) (fun _ => ?_)
  · refine g_push ((q_0 _).trans rfl) ?_
    refine g_callV (kk := 2) ((q_0 _).trans rfl) (gHn m_0) rfl (by exact ⟨Nat.le_of_ble_eq_true rfl, rfl⟩) rfl (fun w G1 => gm_I (fun v2 hw => ?_))
    subst hw
    refine g_istore ((q_0 _).trans rfl) ?_
    refine g_aload ((q_0 _).trans rfl) rfl ?_
    refine g_callV (kk := 0) ((q_0 _).trans rfl) (gHn m_0) rfl (by exact ⟨Nat.le_of_ble_eq_true rfl, rfl⟩) rfl (fun w G3 => gm_I (fun v4 hw => ?_))
    subst hw
    refine g_iload ((q_0 _).trans rfl) rfl ?_
    refine g_cmpeq ((q_0 _).trans rfl) (fun _ => ?_) (fun _ => ?_)
    · refine g_iload ((q_0 _).trans rfl) rfl ?_
      refine g_ifne ((q_0 _).trans rfl) (fun _ => ?_) (fun _ => ?_)
      · refine g_aload ((q_0 _).trans rfl) rfl ?_
        refine g_push ((q_0 _).trans rfl) ?_
        refine g_lald ((q_0 _).trans rfl) (fun j5 => ?_)
        refine g_iload ((q_0 _).trans rfl) rfl ?_
        refine g_i2l ((q_0 _).trans rfl) ?_
        refine g_lcmp ((q_0 _).trans rfl) ?_
        refine g_ifeq ((q_0 _).trans rfl) (fun _ => ?_) (fun _ => ?_)
        · refine g_goto ((q_0 _).trans rfl) ?_
          exact gle.rf _
        · refine g_push ((q_0 _).trans rfl) ?_
          exact g_zret ((q_0 _).trans rfl)
      · refine g_goto ((q_0 _).trans rfl) ?_
        exact gle.rf _
    · refine g_push ((q_0 _).trans rfl) ?_
      exact g_zret ((q_0 _).trans rfl)
  · refine g_push ((q_0 _).trans rfl) ?_
    refine g_goto ((q_0 _).trans rfl) ?_
    refine g_callV (kk := 2) ((q_0 _).trans rfl) (gHn m_0) rfl (by exact ⟨Nat.le_of_ble_eq_true rfl, rfl⟩) rfl (fun w G6 => gm_I (fun v7 hw => ?_))
    subst hw
    refine g_istore ((q_0 _).trans rfl) ?_
    refine g_aload ((q_0 _).trans rfl) rfl ?_
    refine g_callV (kk := 0) ((q_0 _).trans rfl) (gHn m_0) rfl (by exact ⟨Nat.le_of_ble_eq_true rfl, rfl⟩) rfl (fun w G8 => gm_I (fun v9 hw => ?_))
    subst hw
    refine g_iload ((q_0 _).trans rfl) rfl ?_
    refine g_cmpeq ((q_0 _).trans rfl) (fun _ => ?_) (fun _ => ?_)
    · refine g_iload ((q_0 _).trans rfl) rfl ?_
      refine g_ifne ((q_0 _).trans rfl) (fun _ => ?_) (fun _ => ?_)
      · refine g_aload ((q_0 _).trans rfl) rfl ?_
        refine g_push ((q_0 _).trans rfl) ?_
        refine g_lald ((q_0 _).trans rfl) (fun j10 => ?_)
        refine g_iload ((q_0 _).trans rfl) rfl ?_
        refine g_i2l ((q_0 _).trans rfl) ?_
        refine g_lcmp ((q_0 _).trans rfl) ?_
        refine g_ifeq ((q_0 _).trans rfl) (fun _ => ?_) (fun _ => ?_)
        · refine g_goto ((q_0 _).trans rfl) ?_
          exact gle.rf _
        · refine g_push ((q_0 _).trans rfl) ?_
          exact g_zret ((q_0 _).trans rfl)
      · refine g_goto ((q_0 _).trans rfl) ?_
        exact gle.rf _
    · refine g_push ((q_0 _).trans rfl) ?_
      exact g_zret ((q_0 _).trans rfl)
noncomputable def t_0_1127_1 (K : gK) (d : Nat) (v2 : Int32) (l0 : Nat) (l1 : Nat) (l2 : Nat) (l3 : Nat) (l4 : Nat) (l5 : Int32) (l6 : Int32) (o8 : Option Value) (G3 : gH) (j5 : Int64) : Option gO := if (lg_cmp j5 ((v2).toInt64)) = 0 then (gRn K d 0 2545 [some (.ref l0), some (.ref l1), some (.ref l2), some (.ref l3), some (.ref l4), some (.int l5), some (.int l6), some (.int v2), o8] [] G3) else (if narrow .boolean (.int (0 : Int32)) = .int (0 : Int32) then some (.inl (some (.int (0 : Int32))), G3) else none)
noncomputable def t_0_1127_2 (K : gK) (d : Nat) (l6 : Int32) (l3 : Nat) (v2 : Int32) (l0 : Nat) (l1 : Nat) (l2 : Nat) (l4 : Nat) (l5 : Int32) (o8 : Option Value) (v4 : Int32) (G3 : gH) : Option gO := if v4 = l6 then (if l6 = 0 then (xJ G3 l3 (0 : Int32) (t_0_1127_1 K d v2 l0 l1 l2 l3 l4 l5 l6 o8 G3)) else (gRn K d 0 2545 [some (.ref l0), some (.ref l1), some (.ref l2), some (.ref l3), some (.ref l4), some (.int l5), some (.int l6), some (.int v2), o8] [] G3)) else (if narrow .boolean (.int (0 : Int32)) = .int (0 : Int32) then some (.inl (some (.int (0 : Int32))), G3) else none)
noncomputable def t_0_1127_3 (K : gK) (d : Nat) (l2 : Nat) (l6 : Int32) (l3 : Nat) (l0 : Nat) (l1 : Nat) (l4 : Nat) (l5 : Int32) (o8 : Option Value) (v2 : Int32) (G1 : gH) : Option gO := if g_cls G1 l2 = some 3 then (cI (gCa K d 5 [.ref l2] G1) (t_0_1127_2 K d l6 l3 v2 l0 l1 l2 l4 l5 o8)) else none
noncomputable def t_0_1127 (K : gK) (d : Nat) (l0 : Nat) (l1 : Nat) (l2 : Nat) (l3 : Nat) (l4 : Nat) (l5 : Int32) (l6 : Int32) (o7 : Option Value) (o8 : Option Value) (G : gH) : Option gO := if l0 = K.1.1 ∧ ¬ ((l5 + (1 : Int32)) < 0 ∨ K.1.2.1 ≤ ((l5 + (1 : Int32))).toNatClampNeg) then (if g_cls G l2 = some 3 then (cI (gCa K d 27 [.ref l2, .int (K.1.2.2 ((l5 + (1 : Int32))).toNatClampNeg)] G) (t_0_1127_3 K d l2 l6 l3 l0 l1 l4 l5 o8)) else none) else none
theorem e_0_1127 {K : gK} {d : Nat} {l0 : Nat} {l1 : Nat} {l2 : Nat} {l3 : Nat} {l4 : Nat} {l5 : Int32} {l6 : Int32} {o7 : Option Value} {o8 : Option Value} {G : gH} : gle (t_0_1127 K d l0 l1 l2 l3 l4 l5 l6 o7 o8 G) (gRn K d 0 1127 [some (.ref l0), some (.ref l1), some (.ref l2), some (.ref l3), some (.ref l4), some (.int l5), some (.int l6), o7, o8] [] G) := by
  unfold t_0_1127
  refine g_aload ((q_0 _).trans rfl) rfl ?_
  refine g_aload ((q_0 _).trans rfl) rfl ?_
  refine g_iload ((q_0 _).trans rfl) rfl ?_
  refine g_push ((q_0 _).trans rfl) ?_
  refine g_iadd ((q_0 _).trans rfl) ?_
  refine g_sld ((q_0 _).trans rfl) ?_
  refine g_callV (kk := 1) ((q_0 _).trans rfl) (gHn m_0) rfl (by exact ⟨Nat.le_of_ble_eq_true rfl, rfl⟩) rfl (fun w G1 => gm_I (fun v2 hw => ?_))
  subst hw
  refine g_istore ((q_0 _).trans rfl) ?_
  refine g_aload ((q_0 _).trans rfl) rfl ?_
  refine g_callV (kk := 0) ((q_0 _).trans rfl) (gHn m_0) rfl (by exact ⟨Nat.le_of_ble_eq_true rfl, rfl⟩) rfl (fun w G3 => gm_I (fun v4 hw => ?_))
  subst hw
  refine g_iload ((q_0 _).trans rfl) rfl ?_
  refine g_cmpeq ((q_0 _).trans rfl) (fun _ => ?_) (fun _ => ?_)
  · refine g_iload ((q_0 _).trans rfl) rfl ?_
    refine g_ifne ((q_0 _).trans rfl) (fun _ => ?_) (fun _ => ?_)
    · refine g_aload ((q_0 _).trans rfl) rfl ?_
      refine g_push ((q_0 _).trans rfl) ?_
      refine g_lald ((q_0 _).trans rfl) (fun j5 => ?_)
      refine g_iload ((q_0 _).trans rfl) rfl ?_
      refine g_i2l ((q_0 _).trans rfl) ?_
      refine g_lcmp ((q_0 _).trans rfl) ?_
      refine g_ifeq ((q_0 _).trans rfl) (fun _ => ?_) (fun _ => ?_)
      · refine g_goto ((q_0 _).trans rfl) ?_
        exact gle.rf _
      · refine g_push ((q_0 _).trans rfl) ?_
        exact g_zret ((q_0 _).trans rfl)
    · refine g_goto ((q_0 _).trans rfl) ?_
      exact gle.rf _
  · refine g_push ((q_0 _).trans rfl) ?_
    exact g_zret ((q_0 _).trans rfl)
noncomputable def t_0_1209_1 (K : gK) (d : Nat) (v2 : Int32) (l0 : Nat) (l1 : Nat) (l2 : Nat) (l3 : Nat) (l4 : Nat) (l5 : Int32) (l6 : Int32) (o8 : Option Value) (G3 : gH) (j5 : Int64) : Option gO := if (lg_cmp j5 ((v2).toInt64)) = 0 then (gRn K d 0 2545 [some (.ref l0), some (.ref l1), some (.ref l2), some (.ref l3), some (.ref l4), some (.int l5), some (.int l6), some (.int v2), o8] [] G3) else (if narrow .boolean (.int (0 : Int32)) = .int (0 : Int32) then some (.inl (some (.int (0 : Int32))), G3) else none)
noncomputable def t_0_1209_2 (K : gK) (d : Nat) (l6 : Int32) (l3 : Nat) (v2 : Int32) (l0 : Nat) (l1 : Nat) (l2 : Nat) (l4 : Nat) (l5 : Int32) (o8 : Option Value) (v4 : Int32) (G3 : gH) : Option gO := if v4 = l6 then (if l6 = 0 then (xJ G3 l3 (0 : Int32) (t_0_1209_1 K d v2 l0 l1 l2 l3 l4 l5 l6 o8 G3)) else (gRn K d 0 2545 [some (.ref l0), some (.ref l1), some (.ref l2), some (.ref l3), some (.ref l4), some (.int l5), some (.int l6), some (.int v2), o8] [] G3)) else (if narrow .boolean (.int (0 : Int32)) = .int (0 : Int32) then some (.inl (some (.int (0 : Int32))), G3) else none)
noncomputable def t_0_1209_3 (K : gK) (d : Nat) (l2 : Nat) (l6 : Int32) (l3 : Nat) (l0 : Nat) (l1 : Nat) (l4 : Nat) (l5 : Int32) (o8 : Option Value) (v2 : Int32) (G1 : gH) : Option gO := if g_cls G1 l2 = some 3 then (cI (gCa K d 5 [.ref l2] G1) (t_0_1209_2 K d l6 l3 v2 l0 l1 l2 l4 l5 o8)) else none
noncomputable def t_0_1209 (K : gK) (d : Nat) (l0 : Nat) (l1 : Nat) (l2 : Nat) (l3 : Nat) (l4 : Nat) (l5 : Int32) (l6 : Int32) (o7 : Option Value) (o8 : Option Value) (G : gH) : Option gO := if l0 = K.1.1 ∧ ¬ ((l5 + (1 : Int32)) < 0 ∨ K.1.2.1 ≤ ((l5 + (1 : Int32))).toNatClampNeg) then (if g_cls G l2 = some 3 then (cI (gCa K d 33 [.ref l2, .int (K.1.2.2 ((l5 + (1 : Int32))).toNatClampNeg)] G) (t_0_1209_3 K d l2 l6 l3 l0 l1 l4 l5 o8)) else none) else none
theorem e_0_1209 {K : gK} {d : Nat} {l0 : Nat} {l1 : Nat} {l2 : Nat} {l3 : Nat} {l4 : Nat} {l5 : Int32} {l6 : Int32} {o7 : Option Value} {o8 : Option Value} {G : gH} : gle (t_0_1209 K d l0 l1 l2 l3 l4 l5 l6 o7 o8 G) (gRn K d 0 1209 [some (.ref l0), some (.ref l1), some (.ref l2), some (.ref l3), some (.ref l4), some (.int l5), some (.int l6), o7, o8] [] G) := by
  unfold t_0_1209
  refine g_aload ((q_0 _).trans rfl) rfl ?_
  refine g_aload ((q_0 _).trans rfl) rfl ?_
  refine g_iload ((q_0 _).trans rfl) rfl ?_
  refine g_push ((q_0 _).trans rfl) ?_
  refine g_iadd ((q_0 _).trans rfl) ?_
  refine g_sld ((q_0 _).trans rfl) ?_
  refine g_callV (kk := 1) ((q_0 _).trans rfl) (gHn m_0) rfl (by exact ⟨Nat.le_of_ble_eq_true rfl, rfl⟩) rfl (fun w G1 => gm_I (fun v2 hw => ?_))
  subst hw
  refine g_istore ((q_0 _).trans rfl) ?_
  refine g_aload ((q_0 _).trans rfl) rfl ?_
  refine g_callV (kk := 0) ((q_0 _).trans rfl) (gHn m_0) rfl (by exact ⟨Nat.le_of_ble_eq_true rfl, rfl⟩) rfl (fun w G3 => gm_I (fun v4 hw => ?_))
  subst hw
  refine g_iload ((q_0 _).trans rfl) rfl ?_
  refine g_cmpeq ((q_0 _).trans rfl) (fun _ => ?_) (fun _ => ?_)
  · refine g_iload ((q_0 _).trans rfl) rfl ?_
    refine g_ifne ((q_0 _).trans rfl) (fun _ => ?_) (fun _ => ?_)
    · refine g_aload ((q_0 _).trans rfl) rfl ?_
      refine g_push ((q_0 _).trans rfl) ?_
      refine g_lald ((q_0 _).trans rfl) (fun j5 => ?_)
      refine g_iload ((q_0 _).trans rfl) rfl ?_
      refine g_i2l ((q_0 _).trans rfl) ?_
      refine g_lcmp ((q_0 _).trans rfl) ?_
      refine g_ifeq ((q_0 _).trans rfl) (fun _ => ?_) (fun _ => ?_)
      · refine g_goto ((q_0 _).trans rfl) ?_
        exact gle.rf _
      · refine g_push ((q_0 _).trans rfl) ?_
        exact g_zret ((q_0 _).trans rfl)
    · refine g_goto ((q_0 _).trans rfl) ?_
      exact gle.rf _
  · refine g_push ((q_0 _).trans rfl) ?_
    exact g_zret ((q_0 _).trans rfl)
noncomputable def t_0_1265_1 (K : gK) (d : Nat) (v2 : Int32) (l0 : Nat) (l1 : Nat) (l2 : Nat) (l3 : Nat) (l4 : Nat) (l5 : Int32) (l6 : Int32) (o8 : Option Value) (G3 : gH) (j5 : Int64) : Option gO := if (lg_cmp j5 ((v2).toInt64)) = 0 then (gRn K d 0 2545 [some (.ref l0), some (.ref l1), some (.ref l2), some (.ref l3), some (.ref l4), some (.int l5), some (.int l6), some (.int v2), o8] [] G3) else (if narrow .boolean (.int (0 : Int32)) = .int (0 : Int32) then some (.inl (some (.int (0 : Int32))), G3) else none)
noncomputable def t_0_1265_2 (K : gK) (d : Nat) (l6 : Int32) (l3 : Nat) (v2 : Int32) (l0 : Nat) (l1 : Nat) (l2 : Nat) (l4 : Nat) (l5 : Int32) (o8 : Option Value) (v4 : Int32) (G3 : gH) : Option gO := if v4 = l6 then (if l6 = 0 then (xJ G3 l3 (0 : Int32) (t_0_1265_1 K d v2 l0 l1 l2 l3 l4 l5 l6 o8 G3)) else (gRn K d 0 2545 [some (.ref l0), some (.ref l1), some (.ref l2), some (.ref l3), some (.ref l4), some (.int l5), some (.int l6), some (.int v2), o8] [] G3)) else (if narrow .boolean (.int (0 : Int32)) = .int (0 : Int32) then some (.inl (some (.int (0 : Int32))), G3) else none)
noncomputable def t_0_1265_3 (K : gK) (d : Nat) (l2 : Nat) (l6 : Int32) (l3 : Nat) (l0 : Nat) (l1 : Nat) (l4 : Nat) (l5 : Int32) (o8 : Option Value) (v2 : Int32) (G1 : gH) : Option gO := if g_cls G1 l2 = some 3 then (cI (gCa K d 5 [.ref l2] G1) (t_0_1265_2 K d l6 l3 v2 l0 l1 l2 l4 l5 o8)) else none
noncomputable def t_0_1265 (K : gK) (d : Nat) (l0 : Nat) (l1 : Nat) (l2 : Nat) (l3 : Nat) (l4 : Nat) (l5 : Int32) (l6 : Int32) (o7 : Option Value) (o8 : Option Value) (G : gH) : Option gO := if l0 = K.1.1 ∧ ¬ ((l5 + (1 : Int32)) < 0 ∨ K.1.2.1 ≤ ((l5 + (1 : Int32))).toNatClampNeg) then (if g_cls G l2 = some 3 then (cI (gCa K d 35 [.ref l2, .int (K.1.2.2 ((l5 + (1 : Int32))).toNatClampNeg)] G) (t_0_1265_3 K d l2 l6 l3 l0 l1 l4 l5 o8)) else none) else none
theorem e_0_1265 {K : gK} {d : Nat} {l0 : Nat} {l1 : Nat} {l2 : Nat} {l3 : Nat} {l4 : Nat} {l5 : Int32} {l6 : Int32} {o7 : Option Value} {o8 : Option Value} {G : gH} : gle (t_0_1265 K d l0 l1 l2 l3 l4 l5 l6 o7 o8 G) (gRn K d 0 1265 [some (.ref l0), some (.ref l1), some (.ref l2), some (.ref l3), some (.ref l4), some (.int l5), some (.int l6), o7, o8] [] G) := by
  unfold t_0_1265
  refine g_aload ((q_0 _).trans rfl) rfl ?_
  refine g_aload ((q_0 _).trans rfl) rfl ?_
  refine g_iload ((q_0 _).trans rfl) rfl ?_
  refine g_push ((q_0 _).trans rfl) ?_
  refine g_iadd ((q_0 _).trans rfl) ?_
  refine g_sld ((q_0 _).trans rfl) ?_
  refine g_callV (kk := 1) ((q_0 _).trans rfl) (gHn m_0) rfl (by exact ⟨Nat.le_of_ble_eq_true rfl, rfl⟩) rfl (fun w G1 => gm_I (fun v2 hw => ?_))
  subst hw
  refine g_istore ((q_0 _).trans rfl) ?_
  refine g_aload ((q_0 _).trans rfl) rfl ?_
  refine g_callV (kk := 0) ((q_0 _).trans rfl) (gHn m_0) rfl (by exact ⟨Nat.le_of_ble_eq_true rfl, rfl⟩) rfl (fun w G3 => gm_I (fun v4 hw => ?_))
  subst hw
  refine g_iload ((q_0 _).trans rfl) rfl ?_
  refine g_cmpeq ((q_0 _).trans rfl) (fun _ => ?_) (fun _ => ?_)
  · refine g_iload ((q_0 _).trans rfl) rfl ?_
    refine g_ifne ((q_0 _).trans rfl) (fun _ => ?_) (fun _ => ?_)
    · refine g_aload ((q_0 _).trans rfl) rfl ?_
      refine g_push ((q_0 _).trans rfl) ?_
      refine g_lald ((q_0 _).trans rfl) (fun j5 => ?_)
      refine g_iload ((q_0 _).trans rfl) rfl ?_
      refine g_i2l ((q_0 _).trans rfl) ?_
      refine g_lcmp ((q_0 _).trans rfl) ?_
      refine g_ifeq ((q_0 _).trans rfl) (fun _ => ?_) (fun _ => ?_)
      · refine g_goto ((q_0 _).trans rfl) ?_
        exact gle.rf _
      · refine g_push ((q_0 _).trans rfl) ?_
        exact g_zret ((q_0 _).trans rfl)
    · refine g_goto ((q_0 _).trans rfl) ?_
      exact gle.rf _
  · refine g_push ((q_0 _).trans rfl) ?_
    exact g_zret ((q_0 _).trans rfl)
noncomputable def t_0_1321_1 (K : gK) (d : Nat) (v2 : Int32) (l0 : Nat) (l1 : Nat) (l2 : Nat) (l3 : Nat) (l4 : Nat) (l5 : Int32) (l6 : Int32) (o8 : Option Value) (G3 : gH) (j5 : Int64) : Option gO := if (lg_cmp j5 ((v2).toInt64)) = 0 then (gRn K d 0 2545 [some (.ref l0), some (.ref l1), some (.ref l2), some (.ref l3), some (.ref l4), some (.int l5), some (.int l6), some (.int v2), o8] [] G3) else (if narrow .boolean (.int (0 : Int32)) = .int (0 : Int32) then some (.inl (some (.int (0 : Int32))), G3) else none)
noncomputable def t_0_1321_2 (K : gK) (d : Nat) (l6 : Int32) (l3 : Nat) (v2 : Int32) (l0 : Nat) (l1 : Nat) (l2 : Nat) (l4 : Nat) (l5 : Int32) (o8 : Option Value) (v4 : Int32) (G3 : gH) : Option gO := if v4 = l6 then (if l6 = 0 then (xJ G3 l3 (0 : Int32) (t_0_1321_1 K d v2 l0 l1 l2 l3 l4 l5 l6 o8 G3)) else (gRn K d 0 2545 [some (.ref l0), some (.ref l1), some (.ref l2), some (.ref l3), some (.ref l4), some (.int l5), some (.int l6), some (.int v2), o8] [] G3)) else (if narrow .boolean (.int (0 : Int32)) = .int (0 : Int32) then some (.inl (some (.int (0 : Int32))), G3) else none)
noncomputable def t_0_1321_3 (K : gK) (d : Nat) (l2 : Nat) (l6 : Int32) (l3 : Nat) (l0 : Nat) (l1 : Nat) (l4 : Nat) (l5 : Int32) (o8 : Option Value) (v2 : Int32) (G1 : gH) : Option gO := if g_cls G1 l2 = some 3 then (cI (gCa K d 5 [.ref l2] G1) (t_0_1321_2 K d l6 l3 v2 l0 l1 l2 l4 l5 o8)) else none
noncomputable def t_0_1321 (K : gK) (d : Nat) (l0 : Nat) (l1 : Nat) (l2 : Nat) (l3 : Nat) (l4 : Nat) (l5 : Int32) (l6 : Int32) (o7 : Option Value) (o8 : Option Value) (G : gH) : Option gO := if l0 = K.1.1 ∧ ¬ ((l5 + (1 : Int32)) < 0 ∨ K.1.2.1 ≤ ((l5 + (1 : Int32))).toNatClampNeg) then (if g_cls G l2 = some 3 then (cI (gCa K d 37 [.ref l2, .int (K.1.2.2 ((l5 + (1 : Int32))).toNatClampNeg)] G) (t_0_1321_3 K d l2 l6 l3 l0 l1 l4 l5 o8)) else none) else none
theorem e_0_1321 {K : gK} {d : Nat} {l0 : Nat} {l1 : Nat} {l2 : Nat} {l3 : Nat} {l4 : Nat} {l5 : Int32} {l6 : Int32} {o7 : Option Value} {o8 : Option Value} {G : gH} : gle (t_0_1321 K d l0 l1 l2 l3 l4 l5 l6 o7 o8 G) (gRn K d 0 1321 [some (.ref l0), some (.ref l1), some (.ref l2), some (.ref l3), some (.ref l4), some (.int l5), some (.int l6), o7, o8] [] G) := by
  unfold t_0_1321
  refine g_aload ((q_0 _).trans rfl) rfl ?_
  refine g_aload ((q_0 _).trans rfl) rfl ?_
  refine g_iload ((q_0 _).trans rfl) rfl ?_
  refine g_push ((q_0 _).trans rfl) ?_
  refine g_iadd ((q_0 _).trans rfl) ?_
  refine g_sld ((q_0 _).trans rfl) ?_
  refine g_callV (kk := 1) ((q_0 _).trans rfl) (gHn m_0) rfl (by exact ⟨Nat.le_of_ble_eq_true rfl, rfl⟩) rfl (fun w G1 => gm_I (fun v2 hw => ?_))
  subst hw
  refine g_istore ((q_0 _).trans rfl) ?_
  refine g_aload ((q_0 _).trans rfl) rfl ?_
  refine g_callV (kk := 0) ((q_0 _).trans rfl) (gHn m_0) rfl (by exact ⟨Nat.le_of_ble_eq_true rfl, rfl⟩) rfl (fun w G3 => gm_I (fun v4 hw => ?_))
  subst hw
  refine g_iload ((q_0 _).trans rfl) rfl ?_
  refine g_cmpeq ((q_0 _).trans rfl) (fun _ => ?_) (fun _ => ?_)
  · refine g_iload ((q_0 _).trans rfl) rfl ?_
    refine g_ifne ((q_0 _).trans rfl) (fun _ => ?_) (fun _ => ?_)
    · refine g_aload ((q_0 _).trans rfl) rfl ?_
      refine g_push ((q_0 _).trans rfl) ?_
      refine g_lald ((q_0 _).trans rfl) (fun j5 => ?_)
      refine g_iload ((q_0 _).trans rfl) rfl ?_
      refine g_i2l ((q_0 _).trans rfl) ?_
      refine g_lcmp ((q_0 _).trans rfl) ?_
      refine g_ifeq ((q_0 _).trans rfl) (fun _ => ?_) (fun _ => ?_)
      · refine g_goto ((q_0 _).trans rfl) ?_
        exact gle.rf _
      · refine g_push ((q_0 _).trans rfl) ?_
        exact g_zret ((q_0 _).trans rfl)
    · refine g_goto ((q_0 _).trans rfl) ?_
      exact gle.rf _
  · refine g_push ((q_0 _).trans rfl) ?_
    exact g_zret ((q_0 _).trans rfl)
noncomputable def t_0_1383_1 (K : gK) (d : Nat) (v2 : Int32) (l0 : Nat) (l1 : Nat) (l2 : Nat) (l3 : Nat) (l4 : Nat) (l5 : Int32) (l6 : Int32) (o8 : Option Value) (G3 : gH) (j5 : Int64) : Option gO := if (lg_cmp j5 ((v2).toInt64)) = 0 then (gRn K d 0 2545 [some (.ref l0), some (.ref l1), some (.ref l2), some (.ref l3), some (.ref l4), some (.int l5), some (.int l6), some (.int v2), o8] [] G3) else (if narrow .boolean (.int (0 : Int32)) = .int (0 : Int32) then some (.inl (some (.int (0 : Int32))), G3) else none)
noncomputable def t_0_1383_2 (K : gK) (d : Nat) (l6 : Int32) (l3 : Nat) (v2 : Int32) (l0 : Nat) (l1 : Nat) (l2 : Nat) (l4 : Nat) (l5 : Int32) (o8 : Option Value) (v4 : Int32) (G3 : gH) : Option gO := if v4 = l6 then (if l6 = 0 then (xJ G3 l3 (0 : Int32) (t_0_1383_1 K d v2 l0 l1 l2 l3 l4 l5 l6 o8 G3)) else (gRn K d 0 2545 [some (.ref l0), some (.ref l1), some (.ref l2), some (.ref l3), some (.ref l4), some (.int l5), some (.int l6), some (.int v2), o8] [] G3)) else (if narrow .boolean (.int (0 : Int32)) = .int (0 : Int32) then some (.inl (some (.int (0 : Int32))), G3) else none)
noncomputable def t_0_1383_3 (K : gK) (d : Nat) (l2 : Nat) (l6 : Int32) (l3 : Nat) (l0 : Nat) (l1 : Nat) (l4 : Nat) (l5 : Int32) (o8 : Option Value) (v2 : Int32) (G1 : gH) : Option gO := if g_cls G1 l2 = some 3 then (cI (gCa K d 5 [.ref l2] G1) (t_0_1383_2 K d l6 l3 v2 l0 l1 l2 l4 l5 o8)) else none
noncomputable def t_0_1383 (K : gK) (d : Nat) (l0 : Nat) (l1 : Nat) (l2 : Nat) (l3 : Nat) (l4 : Nat) (l5 : Int32) (l6 : Int32) (o7 : Option Value) (o8 : Option Value) (G : gH) : Option gO := if l0 = K.1.1 ∧ ¬ ((l5 + (1 : Int32)) < 0 ∨ K.1.2.1 ≤ ((l5 + (1 : Int32))).toNatClampNeg) then (if l0 = K.1.1 ∧ ¬ ((l5 + (2 : Int32)) < 0 ∨ K.1.2.1 ≤ ((l5 + (2 : Int32))).toNatClampNeg) then (if g_cls G l2 = some 3 then (cI (gCa K d 39 [.ref l2, .int (K.1.2.2 ((l5 + (1 : Int32))).toNatClampNeg), .int (K.1.2.2 ((l5 + (2 : Int32))).toNatClampNeg)] G) (t_0_1383_3 K d l2 l6 l3 l0 l1 l4 l5 o8)) else none) else none) else none
theorem e_0_1383 {K : gK} {d : Nat} {l0 : Nat} {l1 : Nat} {l2 : Nat} {l3 : Nat} {l4 : Nat} {l5 : Int32} {l6 : Int32} {o7 : Option Value} {o8 : Option Value} {G : gH} : gle (t_0_1383 K d l0 l1 l2 l3 l4 l5 l6 o7 o8 G) (gRn K d 0 1383 [some (.ref l0), some (.ref l1), some (.ref l2), some (.ref l3), some (.ref l4), some (.int l5), some (.int l6), o7, o8] [] G) := by
  unfold t_0_1383
  refine g_aload ((q_0 _).trans rfl) rfl ?_
  refine g_aload ((q_0 _).trans rfl) rfl ?_
  refine g_iload ((q_0 _).trans rfl) rfl ?_
  refine g_push ((q_0 _).trans rfl) ?_
  refine g_iadd ((q_0 _).trans rfl) ?_
  refine g_sld ((q_0 _).trans rfl) ?_
  refine g_aload ((q_0 _).trans rfl) rfl ?_
  refine g_iload ((q_0 _).trans rfl) rfl ?_
  refine g_push ((q_0 _).trans rfl) ?_
  refine g_iadd ((q_0 _).trans rfl) ?_
  refine g_sld ((q_0 _).trans rfl) ?_
  refine g_callV (kk := 2) ((q_0 _).trans rfl) (gHn m_0) rfl (by exact ⟨Nat.le_of_ble_eq_true rfl, rfl⟩) rfl (fun w G1 => gm_I (fun v2 hw => ?_))
  subst hw
  refine g_istore ((q_0 _).trans rfl) ?_
  refine g_aload ((q_0 _).trans rfl) rfl ?_
  refine g_callV (kk := 0) ((q_0 _).trans rfl) (gHn m_0) rfl (by exact ⟨Nat.le_of_ble_eq_true rfl, rfl⟩) rfl (fun w G3 => gm_I (fun v4 hw => ?_))
  subst hw
  refine g_iload ((q_0 _).trans rfl) rfl ?_
  refine g_cmpeq ((q_0 _).trans rfl) (fun _ => ?_) (fun _ => ?_)
  · refine g_iload ((q_0 _).trans rfl) rfl ?_
    refine g_ifne ((q_0 _).trans rfl) (fun _ => ?_) (fun _ => ?_)
    · refine g_aload ((q_0 _).trans rfl) rfl ?_
      refine g_push ((q_0 _).trans rfl) ?_
      refine g_lald ((q_0 _).trans rfl) (fun j5 => ?_)
      refine g_iload ((q_0 _).trans rfl) rfl ?_
      refine g_i2l ((q_0 _).trans rfl) ?_
      refine g_lcmp ((q_0 _).trans rfl) ?_
      refine g_ifeq ((q_0 _).trans rfl) (fun _ => ?_) (fun _ => ?_)
      · refine g_goto ((q_0 _).trans rfl) ?_
        exact gle.rf _
      · refine g_push ((q_0 _).trans rfl) ?_
        exact g_zret ((q_0 _).trans rfl)
    · refine g_goto ((q_0 _).trans rfl) ?_
      exact gle.rf _
  · refine g_push ((q_0 _).trans rfl) ?_
    exact g_zret ((q_0 _).trans rfl)
noncomputable def t_0_1451_1 (K : gK) (d : Nat) (v2 : Int32) (l0 : Nat) (l1 : Nat) (l2 : Nat) (l3 : Nat) (l4 : Nat) (l5 : Int32) (l6 : Int32) (o8 : Option Value) (G3 : gH) (j5 : Int64) : Option gO := if (lg_cmp j5 ((v2).toInt64)) = 0 then (gRn K d 0 2545 [some (.ref l0), some (.ref l1), some (.ref l2), some (.ref l3), some (.ref l4), some (.int l5), some (.int l6), some (.int v2), o8] [] G3) else (if narrow .boolean (.int (0 : Int32)) = .int (0 : Int32) then some (.inl (some (.int (0 : Int32))), G3) else none)
noncomputable def t_0_1451_2 (K : gK) (d : Nat) (l6 : Int32) (l3 : Nat) (v2 : Int32) (l0 : Nat) (l1 : Nat) (l2 : Nat) (l4 : Nat) (l5 : Int32) (o8 : Option Value) (v4 : Int32) (G3 : gH) : Option gO := if v4 = l6 then (if l6 = 0 then (xJ G3 l3 (0 : Int32) (t_0_1451_1 K d v2 l0 l1 l2 l3 l4 l5 l6 o8 G3)) else (gRn K d 0 2545 [some (.ref l0), some (.ref l1), some (.ref l2), some (.ref l3), some (.ref l4), some (.int l5), some (.int l6), some (.int v2), o8] [] G3)) else (if narrow .boolean (.int (0 : Int32)) = .int (0 : Int32) then some (.inl (some (.int (0 : Int32))), G3) else none)
noncomputable def t_0_1451_3 (K : gK) (d : Nat) (l2 : Nat) (l6 : Int32) (l3 : Nat) (l0 : Nat) (l1 : Nat) (l4 : Nat) (l5 : Int32) (o8 : Option Value) (v2 : Int32) (G1 : gH) : Option gO := if g_cls G1 l2 = some 3 then (cI (gCa K d 5 [.ref l2] G1) (t_0_1451_2 K d l6 l3 v2 l0 l1 l2 l4 l5 o8)) else none
noncomputable def t_0_1451 (K : gK) (d : Nat) (l0 : Nat) (l1 : Nat) (l2 : Nat) (l3 : Nat) (l4 : Nat) (l5 : Int32) (l6 : Int32) (o7 : Option Value) (o8 : Option Value) (G : gH) : Option gO := if l0 = K.1.1 ∧ ¬ ((l5 + (1 : Int32)) < 0 ∨ K.1.2.1 ≤ ((l5 + (1 : Int32))).toNatClampNeg) then (if l0 = K.1.1 ∧ ¬ ((l5 + (2 : Int32)) < 0 ∨ K.1.2.1 ≤ ((l5 + (2 : Int32))).toNatClampNeg) then (if g_cls G l2 = some 3 then (cI (gCa K d 41 [.ref l2, .int (K.1.2.2 ((l5 + (1 : Int32))).toNatClampNeg), .int (K.1.2.2 ((l5 + (2 : Int32))).toNatClampNeg)] G) (t_0_1451_3 K d l2 l6 l3 l0 l1 l4 l5 o8)) else none) else none) else none
theorem e_0_1451 {K : gK} {d : Nat} {l0 : Nat} {l1 : Nat} {l2 : Nat} {l3 : Nat} {l4 : Nat} {l5 : Int32} {l6 : Int32} {o7 : Option Value} {o8 : Option Value} {G : gH} : gle (t_0_1451 K d l0 l1 l2 l3 l4 l5 l6 o7 o8 G) (gRn K d 0 1451 [some (.ref l0), some (.ref l1), some (.ref l2), some (.ref l3), some (.ref l4), some (.int l5), some (.int l6), o7, o8] [] G) := by
  unfold t_0_1451
  refine g_aload ((q_0 _).trans rfl) rfl ?_
  refine g_aload ((q_0 _).trans rfl) rfl ?_
  refine g_iload ((q_0 _).trans rfl) rfl ?_
  refine g_push ((q_0 _).trans rfl) ?_
  refine g_iadd ((q_0 _).trans rfl) ?_
  refine g_sld ((q_0 _).trans rfl) ?_
  refine g_aload ((q_0 _).trans rfl) rfl ?_
  refine g_iload ((q_0 _).trans rfl) rfl ?_
  refine g_push ((q_0 _).trans rfl) ?_
  refine g_iadd ((q_0 _).trans rfl) ?_
  refine g_sld ((q_0 _).trans rfl) ?_
  refine g_callV (kk := 2) ((q_0 _).trans rfl) (gHn m_0) rfl (by exact ⟨Nat.le_of_ble_eq_true rfl, rfl⟩) rfl (fun w G1 => gm_I (fun v2 hw => ?_))
  subst hw
  refine g_istore ((q_0 _).trans rfl) ?_
  refine g_aload ((q_0 _).trans rfl) rfl ?_
  refine g_callV (kk := 0) ((q_0 _).trans rfl) (gHn m_0) rfl (by exact ⟨Nat.le_of_ble_eq_true rfl, rfl⟩) rfl (fun w G3 => gm_I (fun v4 hw => ?_))
  subst hw
  refine g_iload ((q_0 _).trans rfl) rfl ?_
  refine g_cmpeq ((q_0 _).trans rfl) (fun _ => ?_) (fun _ => ?_)
  · refine g_iload ((q_0 _).trans rfl) rfl ?_
    refine g_ifne ((q_0 _).trans rfl) (fun _ => ?_) (fun _ => ?_)
    · refine g_aload ((q_0 _).trans rfl) rfl ?_
      refine g_push ((q_0 _).trans rfl) ?_
      refine g_lald ((q_0 _).trans rfl) (fun j5 => ?_)
      refine g_iload ((q_0 _).trans rfl) rfl ?_
      refine g_i2l ((q_0 _).trans rfl) ?_
      refine g_lcmp ((q_0 _).trans rfl) ?_
      refine g_ifeq ((q_0 _).trans rfl) (fun _ => ?_) (fun _ => ?_)
      · refine g_goto ((q_0 _).trans rfl) ?_
        exact gle.rf _
      · refine g_push ((q_0 _).trans rfl) ?_
        exact g_zret ((q_0 _).trans rfl)
    · refine g_goto ((q_0 _).trans rfl) ?_
      exact gle.rf _
  · refine g_push ((q_0 _).trans rfl) ?_
    exact g_zret ((q_0 _).trans rfl)
noncomputable def t_0_1539_1 (K : gK) (d : Nat) (v2 : Int32) (l0 : Nat) (l1 : Nat) (l2 : Nat) (l3 : Nat) (l4 : Nat) (l5 : Int32) (l6 : Int32) (o8 : Option Value) (G3 : gH) (j5 : Int64) : Option gO := if (lg_cmp j5 ((v2).toInt64)) = 0 then (gRn K d 0 2545 [some (.ref l0), some (.ref l1), some (.ref l2), some (.ref l3), some (.ref l4), some (.int l5), some (.int l6), some (.int v2), o8] [] G3) else (if narrow .boolean (.int (0 : Int32)) = .int (0 : Int32) then some (.inl (some (.int (0 : Int32))), G3) else none)
noncomputable def t_0_1539_2 (K : gK) (d : Nat) (l6 : Int32) (l3 : Nat) (v2 : Int32) (l0 : Nat) (l1 : Nat) (l2 : Nat) (l4 : Nat) (l5 : Int32) (o8 : Option Value) (v4 : Int32) (G3 : gH) : Option gO := if v4 = l6 then (if l6 = 0 then (xJ G3 l3 (0 : Int32) (t_0_1539_1 K d v2 l0 l1 l2 l3 l4 l5 l6 o8 G3)) else (gRn K d 0 2545 [some (.ref l0), some (.ref l1), some (.ref l2), some (.ref l3), some (.ref l4), some (.int l5), some (.int l6), some (.int v2), o8] [] G3)) else (if narrow .boolean (.int (0 : Int32)) = .int (0 : Int32) then some (.inl (some (.int (0 : Int32))), G3) else none)
noncomputable def t_0_1539_3 (K : gK) (d : Nat) (l2 : Nat) (l6 : Int32) (l3 : Nat) (l0 : Nat) (l1 : Nat) (l4 : Nat) (l5 : Int32) (o8 : Option Value) (v2 : Int32) (G1 : gH) : Option gO := if g_cls G1 l2 = some 3 then (cI (gCa K d 5 [.ref l2] G1) (t_0_1539_2 K d l6 l3 v2 l0 l1 l2 l4 l5 o8)) else none
noncomputable def t_0_1539 (K : gK) (d : Nat) (l0 : Nat) (l1 : Nat) (l2 : Nat) (l3 : Nat) (l4 : Nat) (l5 : Int32) (l6 : Int32) (o7 : Option Value) (o8 : Option Value) (G : gH) : Option gO := if l0 = K.1.1 ∧ ¬ ((l5 + (1 : Int32)) < 0 ∨ K.1.2.1 ≤ ((l5 + (1 : Int32))).toNatClampNeg) then (if g_cls G l2 = some 3 then (cI (gCa K d 47 [.ref l2, .int (K.1.2.2 ((l5 + (1 : Int32))).toNatClampNeg)] G) (t_0_1539_3 K d l2 l6 l3 l0 l1 l4 l5 o8)) else none) else none
theorem e_0_1539 {K : gK} {d : Nat} {l0 : Nat} {l1 : Nat} {l2 : Nat} {l3 : Nat} {l4 : Nat} {l5 : Int32} {l6 : Int32} {o7 : Option Value} {o8 : Option Value} {G : gH} : gle (t_0_1539 K d l0 l1 l2 l3 l4 l5 l6 o7 o8 G) (gRn K d 0 1539 [some (.ref l0), some (.ref l1), some (.ref l2), some (.ref l3), some (.ref l4), some (.int l5), some (.int l6), o7, o8] [] G) := by
  unfold t_0_1539
  refine g_aload ((q_0 _).trans rfl) rfl ?_
  refine g_aload ((q_0 _).trans rfl) rfl ?_
  refine g_iload ((q_0 _).trans rfl) rfl ?_
  refine g_push ((q_0 _).trans rfl) ?_
  refine g_iadd ((q_0 _).trans rfl) ?_
  refine g_sld ((q_0 _).trans rfl) ?_
  refine g_callV (kk := 1) ((q_0 _).trans rfl) (gHn m_0) rfl (by exact ⟨Nat.le_of_ble_eq_true rfl, rfl⟩) rfl (fun w G1 => gm_I (fun v2 hw => ?_))
  subst hw
  refine g_istore ((q_0 _).trans rfl) ?_
  refine g_aload ((q_0 _).trans rfl) rfl ?_
  refine g_callV (kk := 0) ((q_0 _).trans rfl) (gHn m_0) rfl (by exact ⟨Nat.le_of_ble_eq_true rfl, rfl⟩) rfl (fun w G3 => gm_I (fun v4 hw => ?_))
  subst hw
  refine g_iload ((q_0 _).trans rfl) rfl ?_
  refine g_cmpeq ((q_0 _).trans rfl) (fun _ => ?_) (fun _ => ?_)
  · refine g_iload ((q_0 _).trans rfl) rfl ?_
    refine g_ifne ((q_0 _).trans rfl) (fun _ => ?_) (fun _ => ?_)
    · refine g_aload ((q_0 _).trans rfl) rfl ?_
      refine g_push ((q_0 _).trans rfl) ?_
      refine g_lald ((q_0 _).trans rfl) (fun j5 => ?_)
      refine g_iload ((q_0 _).trans rfl) rfl ?_
      refine g_i2l ((q_0 _).trans rfl) ?_
      refine g_lcmp ((q_0 _).trans rfl) ?_
      refine g_ifeq ((q_0 _).trans rfl) (fun _ => ?_) (fun _ => ?_)
      · refine g_goto ((q_0 _).trans rfl) ?_
        exact gle.rf _
      · refine g_push ((q_0 _).trans rfl) ?_
        exact g_zret ((q_0 _).trans rfl)
    · refine g_goto ((q_0 _).trans rfl) ?_
      exact gle.rf _
  · refine g_push ((q_0 _).trans rfl) ?_
    exact g_zret ((q_0 _).trans rfl)
noncomputable def t_0_1589_1 (K : gK) (d : Nat) (v2 : Int32) (l0 : Nat) (l1 : Nat) (l2 : Nat) (l3 : Nat) (l4 : Nat) (l5 : Int32) (l6 : Int32) (o8 : Option Value) (G3 : gH) (j5 : Int64) : Option gO := if (lg_cmp j5 ((v2).toInt64)) = 0 then (gRn K d 0 2545 [some (.ref l0), some (.ref l1), some (.ref l2), some (.ref l3), some (.ref l4), some (.int l5), some (.int l6), some (.int v2), o8] [] G3) else (if narrow .boolean (.int (0 : Int32)) = .int (0 : Int32) then some (.inl (some (.int (0 : Int32))), G3) else none)
noncomputable def t_0_1589_2 (K : gK) (d : Nat) (l6 : Int32) (l3 : Nat) (v2 : Int32) (l0 : Nat) (l1 : Nat) (l2 : Nat) (l4 : Nat) (l5 : Int32) (o8 : Option Value) (v4 : Int32) (G3 : gH) : Option gO := if v4 = l6 then (if l6 = 0 then (xJ G3 l3 (0 : Int32) (t_0_1589_1 K d v2 l0 l1 l2 l3 l4 l5 l6 o8 G3)) else (gRn K d 0 2545 [some (.ref l0), some (.ref l1), some (.ref l2), some (.ref l3), some (.ref l4), some (.int l5), some (.int l6), some (.int v2), o8] [] G3)) else (if narrow .boolean (.int (0 : Int32)) = .int (0 : Int32) then some (.inl (some (.int (0 : Int32))), G3) else none)
noncomputable def t_0_1589_3 (K : gK) (d : Nat) (l2 : Nat) (l6 : Int32) (l3 : Nat) (l0 : Nat) (l1 : Nat) (l4 : Nat) (l5 : Int32) (o8 : Option Value) (v2 : Int32) (G1 : gH) : Option gO := if g_cls G1 l2 = some 3 then (cI (gCa K d 5 [.ref l2] G1) (t_0_1589_2 K d l6 l3 v2 l0 l1 l2 l4 l5 o8)) else none
noncomputable def t_0_1589 (K : gK) (d : Nat) (l0 : Nat) (l1 : Nat) (l2 : Nat) (l3 : Nat) (l4 : Nat) (l5 : Int32) (l6 : Int32) (o7 : Option Value) (o8 : Option Value) (G : gH) : Option gO := if g_cls G l2 = some 3 then (cI (gCa K d 49 [.ref l2] G) (t_0_1589_3 K d l2 l6 l3 l0 l1 l4 l5 o8)) else none
theorem e_0_1589 {K : gK} {d : Nat} {l0 : Nat} {l1 : Nat} {l2 : Nat} {l3 : Nat} {l4 : Nat} {l5 : Int32} {l6 : Int32} {o7 : Option Value} {o8 : Option Value} {G : gH} : gle (t_0_1589 K d l0 l1 l2 l3 l4 l5 l6 o7 o8 G) (gRn K d 0 1589 [some (.ref l0), some (.ref l1), some (.ref l2), some (.ref l3), some (.ref l4), some (.int l5), some (.int l6), o7, o8] [] G) := by
  unfold t_0_1589
  refine g_aload ((q_0 _).trans rfl) rfl ?_
  refine g_callV (kk := 0) ((q_0 _).trans rfl) (gHn m_0) rfl (by exact ⟨Nat.le_of_ble_eq_true rfl, rfl⟩) rfl (fun w G1 => gm_I (fun v2 hw => ?_))
  subst hw
  refine g_istore ((q_0 _).trans rfl) ?_
  refine g_aload ((q_0 _).trans rfl) rfl ?_
  refine g_callV (kk := 0) ((q_0 _).trans rfl) (gHn m_0) rfl (by exact ⟨Nat.le_of_ble_eq_true rfl, rfl⟩) rfl (fun w G3 => gm_I (fun v4 hw => ?_))
  subst hw
  refine g_iload ((q_0 _).trans rfl) rfl ?_
  refine g_cmpeq ((q_0 _).trans rfl) (fun _ => ?_) (fun _ => ?_)
  · refine g_iload ((q_0 _).trans rfl) rfl ?_
    refine g_ifne ((q_0 _).trans rfl) (fun _ => ?_) (fun _ => ?_)
    · refine g_aload ((q_0 _).trans rfl) rfl ?_
      refine g_push ((q_0 _).trans rfl) ?_
      refine g_lald ((q_0 _).trans rfl) (fun j5 => ?_)
      refine g_iload ((q_0 _).trans rfl) rfl ?_
      refine g_i2l ((q_0 _).trans rfl) ?_
      refine g_lcmp ((q_0 _).trans rfl) ?_
      refine g_ifeq ((q_0 _).trans rfl) (fun _ => ?_) (fun _ => ?_)
      · refine g_goto ((q_0 _).trans rfl) ?_
        exact gle.rf _
      · refine g_push ((q_0 _).trans rfl) ?_
        exact g_zret ((q_0 _).trans rfl)
    · refine g_goto ((q_0 _).trans rfl) ?_
      exact gle.rf _
  · refine g_push ((q_0 _).trans rfl) ?_
    exact g_zret ((q_0 _).trans rfl)
noncomputable def t_0_1651_1 (K : gK) (d : Nat) (v2 : Int32) (l0 : Nat) (l1 : Nat) (l2 : Nat) (l3 : Nat) (l4 : Nat) (l5 : Int32) (l6 : Int32) (o8 : Option Value) (G3 : gH) (j5 : Int64) : Option gO := if (lg_cmp j5 ((v2).toInt64)) = 0 then (gRn K d 0 2545 [some (.ref l0), some (.ref l1), some (.ref l2), some (.ref l3), some (.ref l4), some (.int l5), some (.int l6), some (.int v2), o8] [] G3) else (if narrow .boolean (.int (0 : Int32)) = .int (0 : Int32) then some (.inl (some (.int (0 : Int32))), G3) else none)
noncomputable def t_0_1651_2 (K : gK) (d : Nat) (l6 : Int32) (l3 : Nat) (v2 : Int32) (l0 : Nat) (l1 : Nat) (l2 : Nat) (l4 : Nat) (l5 : Int32) (o8 : Option Value) (v4 : Int32) (G3 : gH) : Option gO := if v4 = l6 then (if l6 = 0 then (xJ G3 l3 (0 : Int32) (t_0_1651_1 K d v2 l0 l1 l2 l3 l4 l5 l6 o8 G3)) else (gRn K d 0 2545 [some (.ref l0), some (.ref l1), some (.ref l2), some (.ref l3), some (.ref l4), some (.int l5), some (.int l6), some (.int v2), o8] [] G3)) else (if narrow .boolean (.int (0 : Int32)) = .int (0 : Int32) then some (.inl (some (.int (0 : Int32))), G3) else none)
noncomputable def t_0_1651_3 (K : gK) (d : Nat) (l2 : Nat) (l6 : Int32) (l3 : Nat) (l0 : Nat) (l1 : Nat) (l4 : Nat) (l5 : Int32) (o8 : Option Value) (v2 : Int32) (G1 : gH) : Option gO := if g_cls G1 l2 = some 3 then (cI (gCa K d 5 [.ref l2] G1) (t_0_1651_2 K d l6 l3 v2 l0 l1 l2 l4 l5 o8)) else none
noncomputable def t_0_1651 (K : gK) (d : Nat) (l0 : Nat) (l1 : Nat) (l2 : Nat) (l3 : Nat) (l4 : Nat) (l5 : Int32) (l6 : Int32) (o7 : Option Value) (o8 : Option Value) (G : gH) : Option gO := if l0 = K.1.1 ∧ ¬ ((l5 + (1 : Int32)) < 0 ∨ K.1.2.1 ≤ ((l5 + (1 : Int32))).toNatClampNeg) then (if l0 = K.1.1 ∧ ¬ ((l5 + (2 : Int32)) < 0 ∨ K.1.2.1 ≤ ((l5 + (2 : Int32))).toNatClampNeg) then (if l0 = K.1.1 ∧ ¬ ((l5 + (3 : Int32)) < 0 ∨ K.1.2.1 ≤ ((l5 + (3 : Int32))).toNatClampNeg) then (if g_cls G l2 = some 3 then (cI (gCa K d 51 [.ref l2, .int (K.1.2.2 ((l5 + (1 : Int32))).toNatClampNeg), .int (K.1.2.2 ((l5 + (2 : Int32))).toNatClampNeg), .int (K.1.2.2 ((l5 + (3 : Int32))).toNatClampNeg)] G) (t_0_1651_3 K d l2 l6 l3 l0 l1 l4 l5 o8)) else none) else none) else none) else none
theorem e_0_1651 {K : gK} {d : Nat} {l0 : Nat} {l1 : Nat} {l2 : Nat} {l3 : Nat} {l4 : Nat} {l5 : Int32} {l6 : Int32} {o7 : Option Value} {o8 : Option Value} {G : gH} : gle (t_0_1651 K d l0 l1 l2 l3 l4 l5 l6 o7 o8 G) (gRn K d 0 1651 [some (.ref l0), some (.ref l1), some (.ref l2), some (.ref l3), some (.ref l4), some (.int l5), some (.int l6), o7, o8] [] G) := by
  unfold t_0_1651
  refine g_aload ((q_0 _).trans rfl) rfl ?_
  refine g_aload ((q_0 _).trans rfl) rfl ?_
  refine g_iload ((q_0 _).trans rfl) rfl ?_
  refine g_push ((q_0 _).trans rfl) ?_
  refine g_iadd ((q_0 _).trans rfl) ?_
  refine g_sld ((q_0 _).trans rfl) ?_
  refine g_aload ((q_0 _).trans rfl) rfl ?_
  refine g_iload ((q_0 _).trans rfl) rfl ?_
  refine g_push ((q_0 _).trans rfl) ?_
  refine g_iadd ((q_0 _).trans rfl) ?_
  refine g_sld ((q_0 _).trans rfl) ?_
  refine g_aload ((q_0 _).trans rfl) rfl ?_
  refine g_iload ((q_0 _).trans rfl) rfl ?_
  refine g_push ((q_0 _).trans rfl) ?_
  refine g_iadd ((q_0 _).trans rfl) ?_
  refine g_sld ((q_0 _).trans rfl) ?_
  refine g_callV (kk := 3) ((q_0 _).trans rfl) (gHn m_0) rfl (by exact ⟨Nat.le_of_ble_eq_true rfl, rfl⟩) rfl (fun w G1 => gm_I (fun v2 hw => ?_))
  subst hw
  refine g_istore ((q_0 _).trans rfl) ?_
  refine g_aload ((q_0 _).trans rfl) rfl ?_
  refine g_callV (kk := 0) ((q_0 _).trans rfl) (gHn m_0) rfl (by exact ⟨Nat.le_of_ble_eq_true rfl, rfl⟩) rfl (fun w G3 => gm_I (fun v4 hw => ?_))
  subst hw
  refine g_iload ((q_0 _).trans rfl) rfl ?_
  refine g_cmpeq ((q_0 _).trans rfl) (fun _ => ?_) (fun _ => ?_)
  · refine g_iload ((q_0 _).trans rfl) rfl ?_
    refine g_ifne ((q_0 _).trans rfl) (fun _ => ?_) (fun _ => ?_)
    · refine g_aload ((q_0 _).trans rfl) rfl ?_
      refine g_push ((q_0 _).trans rfl) ?_
      refine g_lald ((q_0 _).trans rfl) (fun j5 => ?_)
      refine g_iload ((q_0 _).trans rfl) rfl ?_
      refine g_i2l ((q_0 _).trans rfl) ?_
      refine g_lcmp ((q_0 _).trans rfl) ?_
      refine g_ifeq ((q_0 _).trans rfl) (fun _ => ?_) (fun _ => ?_)
      · refine g_goto ((q_0 _).trans rfl) ?_
        exact gle.rf _
      · refine g_push ((q_0 _).trans rfl) ?_
        exact g_zret ((q_0 _).trans rfl)
    · refine g_goto ((q_0 _).trans rfl) ?_
      exact gle.rf _
  · refine g_push ((q_0 _).trans rfl) ?_
    exact g_zret ((q_0 _).trans rfl)
noncomputable def t_0_1719_1 (K : gK) (d : Nat) (v2 : Int32) (l0 : Nat) (l1 : Nat) (l2 : Nat) (l3 : Nat) (l4 : Nat) (l5 : Int32) (l6 : Int32) (o8 : Option Value) (G3 : gH) (j5 : Int64) : Option gO := if (lg_cmp j5 ((v2).toInt64)) = 0 then (gRn K d 0 2545 [some (.ref l0), some (.ref l1), some (.ref l2), some (.ref l3), some (.ref l4), some (.int l5), some (.int l6), some (.int v2), o8] [] G3) else (if narrow .boolean (.int (0 : Int32)) = .int (0 : Int32) then some (.inl (some (.int (0 : Int32))), G3) else none)
noncomputable def t_0_1719_2 (K : gK) (d : Nat) (l6 : Int32) (l3 : Nat) (v2 : Int32) (l0 : Nat) (l1 : Nat) (l2 : Nat) (l4 : Nat) (l5 : Int32) (o8 : Option Value) (v4 : Int32) (G3 : gH) : Option gO := if v4 = l6 then (if l6 = 0 then (xJ G3 l3 (0 : Int32) (t_0_1719_1 K d v2 l0 l1 l2 l3 l4 l5 l6 o8 G3)) else (gRn K d 0 2545 [some (.ref l0), some (.ref l1), some (.ref l2), some (.ref l3), some (.ref l4), some (.int l5), some (.int l6), some (.int v2), o8] [] G3)) else (if narrow .boolean (.int (0 : Int32)) = .int (0 : Int32) then some (.inl (some (.int (0 : Int32))), G3) else none)
noncomputable def t_0_1719_3 (K : gK) (d : Nat) (l2 : Nat) (l6 : Int32) (l3 : Nat) (l0 : Nat) (l1 : Nat) (l4 : Nat) (l5 : Int32) (o8 : Option Value) (v2 : Int32) (G1 : gH) : Option gO := if g_cls G1 l2 = some 3 then (cI (gCa K d 5 [.ref l2] G1) (t_0_1719_2 K d l6 l3 v2 l0 l1 l2 l4 l5 o8)) else none
noncomputable def t_0_1719 (K : gK) (d : Nat) (l0 : Nat) (l1 : Nat) (l2 : Nat) (l3 : Nat) (l4 : Nat) (l5 : Int32) (l6 : Int32) (o7 : Option Value) (o8 : Option Value) (G : gH) : Option gO := if l0 = K.1.1 ∧ ¬ ((l5 + (1 : Int32)) < 0 ∨ K.1.2.1 ≤ ((l5 + (1 : Int32))).toNatClampNeg) then (if g_cls G l2 = some 3 then (cI (gCa K d 53 [.ref l2, .int (K.1.2.2 ((l5 + (1 : Int32))).toNatClampNeg)] G) (t_0_1719_3 K d l2 l6 l3 l0 l1 l4 l5 o8)) else none) else none
theorem e_0_1719 {K : gK} {d : Nat} {l0 : Nat} {l1 : Nat} {l2 : Nat} {l3 : Nat} {l4 : Nat} {l5 : Int32} {l6 : Int32} {o7 : Option Value} {o8 : Option Value} {G : gH} : gle (t_0_1719 K d l0 l1 l2 l3 l4 l5 l6 o7 o8 G) (gRn K d 0 1719 [some (.ref l0), some (.ref l1), some (.ref l2), some (.ref l3), some (.ref l4), some (.int l5), some (.int l6), o7, o8] [] G) := by
  unfold t_0_1719
  refine g_aload ((q_0 _).trans rfl) rfl ?_
  refine g_aload ((q_0 _).trans rfl) rfl ?_
  refine g_iload ((q_0 _).trans rfl) rfl ?_
  refine g_push ((q_0 _).trans rfl) ?_
  refine g_iadd ((q_0 _).trans rfl) ?_
  refine g_sld ((q_0 _).trans rfl) ?_
  refine g_callV (kk := 1) ((q_0 _).trans rfl) (gHn m_0) rfl (by exact ⟨Nat.le_of_ble_eq_true rfl, rfl⟩) rfl (fun w G1 => gm_I (fun v2 hw => ?_))
  subst hw
  refine g_istore ((q_0 _).trans rfl) ?_
  refine g_aload ((q_0 _).trans rfl) rfl ?_
  refine g_callV (kk := 0) ((q_0 _).trans rfl) (gHn m_0) rfl (by exact ⟨Nat.le_of_ble_eq_true rfl, rfl⟩) rfl (fun w G3 => gm_I (fun v4 hw => ?_))
  subst hw
  refine g_iload ((q_0 _).trans rfl) rfl ?_
  refine g_cmpeq ((q_0 _).trans rfl) (fun _ => ?_) (fun _ => ?_)
  · refine g_iload ((q_0 _).trans rfl) rfl ?_
    refine g_ifne ((q_0 _).trans rfl) (fun _ => ?_) (fun _ => ?_)
    · refine g_aload ((q_0 _).trans rfl) rfl ?_
      refine g_push ((q_0 _).trans rfl) ?_
      refine g_lald ((q_0 _).trans rfl) (fun j5 => ?_)
      refine g_iload ((q_0 _).trans rfl) rfl ?_
      refine g_i2l ((q_0 _).trans rfl) ?_
      refine g_lcmp ((q_0 _).trans rfl) ?_
      refine g_ifeq ((q_0 _).trans rfl) (fun _ => ?_) (fun _ => ?_)
      · refine g_goto ((q_0 _).trans rfl) ?_
        exact gle.rf _
      · refine g_push ((q_0 _).trans rfl) ?_
        exact g_zret ((q_0 _).trans rfl)
    · refine g_goto ((q_0 _).trans rfl) ?_
      exact gle.rf _
  · refine g_push ((q_0 _).trans rfl) ?_
    exact g_zret ((q_0 _).trans rfl)
noncomputable def t_0_1775_1 (K : gK) (d : Nat) (v2 : Int32) (l0 : Nat) (l1 : Nat) (l2 : Nat) (l3 : Nat) (l4 : Nat) (l5 : Int32) (l6 : Int32) (o8 : Option Value) (G3 : gH) (j5 : Int64) : Option gO := if (lg_cmp j5 ((v2).toInt64)) = 0 then (gRn K d 0 2545 [some (.ref l0), some (.ref l1), some (.ref l2), some (.ref l3), some (.ref l4), some (.int l5), some (.int l6), some (.int v2), o8] [] G3) else (if narrow .boolean (.int (0 : Int32)) = .int (0 : Int32) then some (.inl (some (.int (0 : Int32))), G3) else none)
noncomputable def t_0_1775_2 (K : gK) (d : Nat) (l6 : Int32) (l3 : Nat) (v2 : Int32) (l0 : Nat) (l1 : Nat) (l2 : Nat) (l4 : Nat) (l5 : Int32) (o8 : Option Value) (v4 : Int32) (G3 : gH) : Option gO := if v4 = l6 then (if l6 = 0 then (xJ G3 l3 (0 : Int32) (t_0_1775_1 K d v2 l0 l1 l2 l3 l4 l5 l6 o8 G3)) else (gRn K d 0 2545 [some (.ref l0), some (.ref l1), some (.ref l2), some (.ref l3), some (.ref l4), some (.int l5), some (.int l6), some (.int v2), o8] [] G3)) else (if narrow .boolean (.int (0 : Int32)) = .int (0 : Int32) then some (.inl (some (.int (0 : Int32))), G3) else none)
noncomputable def t_0_1775_3 (K : gK) (d : Nat) (l2 : Nat) (l6 : Int32) (l3 : Nat) (l0 : Nat) (l1 : Nat) (l4 : Nat) (l5 : Int32) (o8 : Option Value) (v2 : Int32) (G1 : gH) : Option gO := if g_cls G1 l2 = some 3 then (cI (gCa K d 5 [.ref l2] G1) (t_0_1775_2 K d l6 l3 v2 l0 l1 l2 l4 l5 o8)) else none
noncomputable def t_0_1775 (K : gK) (d : Nat) (l0 : Nat) (l1 : Nat) (l2 : Nat) (l3 : Nat) (l4 : Nat) (l5 : Int32) (l6 : Int32) (o7 : Option Value) (o8 : Option Value) (G : gH) : Option gO := if l0 = K.1.1 ∧ ¬ ((l5 + (1 : Int32)) < 0 ∨ K.1.2.1 ≤ ((l5 + (1 : Int32))).toNatClampNeg) then (if g_cls G l2 = some 3 then (cI (gCa K d 55 [.ref l2, .int (K.1.2.2 ((l5 + (1 : Int32))).toNatClampNeg)] G) (t_0_1775_3 K d l2 l6 l3 l0 l1 l4 l5 o8)) else none) else none
theorem e_0_1775 {K : gK} {d : Nat} {l0 : Nat} {l1 : Nat} {l2 : Nat} {l3 : Nat} {l4 : Nat} {l5 : Int32} {l6 : Int32} {o7 : Option Value} {o8 : Option Value} {G : gH} : gle (t_0_1775 K d l0 l1 l2 l3 l4 l5 l6 o7 o8 G) (gRn K d 0 1775 [some (.ref l0), some (.ref l1), some (.ref l2), some (.ref l3), some (.ref l4), some (.int l5), some (.int l6), o7, o8] [] G) := by
  unfold t_0_1775
  refine g_aload ((q_0 _).trans rfl) rfl ?_
  refine g_aload ((q_0 _).trans rfl) rfl ?_
  refine g_iload ((q_0 _).trans rfl) rfl ?_
  refine g_push ((q_0 _).trans rfl) ?_
  refine g_iadd ((q_0 _).trans rfl) ?_
  refine g_sld ((q_0 _).trans rfl) ?_
  refine g_callV (kk := 1) ((q_0 _).trans rfl) (gHn m_0) rfl (by exact ⟨Nat.le_of_ble_eq_true rfl, rfl⟩) rfl (fun w G1 => gm_I (fun v2 hw => ?_))
  subst hw
  refine g_istore ((q_0 _).trans rfl) ?_
  refine g_aload ((q_0 _).trans rfl) rfl ?_
  refine g_callV (kk := 0) ((q_0 _).trans rfl) (gHn m_0) rfl (by exact ⟨Nat.le_of_ble_eq_true rfl, rfl⟩) rfl (fun w G3 => gm_I (fun v4 hw => ?_))
  subst hw
  refine g_iload ((q_0 _).trans rfl) rfl ?_
  refine g_cmpeq ((q_0 _).trans rfl) (fun _ => ?_) (fun _ => ?_)
  · refine g_iload ((q_0 _).trans rfl) rfl ?_
    refine g_ifne ((q_0 _).trans rfl) (fun _ => ?_) (fun _ => ?_)
    · refine g_aload ((q_0 _).trans rfl) rfl ?_
      refine g_push ((q_0 _).trans rfl) ?_
      refine g_lald ((q_0 _).trans rfl) (fun j5 => ?_)
      refine g_iload ((q_0 _).trans rfl) rfl ?_
      refine g_i2l ((q_0 _).trans rfl) ?_
      refine g_lcmp ((q_0 _).trans rfl) ?_
      refine g_ifeq ((q_0 _).trans rfl) (fun _ => ?_) (fun _ => ?_)
      · refine g_goto ((q_0 _).trans rfl) ?_
        exact gle.rf _
      · refine g_push ((q_0 _).trans rfl) ?_
        exact g_zret ((q_0 _).trans rfl)
    · refine g_goto ((q_0 _).trans rfl) ?_
      exact gle.rf _
  · refine g_push ((q_0 _).trans rfl) ?_
    exact g_zret ((q_0 _).trans rfl)
noncomputable def t_0_1831_1 (K : gK) (d : Nat) (v2 : Int32) (l0 : Nat) (l1 : Nat) (l2 : Nat) (l3 : Nat) (l4 : Nat) (l5 : Int32) (l6 : Int32) (o8 : Option Value) (G3 : gH) (j5 : Int64) : Option gO := if (lg_cmp j5 ((v2).toInt64)) = 0 then (gRn K d 0 2545 [some (.ref l0), some (.ref l1), some (.ref l2), some (.ref l3), some (.ref l4), some (.int l5), some (.int l6), some (.int v2), o8] [] G3) else (if narrow .boolean (.int (0 : Int32)) = .int (0 : Int32) then some (.inl (some (.int (0 : Int32))), G3) else none)
noncomputable def t_0_1831_2 (K : gK) (d : Nat) (l6 : Int32) (l3 : Nat) (v2 : Int32) (l0 : Nat) (l1 : Nat) (l2 : Nat) (l4 : Nat) (l5 : Int32) (o8 : Option Value) (v4 : Int32) (G3 : gH) : Option gO := if v4 = l6 then (if l6 = 0 then (xJ G3 l3 (0 : Int32) (t_0_1831_1 K d v2 l0 l1 l2 l3 l4 l5 l6 o8 G3)) else (gRn K d 0 2545 [some (.ref l0), some (.ref l1), some (.ref l2), some (.ref l3), some (.ref l4), some (.int l5), some (.int l6), some (.int v2), o8] [] G3)) else (if narrow .boolean (.int (0 : Int32)) = .int (0 : Int32) then some (.inl (some (.int (0 : Int32))), G3) else none)
noncomputable def t_0_1831_3 (K : gK) (d : Nat) (l2 : Nat) (l6 : Int32) (l3 : Nat) (l0 : Nat) (l1 : Nat) (l4 : Nat) (l5 : Int32) (o8 : Option Value) (v2 : Int32) (G1 : gH) : Option gO := if g_cls G1 l2 = some 3 then (cI (gCa K d 5 [.ref l2] G1) (t_0_1831_2 K d l6 l3 v2 l0 l1 l2 l4 l5 o8)) else none
noncomputable def t_0_1831 (K : gK) (d : Nat) (l0 : Nat) (l1 : Nat) (l2 : Nat) (l3 : Nat) (l4 : Nat) (l5 : Int32) (l6 : Int32) (o7 : Option Value) (o8 : Option Value) (G : gH) : Option gO := if l0 = K.1.1 ∧ ¬ ((l5 + (1 : Int32)) < 0 ∨ K.1.2.1 ≤ ((l5 + (1 : Int32))).toNatClampNeg) then (if g_cls G l2 = some 3 then (cI (gCa K d 57 [.ref l2, .int (K.1.2.2 ((l5 + (1 : Int32))).toNatClampNeg)] G) (t_0_1831_3 K d l2 l6 l3 l0 l1 l4 l5 o8)) else none) else none
theorem e_0_1831 {K : gK} {d : Nat} {l0 : Nat} {l1 : Nat} {l2 : Nat} {l3 : Nat} {l4 : Nat} {l5 : Int32} {l6 : Int32} {o7 : Option Value} {o8 : Option Value} {G : gH} : gle (t_0_1831 K d l0 l1 l2 l3 l4 l5 l6 o7 o8 G) (gRn K d 0 1831 [some (.ref l0), some (.ref l1), some (.ref l2), some (.ref l3), some (.ref l4), some (.int l5), some (.int l6), o7, o8] [] G) := by
  unfold t_0_1831
  refine g_aload ((q_0 _).trans rfl) rfl ?_
  refine g_aload ((q_0 _).trans rfl) rfl ?_
  refine g_iload ((q_0 _).trans rfl) rfl ?_
  refine g_push ((q_0 _).trans rfl) ?_
  refine g_iadd ((q_0 _).trans rfl) ?_
  refine g_sld ((q_0 _).trans rfl) ?_
  refine g_callV (kk := 1) ((q_0 _).trans rfl) (gHn m_0) rfl (by exact ⟨Nat.le_of_ble_eq_true rfl, rfl⟩) rfl (fun w G1 => gm_I (fun v2 hw => ?_))
  subst hw
  refine g_istore ((q_0 _).trans rfl) ?_
  refine g_aload ((q_0 _).trans rfl) rfl ?_
  refine g_callV (kk := 0) ((q_0 _).trans rfl) (gHn m_0) rfl (by exact ⟨Nat.le_of_ble_eq_true rfl, rfl⟩) rfl (fun w G3 => gm_I (fun v4 hw => ?_))
  subst hw
  refine g_iload ((q_0 _).trans rfl) rfl ?_
  refine g_cmpeq ((q_0 _).trans rfl) (fun _ => ?_) (fun _ => ?_)
  · refine g_iload ((q_0 _).trans rfl) rfl ?_
    refine g_ifne ((q_0 _).trans rfl) (fun _ => ?_) (fun _ => ?_)
    · refine g_aload ((q_0 _).trans rfl) rfl ?_
      refine g_push ((q_0 _).trans rfl) ?_
      refine g_lald ((q_0 _).trans rfl) (fun j5 => ?_)
      refine g_iload ((q_0 _).trans rfl) rfl ?_
      refine g_i2l ((q_0 _).trans rfl) ?_
      refine g_lcmp ((q_0 _).trans rfl) ?_
      refine g_ifeq ((q_0 _).trans rfl) (fun _ => ?_) (fun _ => ?_)
      · refine g_goto ((q_0 _).trans rfl) ?_
        exact gle.rf _
      · refine g_push ((q_0 _).trans rfl) ?_
        exact g_zret ((q_0 _).trans rfl)
    · refine g_goto ((q_0 _).trans rfl) ?_
      exact gle.rf _
  · refine g_push ((q_0 _).trans rfl) ?_
    exact g_zret ((q_0 _).trans rfl)
noncomputable def t_0_1887_1 (K : gK) (d : Nat) (v2 : Int32) (l0 : Nat) (l1 : Nat) (l2 : Nat) (l3 : Nat) (l4 : Nat) (l5 : Int32) (l6 : Int32) (o8 : Option Value) (G3 : gH) (j5 : Int64) : Option gO := if (lg_cmp j5 ((v2).toInt64)) = 0 then (gRn K d 0 2545 [some (.ref l0), some (.ref l1), some (.ref l2), some (.ref l3), some (.ref l4), some (.int l5), some (.int l6), some (.int v2), o8] [] G3) else (if narrow .boolean (.int (0 : Int32)) = .int (0 : Int32) then some (.inl (some (.int (0 : Int32))), G3) else none)
noncomputable def t_0_1887_2 (K : gK) (d : Nat) (l6 : Int32) (l3 : Nat) (v2 : Int32) (l0 : Nat) (l1 : Nat) (l2 : Nat) (l4 : Nat) (l5 : Int32) (o8 : Option Value) (v4 : Int32) (G3 : gH) : Option gO := if v4 = l6 then (if l6 = 0 then (xJ G3 l3 (0 : Int32) (t_0_1887_1 K d v2 l0 l1 l2 l3 l4 l5 l6 o8 G3)) else (gRn K d 0 2545 [some (.ref l0), some (.ref l1), some (.ref l2), some (.ref l3), some (.ref l4), some (.int l5), some (.int l6), some (.int v2), o8] [] G3)) else (if narrow .boolean (.int (0 : Int32)) = .int (0 : Int32) then some (.inl (some (.int (0 : Int32))), G3) else none)
noncomputable def t_0_1887_3 (K : gK) (d : Nat) (l2 : Nat) (l6 : Int32) (l3 : Nat) (l0 : Nat) (l1 : Nat) (l4 : Nat) (l5 : Int32) (o8 : Option Value) (v2 : Int32) (G1 : gH) : Option gO := if g_cls G1 l2 = some 3 then (cI (gCa K d 5 [.ref l2] G1) (t_0_1887_2 K d l6 l3 v2 l0 l1 l2 l4 l5 o8)) else none
noncomputable def t_0_1887 (K : gK) (d : Nat) (l0 : Nat) (l1 : Nat) (l2 : Nat) (l3 : Nat) (l4 : Nat) (l5 : Int32) (l6 : Int32) (o7 : Option Value) (o8 : Option Value) (G : gH) : Option gO := if l0 = K.1.1 ∧ ¬ ((l5 + (1 : Int32)) < 0 ∨ K.1.2.1 ≤ ((l5 + (1 : Int32))).toNatClampNeg) then (if g_cls G l2 = some 3 then (cI (gCa K d 59 [.ref l2, .int (K.1.2.2 ((l5 + (1 : Int32))).toNatClampNeg)] G) (t_0_1887_3 K d l2 l6 l3 l0 l1 l4 l5 o8)) else none) else none
theorem e_0_1887 {K : gK} {d : Nat} {l0 : Nat} {l1 : Nat} {l2 : Nat} {l3 : Nat} {l4 : Nat} {l5 : Int32} {l6 : Int32} {o7 : Option Value} {o8 : Option Value} {G : gH} : gle (t_0_1887 K d l0 l1 l2 l3 l4 l5 l6 o7 o8 G) (gRn K d 0 1887 [some (.ref l0), some (.ref l1), some (.ref l2), some (.ref l3), some (.ref l4), some (.int l5), some (.int l6), o7, o8] [] G) := by
  unfold t_0_1887
  refine g_aload ((q_0 _).trans rfl) rfl ?_
  refine g_aload ((q_0 _).trans rfl) rfl ?_
  refine g_iload ((q_0 _).trans rfl) rfl ?_
  refine g_push ((q_0 _).trans rfl) ?_
  refine g_iadd ((q_0 _).trans rfl) ?_
  refine g_sld ((q_0 _).trans rfl) ?_
  refine g_callV (kk := 1) ((q_0 _).trans rfl) (gHn m_0) rfl (by exact ⟨Nat.le_of_ble_eq_true rfl, rfl⟩) rfl (fun w G1 => gm_I (fun v2 hw => ?_))
  subst hw
  refine g_istore ((q_0 _).trans rfl) ?_
  refine g_aload ((q_0 _).trans rfl) rfl ?_
  refine g_callV (kk := 0) ((q_0 _).trans rfl) (gHn m_0) rfl (by exact ⟨Nat.le_of_ble_eq_true rfl, rfl⟩) rfl (fun w G3 => gm_I (fun v4 hw => ?_))
  subst hw
  refine g_iload ((q_0 _).trans rfl) rfl ?_
  refine g_cmpeq ((q_0 _).trans rfl) (fun _ => ?_) (fun _ => ?_)
  · refine g_iload ((q_0 _).trans rfl) rfl ?_
    refine g_ifne ((q_0 _).trans rfl) (fun _ => ?_) (fun _ => ?_)
    · refine g_aload ((q_0 _).trans rfl) rfl ?_
      refine g_push ((q_0 _).trans rfl) ?_
      refine g_lald ((q_0 _).trans rfl) (fun j5 => ?_)
      refine g_iload ((q_0 _).trans rfl) rfl ?_
      refine g_i2l ((q_0 _).trans rfl) ?_
      refine g_lcmp ((q_0 _).trans rfl) ?_
      refine g_ifeq ((q_0 _).trans rfl) (fun _ => ?_) (fun _ => ?_)
      · refine g_goto ((q_0 _).trans rfl) ?_
        exact gle.rf _
      · refine g_push ((q_0 _).trans rfl) ?_
        exact g_zret ((q_0 _).trans rfl)
    · refine g_goto ((q_0 _).trans rfl) ?_
      exact gle.rf _
  · refine g_push ((q_0 _).trans rfl) ?_
    exact g_zret ((q_0 _).trans rfl)
noncomputable def t_0_1956_1 (K : gK) (d : Nat) (v2 : Int32) (l0 : Nat) (l1 : Nat) (l2 : Nat) (l3 : Nat) (l4 : Nat) (l5 : Int32) (l6 : Int32) (o8 : Option Value) (G3 : gH) (j5 : Int64) : Option gO := if (lg_cmp j5 ((v2).toInt64)) = 0 then (gRn K d 0 2545 [some (.ref l0), some (.ref l1), some (.ref l2), some (.ref l3), some (.ref l4), some (.int l5), some (.int l6), some (.int v2), o8] [] G3) else (if narrow .boolean (.int (0 : Int32)) = .int (0 : Int32) then some (.inl (some (.int (0 : Int32))), G3) else none)
noncomputable def t_0_1956_2 (K : gK) (d : Nat) (l6 : Int32) (l3 : Nat) (v2 : Int32) (l0 : Nat) (l1 : Nat) (l2 : Nat) (l4 : Nat) (l5 : Int32) (o8 : Option Value) (v4 : Int32) (G3 : gH) : Option gO := if v4 = l6 then (if l6 = 0 then (xJ G3 l3 (0 : Int32) (t_0_1956_1 K d v2 l0 l1 l2 l3 l4 l5 l6 o8 G3)) else (gRn K d 0 2545 [some (.ref l0), some (.ref l1), some (.ref l2), some (.ref l3), some (.ref l4), some (.int l5), some (.int l6), some (.int v2), o8] [] G3)) else (if narrow .boolean (.int (0 : Int32)) = .int (0 : Int32) then some (.inl (some (.int (0 : Int32))), G3) else none)
noncomputable def t_0_1956_3 (K : gK) (d : Nat) (l2 : Nat) (l6 : Int32) (l3 : Nat) (l0 : Nat) (l1 : Nat) (l4 : Nat) (l5 : Int32) (o8 : Option Value) (v2 : Int32) (G1 : gH) : Option gO := if g_cls G1 l2 = some 3 then (cI (gCa K d 5 [.ref l2] G1) (t_0_1956_2 K d l6 l3 v2 l0 l1 l2 l4 l5 o8)) else none
noncomputable def t_0_1956 (K : gK) (d : Nat) (l0 : Nat) (l1 : Nat) (l2 : Nat) (l3 : Nat) (l4 : Nat) (l5 : Int32) (l6 : Int32) (o7 : Option Value) (o8 : Option Value) (G : gH) : Option gO := if l0 = K.1.1 ∧ ¬ ((l5 + (1 : Int32)) < 0 ∨ K.1.2.1 ≤ ((l5 + (1 : Int32))).toNatClampNeg) then (if g_cls G l2 = some 3 then (cI (gCa K d 63 [.ref l2, .int (K.1.2.2 ((l5 + (1 : Int32))).toNatClampNeg)] G) (t_0_1956_3 K d l2 l6 l3 l0 l1 l4 l5 o8)) else none) else none
theorem e_0_1956 {K : gK} {d : Nat} {l0 : Nat} {l1 : Nat} {l2 : Nat} {l3 : Nat} {l4 : Nat} {l5 : Int32} {l6 : Int32} {o7 : Option Value} {o8 : Option Value} {G : gH} : gle (t_0_1956 K d l0 l1 l2 l3 l4 l5 l6 o7 o8 G) (gRn K d 0 1956 [some (.ref l0), some (.ref l1), some (.ref l2), some (.ref l3), some (.ref l4), some (.int l5), some (.int l6), o7, o8] [] G) := by
  unfold t_0_1956
  refine g_aload ((q_0 _).trans rfl) rfl ?_
  refine g_aload ((q_0 _).trans rfl) rfl ?_
  refine g_iload ((q_0 _).trans rfl) rfl ?_
  refine g_push ((q_0 _).trans rfl) ?_
  refine g_iadd ((q_0 _).trans rfl) ?_
  refine g_sld ((q_0 _).trans rfl) ?_
  refine g_callV (kk := 1) ((q_0 _).trans rfl) (gHn m_0) rfl (by exact ⟨Nat.le_of_ble_eq_true rfl, rfl⟩) rfl (fun w G1 => gm_I (fun v2 hw => ?_))
  subst hw
  refine g_istore ((q_0 _).trans rfl) ?_
  refine g_aload ((q_0 _).trans rfl) rfl ?_
  refine g_callV (kk := 0) ((q_0 _).trans rfl) (gHn m_0) rfl (by exact ⟨Nat.le_of_ble_eq_true rfl, rfl⟩) rfl (fun w G3 => gm_I (fun v4 hw => ?_))
  subst hw
  refine g_iload ((q_0 _).trans rfl) rfl ?_
  refine g_cmpeq ((q_0 _).trans rfl) (fun _ => ?_) (fun _ => ?_)
  · refine g_iload ((q_0 _).trans rfl) rfl ?_
    refine g_ifne ((q_0 _).trans rfl) (fun _ => ?_) (fun _ => ?_)
    · refine g_aload ((q_0 _).trans rfl) rfl ?_
      refine g_push ((q_0 _).trans rfl) ?_
      refine g_lald ((q_0 _).trans rfl) (fun j5 => ?_)
      refine g_iload ((q_0 _).trans rfl) rfl ?_
      refine g_i2l ((q_0 _).trans rfl) ?_
      refine g_lcmp ((q_0 _).trans rfl) ?_
      refine g_ifeq ((q_0 _).trans rfl) (fun _ => ?_) (fun _ => ?_)
      · refine g_goto ((q_0 _).trans rfl) ?_
        exact gle.rf _
      · refine g_push ((q_0 _).trans rfl) ?_
        exact g_zret ((q_0 _).trans rfl)
    · refine g_goto ((q_0 _).trans rfl) ?_
      exact gle.rf _
  · refine g_push ((q_0 _).trans rfl) ?_
    exact g_zret ((q_0 _).trans rfl)
noncomputable def t_0_2026_1 (K : gK) (d : Nat) (v2 : Int32) (l0 : Nat) (l1 : Nat) (l2 : Nat) (l3 : Nat) (l4 : Nat) (l5 : Int32) (l6 : Int32) (o8 : Option Value) (G3 : gH) (j5 : Int64) : Option gO := if (lg_cmp j5 ((v2).toInt64)) = 0 then (gRn K d 0 2545 [some (.ref l0), some (.ref l1), some (.ref l2), some (.ref l3), some (.ref l4), some (.int l5), some (.int l6), some (.int v2), o8] [] G3) else (if narrow .boolean (.int (0 : Int32)) = .int (0 : Int32) then some (.inl (some (.int (0 : Int32))), G3) else none)
noncomputable def t_0_2026_2 (K : gK) (d : Nat) (l6 : Int32) (l3 : Nat) (v2 : Int32) (l0 : Nat) (l1 : Nat) (l2 : Nat) (l4 : Nat) (l5 : Int32) (o8 : Option Value) (v4 : Int32) (G3 : gH) : Option gO := if v4 = l6 then (if l6 = 0 then (xJ G3 l3 (0 : Int32) (t_0_2026_1 K d v2 l0 l1 l2 l3 l4 l5 l6 o8 G3)) else (gRn K d 0 2545 [some (.ref l0), some (.ref l1), some (.ref l2), some (.ref l3), some (.ref l4), some (.int l5), some (.int l6), some (.int v2), o8] [] G3)) else (if narrow .boolean (.int (0 : Int32)) = .int (0 : Int32) then some (.inl (some (.int (0 : Int32))), G3) else none)
noncomputable def t_0_2026_3 (K : gK) (d : Nat) (l2 : Nat) (l6 : Int32) (l3 : Nat) (l0 : Nat) (l1 : Nat) (l4 : Nat) (l5 : Int32) (o8 : Option Value) (v2 : Int32) (G1 : gH) : Option gO := if g_cls G1 l2 = some 3 then (cI (gCa K d 5 [.ref l2] G1) (t_0_2026_2 K d l6 l3 v2 l0 l1 l2 l4 l5 o8)) else none
noncomputable def t_0_2026_4 (K : gK) (d : Nat) (v7 : Int32) (l0 : Nat) (l1 : Nat) (l2 : Nat) (l3 : Nat) (l4 : Nat) (l5 : Int32) (l6 : Int32) (o8 : Option Value) (G8 : gH) (j10 : Int64) : Option gO := if (lg_cmp j10 ((v7).toInt64)) = 0 then (gRn K d 0 2545 [some (.ref l0), some (.ref l1), some (.ref l2), some (.ref l3), some (.ref l4), some (.int l5), some (.int l6), some (.int v7), o8] [] G8) else (if narrow .boolean (.int (0 : Int32)) = .int (0 : Int32) then some (.inl (some (.int (0 : Int32))), G8) else none)
noncomputable def t_0_2026_5 (K : gK) (d : Nat) (l6 : Int32) (l3 : Nat) (v7 : Int32) (l0 : Nat) (l1 : Nat) (l2 : Nat) (l4 : Nat) (l5 : Int32) (o8 : Option Value) (v9 : Int32) (G8 : gH) : Option gO := if v9 = l6 then (if l6 = 0 then (xJ G8 l3 (0 : Int32) (t_0_2026_4 K d v7 l0 l1 l2 l3 l4 l5 l6 o8 G8)) else (gRn K d 0 2545 [some (.ref l0), some (.ref l1), some (.ref l2), some (.ref l3), some (.ref l4), some (.int l5), some (.int l6), some (.int v7), o8] [] G8)) else (if narrow .boolean (.int (0 : Int32)) = .int (0 : Int32) then some (.inl (some (.int (0 : Int32))), G8) else none)
noncomputable def t_0_2026_6 (K : gK) (d : Nat) (l2 : Nat) (l6 : Int32) (l3 : Nat) (l0 : Nat) (l1 : Nat) (l4 : Nat) (l5 : Int32) (o8 : Option Value) (v7 : Int32) (G6 : gH) : Option gO := if g_cls G6 l2 = some 3 then (cI (gCa K d 5 [.ref l2] G6) (t_0_2026_5 K d l6 l3 v7 l0 l1 l2 l4 l5 o8)) else none
noncomputable def t_0_2026 (K : gK) (d : Nat) (l0 : Nat) (l1 : Nat) (l2 : Nat) (l3 : Nat) (l4 : Nat) (l5 : Int32) (l6 : Int32) (o7 : Option Value) (o8 : Option Value) (G : gH) : Option gO := if l0 = K.1.1 ∧ ¬ ((l5 + (1 : Int32)) < 0 ∨ K.1.2.1 ≤ ((l5 + (1 : Int32))).toNatClampNeg) then (if l0 = K.1.1 ∧ ¬ ((l5 + (2 : Int32)) < 0 ∨ K.1.2.1 ≤ ((l5 + (2 : Int32))).toNatClampNeg) then (if (K.1.2.2 ((l5 + (2 : Int32))).toNatClampNeg) = 0 then (if g_cls G l2 = some 3 then (cI (gCa K d 65 [.ref l2, .int (K.1.2.2 ((l5 + (1 : Int32))).toNatClampNeg), .int (0 : Int32)] G) (t_0_2026_3 K d l2 l6 l3 l0 l1 l4 l5 o8)) else none) else (if g_cls G l2 = some 3 then (cI (gCa K d 65 [.ref l2, .int (K.1.2.2 ((l5 + (1 : Int32))).toNatClampNeg), .int (1 : Int32)] G) (t_0_2026_6 K d l2 l6 l3 l0 l1 l4 l5 o8)) else none)) else none) else none
theorem e_0_2026 {K : gK} {d : Nat} {l0 : Nat} {l1 : Nat} {l2 : Nat} {l3 : Nat} {l4 : Nat} {l5 : Int32} {l6 : Int32} {o7 : Option Value} {o8 : Option Value} {G : gH} : gle (t_0_2026 K d l0 l1 l2 l3 l4 l5 l6 o7 o8 G) (gRn K d 0 2026 [some (.ref l0), some (.ref l1), some (.ref l2), some (.ref l3), some (.ref l4), some (.int l5), some (.int l6), o7, o8] [] G) := by
  unfold t_0_2026
  refine g_aload ((q_0 _).trans rfl) rfl ?_
  refine g_aload ((q_0 _).trans rfl) rfl ?_
  refine g_iload ((q_0 _).trans rfl) rfl ?_
  refine g_push ((q_0 _).trans rfl) ?_
  refine g_iadd ((q_0 _).trans rfl) ?_
  refine g_sld ((q_0 _).trans rfl) ?_
  refine g_aload ((q_0 _).trans rfl) rfl ?_
  refine g_iload ((q_0 _).trans rfl) rfl ?_
  refine g_push ((q_0 _).trans rfl) ?_
  refine g_iadd ((q_0 _).trans rfl) ?_
  refine g_sld ((q_0 _).trans rfl) ?_
  refine g_ifeq ((q_0 _).trans rfl) (fun _ => ?_) (fun _ => ?_)
  · refine g_push ((q_0 _).trans rfl) ?_
    refine g_callV (kk := 2) ((q_0 _).trans rfl) (gHn m_0) rfl (by exact ⟨Nat.le_of_ble_eq_true rfl, rfl⟩) rfl (fun w G1 => gm_I (fun v2 hw => ?_))
    subst hw
    refine g_istore ((q_0 _).trans rfl) ?_
    refine g_aload ((q_0 _).trans rfl) rfl ?_
    refine g_callV (kk := 0) ((q_0 _).trans rfl) (gHn m_0) rfl (by exact ⟨Nat.le_of_ble_eq_true rfl, rfl⟩) rfl (fun w G3 => gm_I (fun v4 hw => ?_))
    subst hw
    refine g_iload ((q_0 _).trans rfl) rfl ?_
    refine g_cmpeq ((q_0 _).trans rfl) (fun _ => ?_) (fun _ => ?_)
    · refine g_iload ((q_0 _).trans rfl) rfl ?_
      refine g_ifne ((q_0 _).trans rfl) (fun _ => ?_) (fun _ => ?_)
      · refine g_aload ((q_0 _).trans rfl) rfl ?_
        refine g_push ((q_0 _).trans rfl) ?_
        refine g_lald ((q_0 _).trans rfl) (fun j5 => ?_)
        refine g_iload ((q_0 _).trans rfl) rfl ?_
        refine g_i2l ((q_0 _).trans rfl) ?_
        refine g_lcmp ((q_0 _).trans rfl) ?_
        refine g_ifeq ((q_0 _).trans rfl) (fun _ => ?_) (fun _ => ?_)
        · refine g_goto ((q_0 _).trans rfl) ?_
          exact gle.rf _
        · refine g_push ((q_0 _).trans rfl) ?_
          exact g_zret ((q_0 _).trans rfl)
      · refine g_goto ((q_0 _).trans rfl) ?_
        exact gle.rf _
    · refine g_push ((q_0 _).trans rfl) ?_
      exact g_zret ((q_0 _).trans rfl)
  · refine g_push ((q_0 _).trans rfl) ?_
    refine g_goto ((q_0 _).trans rfl) ?_
    refine g_callV (kk := 2) ((q_0 _).trans rfl) (gHn m_0) rfl (by exact ⟨Nat.le_of_ble_eq_true rfl, rfl⟩) rfl (fun w G6 => gm_I (fun v7 hw => ?_))
    subst hw
    refine g_istore ((q_0 _).trans rfl) ?_
    refine g_aload ((q_0 _).trans rfl) rfl ?_
    refine g_callV (kk := 0) ((q_0 _).trans rfl) (gHn m_0) rfl (by exact ⟨Nat.le_of_ble_eq_true rfl, rfl⟩) rfl (fun w G8 => gm_I (fun v9 hw => ?_))
    subst hw
    refine g_iload ((q_0 _).trans rfl) rfl ?_
    refine g_cmpeq ((q_0 _).trans rfl) (fun _ => ?_) (fun _ => ?_)
    · refine g_iload ((q_0 _).trans rfl) rfl ?_
      refine g_ifne ((q_0 _).trans rfl) (fun _ => ?_) (fun _ => ?_)
      · refine g_aload ((q_0 _).trans rfl) rfl ?_
        refine g_push ((q_0 _).trans rfl) ?_
        refine g_lald ((q_0 _).trans rfl) (fun j10 => ?_)
        refine g_iload ((q_0 _).trans rfl) rfl ?_
        refine g_i2l ((q_0 _).trans rfl) ?_
        refine g_lcmp ((q_0 _).trans rfl) ?_
        refine g_ifeq ((q_0 _).trans rfl) (fun _ => ?_) (fun _ => ?_)
        · refine g_goto ((q_0 _).trans rfl) ?_
          exact gle.rf _
        · refine g_push ((q_0 _).trans rfl) ?_
          exact g_zret ((q_0 _).trans rfl)
      · refine g_goto ((q_0 _).trans rfl) ?_
        exact gle.rf _
    · refine g_push ((q_0 _).trans rfl) ?_
      exact g_zret ((q_0 _).trans rfl)
noncomputable def t_0_2096_1 (K : gK) (d : Nat) (v2 : Int32) (l0 : Nat) (l1 : Nat) (l2 : Nat) (l3 : Nat) (l4 : Nat) (l5 : Int32) (l6 : Int32) (o8 : Option Value) (G3 : gH) (j5 : Int64) : Option gO := if (lg_cmp j5 ((v2).toInt64)) = 0 then (gRn K d 0 2545 [some (.ref l0), some (.ref l1), some (.ref l2), some (.ref l3), some (.ref l4), some (.int l5), some (.int l6), some (.int v2), o8] [] G3) else (if narrow .boolean (.int (0 : Int32)) = .int (0 : Int32) then some (.inl (some (.int (0 : Int32))), G3) else none)
noncomputable def t_0_2096_2 (K : gK) (d : Nat) (l6 : Int32) (l3 : Nat) (v2 : Int32) (l0 : Nat) (l1 : Nat) (l2 : Nat) (l4 : Nat) (l5 : Int32) (o8 : Option Value) (v4 : Int32) (G3 : gH) : Option gO := if v4 = l6 then (if l6 = 0 then (xJ G3 l3 (0 : Int32) (t_0_2096_1 K d v2 l0 l1 l2 l3 l4 l5 l6 o8 G3)) else (gRn K d 0 2545 [some (.ref l0), some (.ref l1), some (.ref l2), some (.ref l3), some (.ref l4), some (.int l5), some (.int l6), some (.int v2), o8] [] G3)) else (if narrow .boolean (.int (0 : Int32)) = .int (0 : Int32) then some (.inl (some (.int (0 : Int32))), G3) else none)
noncomputable def t_0_2096_3 (K : gK) (d : Nat) (l2 : Nat) (l6 : Int32) (l3 : Nat) (l0 : Nat) (l1 : Nat) (l4 : Nat) (l5 : Int32) (o8 : Option Value) (v2 : Int32) (G1 : gH) : Option gO := if g_cls G1 l2 = some 3 then (cI (gCa K d 5 [.ref l2] G1) (t_0_2096_2 K d l6 l3 v2 l0 l1 l2 l4 l5 o8)) else none
noncomputable def t_0_2096 (K : gK) (d : Nat) (l0 : Nat) (l1 : Nat) (l2 : Nat) (l3 : Nat) (l4 : Nat) (l5 : Int32) (l6 : Int32) (o7 : Option Value) (o8 : Option Value) (G : gH) : Option gO := if l0 = K.1.1 ∧ ¬ ((l5 + (1 : Int32)) < 0 ∨ K.1.2.1 ≤ ((l5 + (1 : Int32))).toNatClampNeg) then (if g_cls G l2 = some 3 then (cI (gCa K d 67 [.ref l2, .int (K.1.2.2 ((l5 + (1 : Int32))).toNatClampNeg)] G) (t_0_2096_3 K d l2 l6 l3 l0 l1 l4 l5 o8)) else none) else none
theorem e_0_2096 {K : gK} {d : Nat} {l0 : Nat} {l1 : Nat} {l2 : Nat} {l3 : Nat} {l4 : Nat} {l5 : Int32} {l6 : Int32} {o7 : Option Value} {o8 : Option Value} {G : gH} : gle (t_0_2096 K d l0 l1 l2 l3 l4 l5 l6 o7 o8 G) (gRn K d 0 2096 [some (.ref l0), some (.ref l1), some (.ref l2), some (.ref l3), some (.ref l4), some (.int l5), some (.int l6), o7, o8] [] G) := by
  unfold t_0_2096
  refine g_aload ((q_0 _).trans rfl) rfl ?_
  refine g_aload ((q_0 _).trans rfl) rfl ?_
  refine g_iload ((q_0 _).trans rfl) rfl ?_
  refine g_push ((q_0 _).trans rfl) ?_
  refine g_iadd ((q_0 _).trans rfl) ?_
  refine g_sld ((q_0 _).trans rfl) ?_
  refine g_callV (kk := 1) ((q_0 _).trans rfl) (gHn m_0) rfl (by exact ⟨Nat.le_of_ble_eq_true rfl, rfl⟩) rfl (fun w G1 => gm_I (fun v2 hw => ?_))
  subst hw
  refine g_istore ((q_0 _).trans rfl) ?_
  refine g_aload ((q_0 _).trans rfl) rfl ?_
  refine g_callV (kk := 0) ((q_0 _).trans rfl) (gHn m_0) rfl (by exact ⟨Nat.le_of_ble_eq_true rfl, rfl⟩) rfl (fun w G3 => gm_I (fun v4 hw => ?_))
  subst hw
  refine g_iload ((q_0 _).trans rfl) rfl ?_
  refine g_cmpeq ((q_0 _).trans rfl) (fun _ => ?_) (fun _ => ?_)
  · refine g_iload ((q_0 _).trans rfl) rfl ?_
    refine g_ifne ((q_0 _).trans rfl) (fun _ => ?_) (fun _ => ?_)
    · refine g_aload ((q_0 _).trans rfl) rfl ?_
      refine g_push ((q_0 _).trans rfl) ?_
      refine g_lald ((q_0 _).trans rfl) (fun j5 => ?_)
      refine g_iload ((q_0 _).trans rfl) rfl ?_
      refine g_i2l ((q_0 _).trans rfl) ?_
      refine g_lcmp ((q_0 _).trans rfl) ?_
      refine g_ifeq ((q_0 _).trans rfl) (fun _ => ?_) (fun _ => ?_)
      · refine g_goto ((q_0 _).trans rfl) ?_
        exact gle.rf _
      · refine g_push ((q_0 _).trans rfl) ?_
        exact g_zret ((q_0 _).trans rfl)
    · refine g_goto ((q_0 _).trans rfl) ?_
      exact gle.rf _
  · refine g_push ((q_0 _).trans rfl) ?_
    exact g_zret ((q_0 _).trans rfl)
noncomputable def t_0_2152_1 (K : gK) (d : Nat) (v2 : Int32) (l0 : Nat) (l1 : Nat) (l2 : Nat) (l3 : Nat) (l4 : Nat) (l5 : Int32) (l6 : Int32) (o8 : Option Value) (G3 : gH) (j5 : Int64) : Option gO := if (lg_cmp j5 ((v2).toInt64)) = 0 then (gRn K d 0 2545 [some (.ref l0), some (.ref l1), some (.ref l2), some (.ref l3), some (.ref l4), some (.int l5), some (.int l6), some (.int v2), o8] [] G3) else (if narrow .boolean (.int (0 : Int32)) = .int (0 : Int32) then some (.inl (some (.int (0 : Int32))), G3) else none)
noncomputable def t_0_2152_2 (K : gK) (d : Nat) (l6 : Int32) (l3 : Nat) (v2 : Int32) (l0 : Nat) (l1 : Nat) (l2 : Nat) (l4 : Nat) (l5 : Int32) (o8 : Option Value) (v4 : Int32) (G3 : gH) : Option gO := if v4 = l6 then (if l6 = 0 then (xJ G3 l3 (0 : Int32) (t_0_2152_1 K d v2 l0 l1 l2 l3 l4 l5 l6 o8 G3)) else (gRn K d 0 2545 [some (.ref l0), some (.ref l1), some (.ref l2), some (.ref l3), some (.ref l4), some (.int l5), some (.int l6), some (.int v2), o8] [] G3)) else (if narrow .boolean (.int (0 : Int32)) = .int (0 : Int32) then some (.inl (some (.int (0 : Int32))), G3) else none)
noncomputable def t_0_2152_3 (K : gK) (d : Nat) (l2 : Nat) (l6 : Int32) (l3 : Nat) (l0 : Nat) (l1 : Nat) (l4 : Nat) (l5 : Int32) (o8 : Option Value) (v2 : Int32) (G1 : gH) : Option gO := if g_cls G1 l2 = some 3 then (cI (gCa K d 5 [.ref l2] G1) (t_0_2152_2 K d l6 l3 v2 l0 l1 l2 l4 l5 o8)) else none
noncomputable def t_0_2152 (K : gK) (d : Nat) (l0 : Nat) (l1 : Nat) (l2 : Nat) (l3 : Nat) (l4 : Nat) (l5 : Int32) (l6 : Int32) (o7 : Option Value) (o8 : Option Value) (G : gH) : Option gO := if l0 = K.1.1 ∧ ¬ ((l5 + (1 : Int32)) < 0 ∨ K.1.2.1 ≤ ((l5 + (1 : Int32))).toNatClampNeg) then (if g_cls G l2 = some 3 then (cI (gCa K d 69 [.ref l2, .int (K.1.2.2 ((l5 + (1 : Int32))).toNatClampNeg)] G) (t_0_2152_3 K d l2 l6 l3 l0 l1 l4 l5 o8)) else none) else none
theorem e_0_2152 {K : gK} {d : Nat} {l0 : Nat} {l1 : Nat} {l2 : Nat} {l3 : Nat} {l4 : Nat} {l5 : Int32} {l6 : Int32} {o7 : Option Value} {o8 : Option Value} {G : gH} : gle (t_0_2152 K d l0 l1 l2 l3 l4 l5 l6 o7 o8 G) (gRn K d 0 2152 [some (.ref l0), some (.ref l1), some (.ref l2), some (.ref l3), some (.ref l4), some (.int l5), some (.int l6), o7, o8] [] G) := by
  unfold t_0_2152
  refine g_aload ((q_0 _).trans rfl) rfl ?_
  refine g_aload ((q_0 _).trans rfl) rfl ?_
  refine g_iload ((q_0 _).trans rfl) rfl ?_
  refine g_push ((q_0 _).trans rfl) ?_
  refine g_iadd ((q_0 _).trans rfl) ?_
  refine g_sld ((q_0 _).trans rfl) ?_
  refine g_callV (kk := 1) ((q_0 _).trans rfl) (gHn m_0) rfl (by exact ⟨Nat.le_of_ble_eq_true rfl, rfl⟩) rfl (fun w G1 => gm_I (fun v2 hw => ?_))
  subst hw
  refine g_istore ((q_0 _).trans rfl) ?_
  refine g_aload ((q_0 _).trans rfl) rfl ?_
  refine g_callV (kk := 0) ((q_0 _).trans rfl) (gHn m_0) rfl (by exact ⟨Nat.le_of_ble_eq_true rfl, rfl⟩) rfl (fun w G3 => gm_I (fun v4 hw => ?_))
  subst hw
  refine g_iload ((q_0 _).trans rfl) rfl ?_
  refine g_cmpeq ((q_0 _).trans rfl) (fun _ => ?_) (fun _ => ?_)
  · refine g_iload ((q_0 _).trans rfl) rfl ?_
    refine g_ifne ((q_0 _).trans rfl) (fun _ => ?_) (fun _ => ?_)
    · refine g_aload ((q_0 _).trans rfl) rfl ?_
      refine g_push ((q_0 _).trans rfl) ?_
      refine g_lald ((q_0 _).trans rfl) (fun j5 => ?_)
      refine g_iload ((q_0 _).trans rfl) rfl ?_
      refine g_i2l ((q_0 _).trans rfl) ?_
      refine g_lcmp ((q_0 _).trans rfl) ?_
      refine g_ifeq ((q_0 _).trans rfl) (fun _ => ?_) (fun _ => ?_)
      · refine g_goto ((q_0 _).trans rfl) ?_
        exact gle.rf _
      · refine g_push ((q_0 _).trans rfl) ?_
        exact g_zret ((q_0 _).trans rfl)
    · refine g_goto ((q_0 _).trans rfl) ?_
      exact gle.rf _
  · refine g_push ((q_0 _).trans rfl) ?_
    exact g_zret ((q_0 _).trans rfl)
noncomputable def t_0_2214_1 (K : gK) (d : Nat) (v2 : Int32) (l0 : Nat) (l1 : Nat) (l2 : Nat) (l3 : Nat) (l4 : Nat) (l5 : Int32) (l6 : Int32) (o8 : Option Value) (G3 : gH) (j5 : Int64) : Option gO := if (lg_cmp j5 ((v2).toInt64)) = 0 then (gRn K d 0 2545 [some (.ref l0), some (.ref l1), some (.ref l2), some (.ref l3), some (.ref l4), some (.int l5), some (.int l6), some (.int v2), o8] [] G3) else (if narrow .boolean (.int (0 : Int32)) = .int (0 : Int32) then some (.inl (some (.int (0 : Int32))), G3) else none)
noncomputable def t_0_2214_2 (K : gK) (d : Nat) (l6 : Int32) (l3 : Nat) (v2 : Int32) (l0 : Nat) (l1 : Nat) (l2 : Nat) (l4 : Nat) (l5 : Int32) (o8 : Option Value) (v4 : Int32) (G3 : gH) : Option gO := if v4 = l6 then (if l6 = 0 then (xJ G3 l3 (0 : Int32) (t_0_2214_1 K d v2 l0 l1 l2 l3 l4 l5 l6 o8 G3)) else (gRn K d 0 2545 [some (.ref l0), some (.ref l1), some (.ref l2), some (.ref l3), some (.ref l4), some (.int l5), some (.int l6), some (.int v2), o8] [] G3)) else (if narrow .boolean (.int (0 : Int32)) = .int (0 : Int32) then some (.inl (some (.int (0 : Int32))), G3) else none)
noncomputable def t_0_2214_3 (K : gK) (d : Nat) (l2 : Nat) (l6 : Int32) (l3 : Nat) (l0 : Nat) (l1 : Nat) (l4 : Nat) (l5 : Int32) (o8 : Option Value) (v2 : Int32) (G1 : gH) : Option gO := if g_cls G1 l2 = some 3 then (cI (gCa K d 5 [.ref l2] G1) (t_0_2214_2 K d l6 l3 v2 l0 l1 l2 l4 l5 o8)) else none
noncomputable def t_0_2214 (K : gK) (d : Nat) (l0 : Nat) (l1 : Nat) (l2 : Nat) (l3 : Nat) (l4 : Nat) (l5 : Int32) (l6 : Int32) (o7 : Option Value) (o8 : Option Value) (G : gH) : Option gO := if l0 = K.1.1 ∧ ¬ ((l5 + (1 : Int32)) < 0 ∨ K.1.2.1 ≤ ((l5 + (1 : Int32))).toNatClampNeg) then (if l0 = K.1.1 ∧ ¬ ((l5 + (2 : Int32)) < 0 ∨ K.1.2.1 ≤ ((l5 + (2 : Int32))).toNatClampNeg) then (if g_cls G l2 = some 3 then (cI (gCa K d 71 [.ref l2, .int (K.1.2.2 ((l5 + (1 : Int32))).toNatClampNeg), .int (K.1.2.2 ((l5 + (2 : Int32))).toNatClampNeg)] G) (t_0_2214_3 K d l2 l6 l3 l0 l1 l4 l5 o8)) else none) else none) else none
theorem e_0_2214 {K : gK} {d : Nat} {l0 : Nat} {l1 : Nat} {l2 : Nat} {l3 : Nat} {l4 : Nat} {l5 : Int32} {l6 : Int32} {o7 : Option Value} {o8 : Option Value} {G : gH} : gle (t_0_2214 K d l0 l1 l2 l3 l4 l5 l6 o7 o8 G) (gRn K d 0 2214 [some (.ref l0), some (.ref l1), some (.ref l2), some (.ref l3), some (.ref l4), some (.int l5), some (.int l6), o7, o8] [] G) := by
  unfold t_0_2214
  refine g_aload ((q_0 _).trans rfl) rfl ?_
  refine g_aload ((q_0 _).trans rfl) rfl ?_
  refine g_iload ((q_0 _).trans rfl) rfl ?_
  refine g_push ((q_0 _).trans rfl) ?_
  refine g_iadd ((q_0 _).trans rfl) ?_
  refine g_sld ((q_0 _).trans rfl) ?_
  refine g_aload ((q_0 _).trans rfl) rfl ?_
  refine g_iload ((q_0 _).trans rfl) rfl ?_
  refine g_push ((q_0 _).trans rfl) ?_
  refine g_iadd ((q_0 _).trans rfl) ?_
  refine g_sld ((q_0 _).trans rfl) ?_
  refine g_callV (kk := 2) ((q_0 _).trans rfl) (gHn m_0) rfl (by exact ⟨Nat.le_of_ble_eq_true rfl, rfl⟩) rfl (fun w G1 => gm_I (fun v2 hw => ?_))
  subst hw
  refine g_istore ((q_0 _).trans rfl) ?_
  refine g_aload ((q_0 _).trans rfl) rfl ?_
  refine g_callV (kk := 0) ((q_0 _).trans rfl) (gHn m_0) rfl (by exact ⟨Nat.le_of_ble_eq_true rfl, rfl⟩) rfl (fun w G3 => gm_I (fun v4 hw => ?_))
  subst hw
  refine g_iload ((q_0 _).trans rfl) rfl ?_
  refine g_cmpeq ((q_0 _).trans rfl) (fun _ => ?_) (fun _ => ?_)
  · refine g_iload ((q_0 _).trans rfl) rfl ?_
    refine g_ifne ((q_0 _).trans rfl) (fun _ => ?_) (fun _ => ?_)
    · refine g_aload ((q_0 _).trans rfl) rfl ?_
      refine g_push ((q_0 _).trans rfl) ?_
      refine g_lald ((q_0 _).trans rfl) (fun j5 => ?_)
      refine g_iload ((q_0 _).trans rfl) rfl ?_
      refine g_i2l ((q_0 _).trans rfl) ?_
      refine g_lcmp ((q_0 _).trans rfl) ?_
      refine g_ifeq ((q_0 _).trans rfl) (fun _ => ?_) (fun _ => ?_)
      · refine g_goto ((q_0 _).trans rfl) ?_
        exact gle.rf _
      · refine g_push ((q_0 _).trans rfl) ?_
        exact g_zret ((q_0 _).trans rfl)
    · refine g_goto ((q_0 _).trans rfl) ?_
      exact gle.rf _
  · refine g_push ((q_0 _).trans rfl) ?_
    exact g_zret ((q_0 _).trans rfl)
noncomputable def t_0_2276_1 (K : gK) (d : Nat) (v2 : Int32) (l0 : Nat) (l1 : Nat) (l2 : Nat) (l3 : Nat) (l4 : Nat) (l5 : Int32) (l6 : Int32) (o8 : Option Value) (G3 : gH) (j5 : Int64) : Option gO := if (lg_cmp j5 ((v2).toInt64)) = 0 then (gRn K d 0 2545 [some (.ref l0), some (.ref l1), some (.ref l2), some (.ref l3), some (.ref l4), some (.int l5), some (.int l6), some (.int v2), o8] [] G3) else (if narrow .boolean (.int (0 : Int32)) = .int (0 : Int32) then some (.inl (some (.int (0 : Int32))), G3) else none)
noncomputable def t_0_2276_2 (K : gK) (d : Nat) (l6 : Int32) (l3 : Nat) (v2 : Int32) (l0 : Nat) (l1 : Nat) (l2 : Nat) (l4 : Nat) (l5 : Int32) (o8 : Option Value) (v4 : Int32) (G3 : gH) : Option gO := if v4 = l6 then (if l6 = 0 then (xJ G3 l3 (0 : Int32) (t_0_2276_1 K d v2 l0 l1 l2 l3 l4 l5 l6 o8 G3)) else (gRn K d 0 2545 [some (.ref l0), some (.ref l1), some (.ref l2), some (.ref l3), some (.ref l4), some (.int l5), some (.int l6), some (.int v2), o8] [] G3)) else (if narrow .boolean (.int (0 : Int32)) = .int (0 : Int32) then some (.inl (some (.int (0 : Int32))), G3) else none)
noncomputable def t_0_2276_3 (K : gK) (d : Nat) (l2 : Nat) (l6 : Int32) (l3 : Nat) (l0 : Nat) (l1 : Nat) (l4 : Nat) (l5 : Int32) (o8 : Option Value) (v2 : Int32) (G1 : gH) : Option gO := if g_cls G1 l2 = some 3 then (cI (gCa K d 5 [.ref l2] G1) (t_0_2276_2 K d l6 l3 v2 l0 l1 l2 l4 l5 o8)) else none
noncomputable def t_0_2276 (K : gK) (d : Nat) (l0 : Nat) (l1 : Nat) (l2 : Nat) (l3 : Nat) (l4 : Nat) (l5 : Int32) (l6 : Int32) (o7 : Option Value) (o8 : Option Value) (G : gH) : Option gO := if l0 = K.1.1 ∧ ¬ ((l5 + (1 : Int32)) < 0 ∨ K.1.2.1 ≤ ((l5 + (1 : Int32))).toNatClampNeg) then (if g_cls G l2 = some 3 then (cI (gCa K d 73 [.ref l2, .int (K.1.2.2 ((l5 + (1 : Int32))).toNatClampNeg)] G) (t_0_2276_3 K d l2 l6 l3 l0 l1 l4 l5 o8)) else none) else none
theorem e_0_2276 {K : gK} {d : Nat} {l0 : Nat} {l1 : Nat} {l2 : Nat} {l3 : Nat} {l4 : Nat} {l5 : Int32} {l6 : Int32} {o7 : Option Value} {o8 : Option Value} {G : gH} : gle (t_0_2276 K d l0 l1 l2 l3 l4 l5 l6 o7 o8 G) (gRn K d 0 2276 [some (.ref l0), some (.ref l1), some (.ref l2), some (.ref l3), some (.ref l4), some (.int l5), some (.int l6), o7, o8] [] G) := by
  unfold t_0_2276
  refine g_aload ((q_0 _).trans rfl) rfl ?_
  refine g_aload ((q_0 _).trans rfl) rfl ?_
  refine g_iload ((q_0 _).trans rfl) rfl ?_
  refine g_push ((q_0 _).trans rfl) ?_
  refine g_iadd ((q_0 _).trans rfl) ?_
  refine g_sld ((q_0 _).trans rfl) ?_
  refine g_callV (kk := 1) ((q_0 _).trans rfl) (gHn m_0) rfl (by exact ⟨Nat.le_of_ble_eq_true rfl, rfl⟩) rfl (fun w G1 => gm_I (fun v2 hw => ?_))
  subst hw
  refine g_istore ((q_0 _).trans rfl) ?_
  refine g_aload ((q_0 _).trans rfl) rfl ?_
  refine g_callV (kk := 0) ((q_0 _).trans rfl) (gHn m_0) rfl (by exact ⟨Nat.le_of_ble_eq_true rfl, rfl⟩) rfl (fun w G3 => gm_I (fun v4 hw => ?_))
  subst hw
  refine g_iload ((q_0 _).trans rfl) rfl ?_
  refine g_cmpeq ((q_0 _).trans rfl) (fun _ => ?_) (fun _ => ?_)
  · refine g_iload ((q_0 _).trans rfl) rfl ?_
    refine g_ifne ((q_0 _).trans rfl) (fun _ => ?_) (fun _ => ?_)
    · refine g_aload ((q_0 _).trans rfl) rfl ?_
      refine g_push ((q_0 _).trans rfl) ?_
      refine g_lald ((q_0 _).trans rfl) (fun j5 => ?_)
      refine g_iload ((q_0 _).trans rfl) rfl ?_
      refine g_i2l ((q_0 _).trans rfl) ?_
      refine g_lcmp ((q_0 _).trans rfl) ?_
      refine g_ifeq ((q_0 _).trans rfl) (fun _ => ?_) (fun _ => ?_)
      · refine g_goto ((q_0 _).trans rfl) ?_
        exact gle.rf _
      · refine g_push ((q_0 _).trans rfl) ?_
        exact g_zret ((q_0 _).trans rfl)
    · refine g_goto ((q_0 _).trans rfl) ?_
      exact gle.rf _
  · refine g_push ((q_0 _).trans rfl) ?_
    exact g_zret ((q_0 _).trans rfl)
noncomputable def t_0_2338_1 (K : gK) (d : Nat) (v2 : Int32) (l0 : Nat) (l1 : Nat) (l2 : Nat) (l3 : Nat) (l4 : Nat) (l5 : Int32) (l6 : Int32) (o8 : Option Value) (G3 : gH) (j5 : Int64) : Option gO := if (lg_cmp j5 ((v2).toInt64)) = 0 then (gRn K d 0 2545 [some (.ref l0), some (.ref l1), some (.ref l2), some (.ref l3), some (.ref l4), some (.int l5), some (.int l6), some (.int v2), o8] [] G3) else (if narrow .boolean (.int (0 : Int32)) = .int (0 : Int32) then some (.inl (some (.int (0 : Int32))), G3) else none)
noncomputable def t_0_2338_2 (K : gK) (d : Nat) (l6 : Int32) (l3 : Nat) (v2 : Int32) (l0 : Nat) (l1 : Nat) (l2 : Nat) (l4 : Nat) (l5 : Int32) (o8 : Option Value) (v4 : Int32) (G3 : gH) : Option gO := if v4 = l6 then (if l6 = 0 then (xJ G3 l3 (0 : Int32) (t_0_2338_1 K d v2 l0 l1 l2 l3 l4 l5 l6 o8 G3)) else (gRn K d 0 2545 [some (.ref l0), some (.ref l1), some (.ref l2), some (.ref l3), some (.ref l4), some (.int l5), some (.int l6), some (.int v2), o8] [] G3)) else (if narrow .boolean (.int (0 : Int32)) = .int (0 : Int32) then some (.inl (some (.int (0 : Int32))), G3) else none)
noncomputable def t_0_2338_3 (K : gK) (d : Nat) (l2 : Nat) (l6 : Int32) (l3 : Nat) (l0 : Nat) (l1 : Nat) (l4 : Nat) (l5 : Int32) (o8 : Option Value) (v2 : Int32) (G1 : gH) : Option gO := if g_cls G1 l2 = some 3 then (cI (gCa K d 5 [.ref l2] G1) (t_0_2338_2 K d l6 l3 v2 l0 l1 l2 l4 l5 o8)) else none
noncomputable def t_0_2338 (K : gK) (d : Nat) (l0 : Nat) (l1 : Nat) (l2 : Nat) (l3 : Nat) (l4 : Nat) (l5 : Int32) (l6 : Int32) (o7 : Option Value) (o8 : Option Value) (G : gH) : Option gO := if l0 = K.1.1 ∧ ¬ ((l5 + (1 : Int32)) < 0 ∨ K.1.2.1 ≤ ((l5 + (1 : Int32))).toNatClampNeg) then (if l0 = K.1.1 ∧ ¬ ((l5 + (2 : Int32)) < 0 ∨ K.1.2.1 ≤ ((l5 + (2 : Int32))).toNatClampNeg) then (if g_cls G l2 = some 3 then (cI (gCa K d 75 [.ref l2, .int (K.1.2.2 ((l5 + (1 : Int32))).toNatClampNeg), .int (K.1.2.2 ((l5 + (2 : Int32))).toNatClampNeg)] G) (t_0_2338_3 K d l2 l6 l3 l0 l1 l4 l5 o8)) else none) else none) else none
theorem e_0_2338 {K : gK} {d : Nat} {l0 : Nat} {l1 : Nat} {l2 : Nat} {l3 : Nat} {l4 : Nat} {l5 : Int32} {l6 : Int32} {o7 : Option Value} {o8 : Option Value} {G : gH} : gle (t_0_2338 K d l0 l1 l2 l3 l4 l5 l6 o7 o8 G) (gRn K d 0 2338 [some (.ref l0), some (.ref l1), some (.ref l2), some (.ref l3), some (.ref l4), some (.int l5), some (.int l6), o7, o8] [] G) := by
  unfold t_0_2338
  refine g_aload ((q_0 _).trans rfl) rfl ?_
  refine g_aload ((q_0 _).trans rfl) rfl ?_
  refine g_iload ((q_0 _).trans rfl) rfl ?_
  refine g_push ((q_0 _).trans rfl) ?_
  refine g_iadd ((q_0 _).trans rfl) ?_
  refine g_sld ((q_0 _).trans rfl) ?_
  refine g_aload ((q_0 _).trans rfl) rfl ?_
  refine g_iload ((q_0 _).trans rfl) rfl ?_
  refine g_push ((q_0 _).trans rfl) ?_
  refine g_iadd ((q_0 _).trans rfl) ?_
  refine g_sld ((q_0 _).trans rfl) ?_
  refine g_callV (kk := 2) ((q_0 _).trans rfl) (gHn m_0) rfl (by exact ⟨Nat.le_of_ble_eq_true rfl, rfl⟩) rfl (fun w G1 => gm_I (fun v2 hw => ?_))
  subst hw
  refine g_istore ((q_0 _).trans rfl) ?_
  refine g_aload ((q_0 _).trans rfl) rfl ?_
  refine g_callV (kk := 0) ((q_0 _).trans rfl) (gHn m_0) rfl (by exact ⟨Nat.le_of_ble_eq_true rfl, rfl⟩) rfl (fun w G3 => gm_I (fun v4 hw => ?_))
  subst hw
  refine g_iload ((q_0 _).trans rfl) rfl ?_
  refine g_cmpeq ((q_0 _).trans rfl) (fun _ => ?_) (fun _ => ?_)
  · refine g_iload ((q_0 _).trans rfl) rfl ?_
    refine g_ifne ((q_0 _).trans rfl) (fun _ => ?_) (fun _ => ?_)
    · refine g_aload ((q_0 _).trans rfl) rfl ?_
      refine g_push ((q_0 _).trans rfl) ?_
      refine g_lald ((q_0 _).trans rfl) (fun j5 => ?_)
      refine g_iload ((q_0 _).trans rfl) rfl ?_
      refine g_i2l ((q_0 _).trans rfl) ?_
      refine g_lcmp ((q_0 _).trans rfl) ?_
      refine g_ifeq ((q_0 _).trans rfl) (fun _ => ?_) (fun _ => ?_)
      · refine g_goto ((q_0 _).trans rfl) ?_
        exact gle.rf _
      · refine g_push ((q_0 _).trans rfl) ?_
        exact g_zret ((q_0 _).trans rfl)
    · refine g_goto ((q_0 _).trans rfl) ?_
      exact gle.rf _
  · refine g_push ((q_0 _).trans rfl) ?_
    exact g_zret ((q_0 _).trans rfl)
noncomputable def t_0_2409_1 (K : gK) (d : Nat) (q6 : UInt64) (G3 : gH) (f2 : UInt32) (l0 : Nat) (l1 : Nat) (l2 : Nat) (l3 : Nat) (l4 : Nat) (l5 : Int32) (l6 : Int32) (o8 : Option Value) (q7 : UInt64) : Option gO := if (Op.cmpValue (FP.dcmp q6 q7) .l) = 0 then (if narrow .boolean (.int (0 : Int32)) = .int (0 : Int32) then some (.inl (some (.int (0 : Int32))), G3) else none) else (if (Op.cmpValue (FP.fcmp f2 f2) .l) = 0 then (if narrow .boolean (.int (0 : Int32)) = .int (0 : Int32) then some (.inl (some (.int (0 : Int32))), G3) else none) else (gRn K d 0 2545 [some (.ref l0), some (.ref l1), some (.ref l2), some (.ref l3), some (.ref l4), some (.int l5), some (.int l6), some (.float f2), o8] [] G3))
noncomputable def t_0_2409_2 (K : gK) (d : Nat) (G3 : gH) (l4 : Nat) (f2 : UInt32) (l0 : Nat) (l1 : Nat) (l2 : Nat) (l3 : Nat) (l5 : Int32) (l6 : Int32) (o8 : Option Value) (q6 : UInt64) : Option gO := xD G3 l4 (0 : Int32) (t_0_2409_1 K d q6 G3 f2 l0 l1 l2 l3 l4 l5 l6 o8)
noncomputable def t_0_2409_3 (K : gK) (d : Nat) (f2 : UInt32) (l0 : Nat) (l1 : Nat) (l2 : Nat) (l3 : Nat) (l4 : Nat) (l5 : Int32) (l6 : Int32) (o8 : Option Value) (G3 : gH) (q5 : UInt64) : Option gO := if (FP.f2d f2) &&& 0x7fffffffffffffff ≤ 0x7ff0000000000000 then (if (Op.cmpValue (FP.dcmp q5 (FP.f2d f2)) .l) = 0 then (gRn K d 0 2545 [some (.ref l0), some (.ref l1), some (.ref l2), some (.ref l3), some (.ref l4), some (.int l5), some (.int l6), some (.float f2), o8] [] G3) else (xD G3 l4 (0 : Int32) (t_0_2409_2 K d G3 l4 f2 l0 l1 l2 l3 l5 l6 o8))) else none
noncomputable def t_0_2409_4 (K : gK) (d : Nat) (l6 : Int32) (l4 : Nat) (f2 : UInt32) (l0 : Nat) (l1 : Nat) (l2 : Nat) (l3 : Nat) (l5 : Int32) (o8 : Option Value) (v4 : Int32) (G3 : gH) : Option gO := if v4 = l6 then (if l6 = 0 then (xD G3 l4 (0 : Int32) (t_0_2409_3 K d f2 l0 l1 l2 l3 l4 l5 l6 o8 G3)) else (gRn K d 0 2545 [some (.ref l0), some (.ref l1), some (.ref l2), some (.ref l3), some (.ref l4), some (.int l5), some (.int l6), some (.float f2), o8] [] G3)) else (if narrow .boolean (.int (0 : Int32)) = .int (0 : Int32) then some (.inl (some (.int (0 : Int32))), G3) else none)
noncomputable def t_0_2409_5 (K : gK) (d : Nat) (l2 : Nat) (l6 : Int32) (l4 : Nat) (l0 : Nat) (l1 : Nat) (l3 : Nat) (l5 : Int32) (o8 : Option Value) (f2 : UInt32) (G1 : gH) : Option gO := if g_cls G1 l2 = some 3 then (cI (gCa K d 5 [.ref l2] G1) (t_0_2409_4 K d l6 l4 f2 l0 l1 l2 l3 l5 o8)) else none
noncomputable def t_0_2409 (K : gK) (d : Nat) (l0 : Nat) (l1 : Nat) (l2 : Nat) (l3 : Nat) (l4 : Nat) (l5 : Int32) (l6 : Int32) (o7 : Option Value) (o8 : Option Value) (G : gH) : Option gO := if g_cls G l2 = some 3 then (cF (gCa K d 79 [.ref l2] G) (t_0_2409_5 K d l2 l6 l4 l0 l1 l3 l5 o8)) else none
theorem e_0_2409 {K : gK} {d : Nat} {l0 : Nat} {l1 : Nat} {l2 : Nat} {l3 : Nat} {l4 : Nat} {l5 : Int32} {l6 : Int32} {o7 : Option Value} {o8 : Option Value} {G : gH} : gle (t_0_2409 K d l0 l1 l2 l3 l4 l5 l6 o7 o8 G) (gRn K d 0 2409 [some (.ref l0), some (.ref l1), some (.ref l2), some (.ref l3), some (.ref l4), some (.int l5), some (.int l6), o7, o8] [] G) := by
  unfold t_0_2409
  refine g_aload ((q_0 _).trans rfl) rfl ?_
  refine g_callV (kk := 0) ((q_0 _).trans rfl) (gHn m_0) rfl (by exact ⟨Nat.le_of_ble_eq_true rfl, rfl⟩) rfl (fun w G1 => gm_F (fun f2 hw => ?_))
  subst hw
  refine g_fstore ((q_0 _).trans rfl) ?_
  refine g_aload ((q_0 _).trans rfl) rfl ?_
  refine g_callV (kk := 0) ((q_0 _).trans rfl) (gHn m_0) rfl (by exact ⟨Nat.le_of_ble_eq_true rfl, rfl⟩) rfl (fun w G3 => gm_I (fun v4 hw => ?_))
  subst hw
  refine g_iload ((q_0 _).trans rfl) rfl ?_
  refine g_cmpeq ((q_0 _).trans rfl) (fun _ => ?_) (fun _ => ?_)
  · refine g_iload ((q_0 _).trans rfl) rfl ?_
    refine g_ifne ((q_0 _).trans rfl) (fun _ => ?_) (fun _ => ?_)
    · refine g_aload ((q_0 _).trans rfl) rfl ?_
      refine g_push ((q_0 _).trans rfl) ?_
      refine g_dald ((q_0 _).trans rfl) (fun q5 => ?_)
      refine g_fload ((q_0 _).trans rfl) rfl ?_
      refine g_f2d ((q_0 _).trans rfl) (fun _ => ?_)
      refine g_dcmp ((q_0 _).trans rfl) ?_
      refine g_ifeq ((q_0 _).trans rfl) (fun _ => ?_) (fun _ => ?_)
      · refine g_goto ((q_0 _).trans rfl) ?_
        exact gle.rf _
      · refine g_aload ((q_0 _).trans rfl) rfl ?_
        refine g_push ((q_0 _).trans rfl) ?_
        refine g_dald ((q_0 _).trans rfl) (fun q6 => ?_)
        refine g_aload ((q_0 _).trans rfl) rfl ?_
        refine g_push ((q_0 _).trans rfl) ?_
        refine g_dald ((q_0 _).trans rfl) (fun q7 => ?_)
        refine g_dcmp ((q_0 _).trans rfl) ?_
        refine g_ifeq ((q_0 _).trans rfl) (fun _ => ?_) (fun _ => ?_)
        · refine g_push ((q_0 _).trans rfl) ?_
          exact g_zret ((q_0 _).trans rfl)
        · refine g_fload ((q_0 _).trans rfl) rfl ?_
          refine g_fload ((q_0 _).trans rfl) rfl ?_
          refine g_fcmp ((q_0 _).trans rfl) ?_
          refine g_ifne ((q_0 _).trans rfl) (fun _ => ?_) (fun _ => ?_)
          · refine g_push ((q_0 _).trans rfl) ?_
            exact g_zret ((q_0 _).trans rfl)
          · refine g_goto ((q_0 _).trans rfl) ?_
            exact gle.rf _
    · refine g_goto ((q_0 _).trans rfl) ?_
      exact gle.rf _
  · refine g_push ((q_0 _).trans rfl) ?_
    exact g_zret ((q_0 _).trans rfl)
noncomputable def t_0_2475_1 (K : gK) (d : Nat) (q6 : UInt64) (G3 : gH) (q2 : UInt64) (l0 : Nat) (l1 : Nat) (l2 : Nat) (l3 : Nat) (l4 : Nat) (l5 : Int32) (l6 : Int32) (q7 : UInt64) : Option gO := if (Op.cmpValue (FP.dcmp q6 q7) .l) = 0 then (if narrow .boolean (.int (0 : Int32)) = .int (0 : Int32) then some (.inl (some (.int (0 : Int32))), G3) else none) else (if (Op.cmpValue (FP.dcmp q2 q2) .l) = 0 then (if narrow .boolean (.int (0 : Int32)) = .int (0 : Int32) then some (.inl (some (.int (0 : Int32))), G3) else none) else (gRn K d 0 2545 [some (.ref l0), some (.ref l1), some (.ref l2), some (.ref l3), some (.ref l4), some (.int l5), some (.int l6), some (.double q2), none] [] G3))
noncomputable def t_0_2475_2 (K : gK) (d : Nat) (G3 : gH) (l4 : Nat) (q2 : UInt64) (l0 : Nat) (l1 : Nat) (l2 : Nat) (l3 : Nat) (l5 : Int32) (l6 : Int32) (q6 : UInt64) : Option gO := xD G3 l4 (0 : Int32) (t_0_2475_1 K d q6 G3 q2 l0 l1 l2 l3 l4 l5 l6)
noncomputable def t_0_2475_3 (K : gK) (d : Nat) (q2 : UInt64) (l0 : Nat) (l1 : Nat) (l2 : Nat) (l3 : Nat) (l4 : Nat) (l5 : Int32) (l6 : Int32) (G3 : gH) (q5 : UInt64) : Option gO := if (Op.cmpValue (FP.dcmp q5 q2) .l) = 0 then (gRn K d 0 2545 [some (.ref l0), some (.ref l1), some (.ref l2), some (.ref l3), some (.ref l4), some (.int l5), some (.int l6), some (.double q2), none] [] G3) else (xD G3 l4 (0 : Int32) (t_0_2475_2 K d G3 l4 q2 l0 l1 l2 l3 l5 l6))
noncomputable def t_0_2475_4 (K : gK) (d : Nat) (l6 : Int32) (l4 : Nat) (q2 : UInt64) (l0 : Nat) (l1 : Nat) (l2 : Nat) (l3 : Nat) (l5 : Int32) (v4 : Int32) (G3 : gH) : Option gO := if v4 = l6 then (if l6 = 0 then (xD G3 l4 (0 : Int32) (t_0_2475_3 K d q2 l0 l1 l2 l3 l4 l5 l6 G3)) else (gRn K d 0 2545 [some (.ref l0), some (.ref l1), some (.ref l2), some (.ref l3), some (.ref l4), some (.int l5), some (.int l6), some (.double q2), none] [] G3)) else (if narrow .boolean (.int (0 : Int32)) = .int (0 : Int32) then some (.inl (some (.int (0 : Int32))), G3) else none)
noncomputable def t_0_2475_5 (K : gK) (d : Nat) (l2 : Nat) (l6 : Int32) (l4 : Nat) (l0 : Nat) (l1 : Nat) (l3 : Nat) (l5 : Int32) (q2 : UInt64) (G1 : gH) : Option gO := if g_cls G1 l2 = some 3 then (cI (gCa K d 5 [.ref l2] G1) (t_0_2475_4 K d l6 l4 q2 l0 l1 l2 l3 l5)) else none
noncomputable def t_0_2475 (K : gK) (d : Nat) (l0 : Nat) (l1 : Nat) (l2 : Nat) (l3 : Nat) (l4 : Nat) (l5 : Int32) (l6 : Int32) (o7 : Option Value) (o8 : Option Value) (G : gH) : Option gO := if g_cls G l2 = some 3 then (cD (gCa K d 81 [.ref l2] G) (t_0_2475_5 K d l2 l6 l4 l0 l1 l3 l5)) else none
theorem e_0_2475 {K : gK} {d : Nat} {l0 : Nat} {l1 : Nat} {l2 : Nat} {l3 : Nat} {l4 : Nat} {l5 : Int32} {l6 : Int32} {o7 : Option Value} {o8 : Option Value} {G : gH} : gle (t_0_2475 K d l0 l1 l2 l3 l4 l5 l6 o7 o8 G) (gRn K d 0 2475 [some (.ref l0), some (.ref l1), some (.ref l2), some (.ref l3), some (.ref l4), some (.int l5), some (.int l6), o7, o8] [] G) := by
  unfold t_0_2475
  refine g_aload ((q_0 _).trans rfl) rfl ?_
  refine g_callV (kk := 0) ((q_0 _).trans rfl) (gHn m_0) rfl (by exact ⟨Nat.le_of_ble_eq_true rfl, rfl⟩) rfl (fun w G1 => gm_D (fun q2 hw => ?_))
  subst hw
  refine g_dstore ((q_0 _).trans rfl) ?_
  refine g_aload ((q_0 _).trans rfl) rfl ?_
  refine g_callV (kk := 0) ((q_0 _).trans rfl) (gHn m_0) rfl (by exact ⟨Nat.le_of_ble_eq_true rfl, rfl⟩) rfl (fun w G3 => gm_I (fun v4 hw => ?_))
  subst hw
  refine g_iload ((q_0 _).trans rfl) rfl ?_
  refine g_cmpeq ((q_0 _).trans rfl) (fun _ => ?_) (fun _ => ?_)
  · refine g_iload ((q_0 _).trans rfl) rfl ?_
    refine g_ifne ((q_0 _).trans rfl) (fun _ => ?_) (fun _ => ?_)
    · refine g_aload ((q_0 _).trans rfl) rfl ?_
      refine g_push ((q_0 _).trans rfl) ?_
      refine g_dald ((q_0 _).trans rfl) (fun q5 => ?_)
      refine g_dload ((q_0 _).trans rfl) rfl ?_
      refine g_dcmp ((q_0 _).trans rfl) ?_
      refine g_ifeq ((q_0 _).trans rfl) (fun _ => ?_) (fun _ => ?_)
      · refine g_goto ((q_0 _).trans rfl) ?_
        exact gle.rf _
      · refine g_aload ((q_0 _).trans rfl) rfl ?_
        refine g_push ((q_0 _).trans rfl) ?_
        refine g_dald ((q_0 _).trans rfl) (fun q6 => ?_)
        refine g_aload ((q_0 _).trans rfl) rfl ?_
        refine g_push ((q_0 _).trans rfl) ?_
        refine g_dald ((q_0 _).trans rfl) (fun q7 => ?_)
        refine g_dcmp ((q_0 _).trans rfl) ?_
        refine g_ifeq ((q_0 _).trans rfl) (fun _ => ?_) (fun _ => ?_)
        · refine g_push ((q_0 _).trans rfl) ?_
          exact g_zret ((q_0 _).trans rfl)
        · refine g_dload ((q_0 _).trans rfl) rfl ?_
          refine g_dload ((q_0 _).trans rfl) rfl ?_
          refine g_dcmp ((q_0 _).trans rfl) ?_
          refine g_ifne ((q_0 _).trans rfl) (fun _ => ?_) (fun _ => ?_)
          · refine g_push ((q_0 _).trans rfl) ?_
            exact g_zret ((q_0 _).trans rfl)
          · refine g_goto ((q_0 _).trans rfl) ?_
            exact gle.rf _
    · refine g_goto ((q_0 _).trans rfl) ?_
      exact gle.rf _
  · refine g_push ((q_0 _).trans rfl) ?_
    exact g_zret ((q_0 _).trans rfl)
theorem q_3 {K : gK} (pc : Nat) : gP K 3 pc = ((gL_3 K).lookup pc).getD o_none := rfl
noncomputable def t_3_0_1 (K : gK) (d : Nat) (G3 : gH) : Option gO := some (.inl (some (.int (0 : Int32))), G3)
noncomputable def t_3_0_2 (K : gK) (d : Nat) (l4 : Nat) (v2 : Int32) (G1 : gH) : Option gO := yJ G1 l4 (0 : Int32) ((v2).toInt64) (t_3_0_1 K d)
noncomputable def t_3_0 (K : gK) (d : Nat) (l0 : Nat) (l1 : Int32) (l2 : Int32) (l3 : Int32) (l4 : Nat) (G : gH) : Option gO := if g_cls G l0 = some 0 then (bH 3 7 (gCa K d 88 [.ref l0, .int l1, .int l2, .int l3] G) (kI (t_3_0_2 K d l4))) else none
theorem e_3_0 {K : gK} {d : Nat} {l0 : Nat} {l1 : Int32} {l2 : Int32} {l3 : Int32} {l4 : Nat} {G : gH} : gle (t_3_0 K d l0 l1 l2 l3 l4 G) (gRn K d 3 0 [some (.ref l0), some (.int l1), some (.int l2), some (.int l3), some (.ref l4), none] [] G) := by
  unfold t_3_0
  refine g_aload ((q_3 _).trans rfl) rfl ?_
  refine g_push ((q_3 _).trans rfl) ?_
  refine g_aload ((q_3 _).trans rfl) rfl ?_
  refine g_iload ((q_3 _).trans rfl) rfl ?_
  refine g_iload ((q_3 _).trans rfl) rfl ?_
  refine g_iload ((q_3 _).trans rfl) rfl ?_
  refine g_callVH (kk := 3) ((q_3 _).trans rfl) rfl (by exact ⟨Nat.le_of_ble_eq_true rfl, rfl⟩) rfl (fun w G1 => gm_I (fun v2 hw => ?_))
  subst hw
  refine g_i2l ((q_3 _).trans rfl) ?_
  refine g_last ((q_3 _).trans rfl) (fun G3 => ?_)
  refine g_goto ((q_3 _).trans rfl) ?_
  refine g_push ((q_3 _).trans rfl) ?_
  exact g_iret ((q_3 _).trans rfl)
theorem c_3 {K : gK} {d : Nat} {l0 : Nat} {l1 : Int32} {l2 : Int32} {l3 : Int32} {l4 : Nat} {G : gH} : gle (t_3_0 K d l0 l1 l2 l3 l4 G) (gCa K (d + 1) 3 [.ref l0, .int l1, .int l2, .int l3, .ref l4] G) := by
  have h : gent (gMx 3) [.ref l0, .int l1, .int l2, .int l3, .ref l4] = [some (.ref l0), some (.int l1), some (.int l2), some (.int l3), some (.ref l4), none] := by
    show gent (gT 3).2.2.2.1 _ = _
    rw [m_3]; rfl
  exact fun r e => (congrArg (fun q => gRn K d 3 0 q [] G) h).trans (e_3_0 r e)
theorem q_6 {K : gK} (pc : Nat) : gP K 6 pc = ((gL_6 K).lookup pc).getD o_none := rfl
noncomputable def t_6_0_1 (K : gK) (d : Nat) (G3 : gH) : Option gO := some (.inl (some (.int (0 : Int32))), G3)
noncomputable def t_6_0_2 (K : gK) (d : Nat) (G4 : gH) : Option gO := some (.inl (some (.int (0 : Int32))), G4)
noncomputable def t_6_0_3 (K : gK) (d : Nat) (l2 : Nat) (v2 : Int32) (G1 : gH) : Option gO := if v2 = 0 then (yJ G1 l2 (0 : Int32) (0 : Int64) (t_6_0_1 K d)) else (yJ G1 l2 (0 : Int32) (1 : Int64) (t_6_0_2 K d))
noncomputable def t_6_0 (K : gK) (d : Nat) (l0 : Nat) (l1 : Int32) (l2 : Nat) (G : gH) : Option gO := if g_cls G l0 = some 0 then (bH 6 4 (gCa K d 91 [.ref l0, .int l1] G) (kI (t_6_0_3 K d l2))) else none
theorem e_6_0 {K : gK} {d : Nat} {l0 : Nat} {l1 : Int32} {l2 : Nat} {G : gH} : gle (t_6_0 K d l0 l1 l2 G) (gRn K d 6 0 [some (.ref l0), some (.int l1), some (.ref l2), none] [] G) := by
  unfold t_6_0
  refine g_aload ((q_6 _).trans rfl) rfl ?_
  refine g_push ((q_6 _).trans rfl) ?_
  refine g_aload ((q_6 _).trans rfl) rfl ?_
  refine g_iload ((q_6 _).trans rfl) rfl ?_
  refine g_callVH (kk := 1) ((q_6 _).trans rfl) rfl (by exact ⟨Nat.le_of_ble_eq_true rfl, rfl⟩) rfl (fun w G1 => gm_I (fun v2 hw => ?_))
  subst hw
  refine g_ifeq ((q_6 _).trans rfl) (fun _ => ?_) (fun _ => ?_)
  · refine g_push ((q_6 _).trans rfl) ?_
    refine g_last ((q_6 _).trans rfl) (fun G3 => ?_)
    refine g_goto ((q_6 _).trans rfl) ?_
    refine g_push ((q_6 _).trans rfl) ?_
    exact g_iret ((q_6 _).trans rfl)
  · refine g_push ((q_6 _).trans rfl) ?_
    refine g_goto ((q_6 _).trans rfl) ?_
    refine g_last ((q_6 _).trans rfl) (fun G4 => ?_)
    refine g_goto ((q_6 _).trans rfl) ?_
    refine g_push ((q_6 _).trans rfl) ?_
    exact g_iret ((q_6 _).trans rfl)
theorem c_6 {K : gK} {d : Nat} {l0 : Nat} {l1 : Int32} {l2 : Nat} {G : gH} : gle (t_6_0 K d l0 l1 l2 G) (gCa K (d + 1) 6 [.ref l0, .int l1, .ref l2] G) := by
  have h : gent (gMx 6) [.ref l0, .int l1, .ref l2] = [some (.ref l0), some (.int l1), some (.ref l2), none] := by
    show gent (gT 6).2.2.2.1 _ = _
    rw [m_6]; rfl
  exact fun r e => (congrArg (fun q => gRn K d 6 0 q [] G) h).trans (e_6_0 r e)
theorem q_8 {K : gK} (pc : Nat) : gP K 8 pc = ((gL_8 K).lookup pc).getD o_none := rfl
noncomputable def t_8_0_1 (K : gK) (d : Nat) (G3 : gH) : Option gO := some (.inl (some (.int (0 : Int32))), G3)
noncomputable def t_8_0_2 (K : gK) (d : Nat) (l3 : Nat) (v2 : Int32) (G1 : gH) : Option gO := yJ G1 l3 (0 : Int32) ((v2).toInt64) (t_8_0_1 K d)
noncomputable def t_8_0 (K : gK) (d : Nat) (l0 : Nat) (l1 : Int32) (l2 : Int32) (l3 : Nat) (G : gH) : Option gO := if g_cls G l0 = some 0 then (bH 8 5 (gCa K d 92 [.ref l0, .int l1, .int l2] G) (kI (t_8_0_2 K d l3))) else none
theorem e_8_0 {K : gK} {d : Nat} {l0 : Nat} {l1 : Int32} {l2 : Int32} {l3 : Nat} {G : gH} : gle (t_8_0 K d l0 l1 l2 l3 G) (gRn K d 8 0 [some (.ref l0), some (.int l1), some (.int l2), some (.ref l3), none] [] G) := by
  unfold t_8_0
  refine g_aload ((q_8 _).trans rfl) rfl ?_
  refine g_push ((q_8 _).trans rfl) ?_
  refine g_aload ((q_8 _).trans rfl) rfl ?_
  refine g_iload ((q_8 _).trans rfl) rfl ?_
  refine g_iload ((q_8 _).trans rfl) rfl ?_
  refine g_callVH (kk := 2) ((q_8 _).trans rfl) rfl (by exact ⟨Nat.le_of_ble_eq_true rfl, rfl⟩) rfl (fun w G1 => gm_I (fun v2 hw => ?_))
  subst hw
  refine g_i2l ((q_8 _).trans rfl) ?_
  refine g_last ((q_8 _).trans rfl) (fun G3 => ?_)
  refine g_goto ((q_8 _).trans rfl) ?_
  refine g_push ((q_8 _).trans rfl) ?_
  exact g_iret ((q_8 _).trans rfl)
theorem c_8 {K : gK} {d : Nat} {l0 : Nat} {l1 : Int32} {l2 : Int32} {l3 : Nat} {G : gH} : gle (t_8_0 K d l0 l1 l2 l3 G) (gCa K (d + 1) 8 [.ref l0, .int l1, .int l2, .ref l3] G) := by
  have h : gent (gMx 8) [.ref l0, .int l1, .int l2, .ref l3] = [some (.ref l0), some (.int l1), some (.int l2), some (.ref l3), none] := by
    show gent (gT 8).2.2.2.1 _ = _
    rw [m_8]; rfl
  exact fun r e => (congrArg (fun q => gRn K d 8 0 q [] G) h).trans (e_8_0 r e)
theorem q_12 {K : gK} (pc : Nat) : gP K 12 pc = ((gL_12 K).lookup pc).getD o_none := rfl
noncomputable def t_12_0_1 (K : gK) (d : Nat) (G3 : gH) : Option gO := some (.inl (some (.int (0 : Int32))), G3)
noncomputable def t_12_0_2 (K : gK) (d : Nat) (l3 : Nat) (v2 : Int32) (G1 : gH) : Option gO := yJ G1 l3 (0 : Int32) ((v2).toInt64) (t_12_0_1 K d)
noncomputable def t_12_0 (K : gK) (d : Nat) (l0 : Nat) (l1 : Int32) (l2 : Int32) (l3 : Nat) (G : gH) : Option gO := if g_cls G l0 = some 0 then (bH 12 5 (gCa K d 94 [.ref l0, .int l1, .int l2] G) (kI (t_12_0_2 K d l3))) else none
theorem e_12_0 {K : gK} {d : Nat} {l0 : Nat} {l1 : Int32} {l2 : Int32} {l3 : Nat} {G : gH} : gle (t_12_0 K d l0 l1 l2 l3 G) (gRn K d 12 0 [some (.ref l0), some (.int l1), some (.int l2), some (.ref l3), none] [] G) := by
  unfold t_12_0
  refine g_aload ((q_12 _).trans rfl) rfl ?_
  refine g_push ((q_12 _).trans rfl) ?_
  refine g_aload ((q_12 _).trans rfl) rfl ?_
  refine g_iload ((q_12 _).trans rfl) rfl ?_
  refine g_iload ((q_12 _).trans rfl) rfl ?_
  refine g_callVH (kk := 2) ((q_12 _).trans rfl) rfl (by exact ⟨Nat.le_of_ble_eq_true rfl, rfl⟩) rfl (fun w G1 => gm_I (fun v2 hw => ?_))
  subst hw
  refine g_i2l ((q_12 _).trans rfl) ?_
  refine g_last ((q_12 _).trans rfl) (fun G3 => ?_)
  refine g_goto ((q_12 _).trans rfl) ?_
  refine g_push ((q_12 _).trans rfl) ?_
  exact g_iret ((q_12 _).trans rfl)
theorem c_12 {K : gK} {d : Nat} {l0 : Nat} {l1 : Int32} {l2 : Int32} {l3 : Nat} {G : gH} : gle (t_12_0 K d l0 l1 l2 l3 G) (gCa K (d + 1) 12 [.ref l0, .int l1, .int l2, .ref l3] G) := by
  have h : gent (gMx 12) [.ref l0, .int l1, .int l2, .ref l3] = [some (.ref l0), some (.int l1), some (.int l2), some (.ref l3), none] := by
    show gent (gT 12).2.2.2.1 _ = _
    rw [m_12]; rfl
  exact fun r e => (congrArg (fun q => gRn K d 12 0 q [] G) h).trans (e_12_0 r e)
theorem q_14 {K : gK} (pc : Nat) : gP K 14 pc = ((gL_14 K).lookup pc).getD o_none := rfl
noncomputable def t_14_0_1 (K : gK) (d : Nat) (G3 : gH) : Option gO := some (.inl (some (.int (0 : Int32))), G3)
noncomputable def t_14_0_2 (K : gK) (d : Nat) (l4 : Nat) (v2 : Int32) (G1 : gH) : Option gO := yJ G1 l4 (0 : Int32) ((v2).toInt64) (t_14_0_1 K d)
noncomputable def t_14_0 (K : gK) (d : Nat) (l0 : Nat) (l1 : Int32) (l2 : Int32) (l3 : Int32) (l4 : Nat) (G : gH) : Option gO := if g_cls G l0 = some 0 then (bH 14 7 (gCa K d 95 [.ref l0, .int l1, .int l2, .int l3] G) (kI (t_14_0_2 K d l4))) else none
theorem e_14_0 {K : gK} {d : Nat} {l0 : Nat} {l1 : Int32} {l2 : Int32} {l3 : Int32} {l4 : Nat} {G : gH} : gle (t_14_0 K d l0 l1 l2 l3 l4 G) (gRn K d 14 0 [some (.ref l0), some (.int l1), some (.int l2), some (.int l3), some (.ref l4), none] [] G) := by
  unfold t_14_0
  refine g_aload ((q_14 _).trans rfl) rfl ?_
  refine g_push ((q_14 _).trans rfl) ?_
  refine g_aload ((q_14 _).trans rfl) rfl ?_
  refine g_iload ((q_14 _).trans rfl) rfl ?_
  refine g_iload ((q_14 _).trans rfl) rfl ?_
  refine g_iload ((q_14 _).trans rfl) rfl ?_
  refine g_callVH (kk := 3) ((q_14 _).trans rfl) rfl (by exact ⟨Nat.le_of_ble_eq_true rfl, rfl⟩) rfl (fun w G1 => gm_I (fun v2 hw => ?_))
  subst hw
  refine g_i2l ((q_14 _).trans rfl) ?_
  refine g_last ((q_14 _).trans rfl) (fun G3 => ?_)
  refine g_goto ((q_14 _).trans rfl) ?_
  refine g_push ((q_14 _).trans rfl) ?_
  exact g_iret ((q_14 _).trans rfl)
theorem c_14 {K : gK} {d : Nat} {l0 : Nat} {l1 : Int32} {l2 : Int32} {l3 : Int32} {l4 : Nat} {G : gH} : gle (t_14_0 K d l0 l1 l2 l3 l4 G) (gCa K (d + 1) 14 [.ref l0, .int l1, .int l2, .int l3, .ref l4] G) := by
  have h : gent (gMx 14) [.ref l0, .int l1, .int l2, .int l3, .ref l4] = [some (.ref l0), some (.int l1), some (.int l2), some (.int l3), some (.ref l4), none] := by
    show gent (gT 14).2.2.2.1 _ = _
    rw [m_14]; rfl
  exact fun r e => (congrArg (fun q => gRn K d 14 0 q [] G) h).trans (e_14_0 r e)
theorem q_16 {K : gK} (pc : Nat) : gP K 16 pc = ((gL_16 K).lookup pc).getD o_none := rfl
noncomputable def t_16_0_1 (K : gK) (d : Nat) (G3 : gH) : Option gO := some (.inl (some (.int (0 : Int32))), G3)
noncomputable def t_16_0_2 (K : gK) (d : Nat) (l5 : Nat) (v2 : Int32) (G1 : gH) : Option gO := yJ G1 l5 (0 : Int32) ((v2).toInt64) (t_16_0_1 K d)
noncomputable def t_16_0 (K : gK) (d : Nat) (l0 : Nat) (l1 : Int32) (l2 : Int32) (l3 : Int32) (l4 : Int32) (l5 : Nat) (G : gH) : Option gO := if g_cls G l0 = some 0 then (bH 16 9 (gCa K d 98 [.ref l0, .int l1, .int l2, .int l3, .int l4] G) (kI (t_16_0_2 K d l5))) else none
theorem e_16_0 {K : gK} {d : Nat} {l0 : Nat} {l1 : Int32} {l2 : Int32} {l3 : Int32} {l4 : Int32} {l5 : Nat} {G : gH} : gle (t_16_0 K d l0 l1 l2 l3 l4 l5 G) (gRn K d 16 0 [some (.ref l0), some (.int l1), some (.int l2), some (.int l3), some (.int l4), some (.ref l5), none] [] G) := by
  unfold t_16_0
  refine g_aload ((q_16 _).trans rfl) rfl ?_
  refine g_push ((q_16 _).trans rfl) ?_
  refine g_aload ((q_16 _).trans rfl) rfl ?_
  refine g_iload ((q_16 _).trans rfl) rfl ?_
  refine g_iload ((q_16 _).trans rfl) rfl ?_
  refine g_iload ((q_16 _).trans rfl) rfl ?_
  refine g_iload ((q_16 _).trans rfl) rfl ?_
  refine g_callVH (kk := 4) ((q_16 _).trans rfl) rfl (by exact ⟨Nat.le_of_ble_eq_true rfl, rfl⟩) rfl (fun w G1 => gm_I (fun v2 hw => ?_))
  subst hw
  refine g_i2l ((q_16 _).trans rfl) ?_
  refine g_last ((q_16 _).trans rfl) (fun G3 => ?_)
  refine g_goto ((q_16 _).trans rfl) ?_
  refine g_push ((q_16 _).trans rfl) ?_
  exact g_iret ((q_16 _).trans rfl)
theorem c_16 {K : gK} {d : Nat} {l0 : Nat} {l1 : Int32} {l2 : Int32} {l3 : Int32} {l4 : Int32} {l5 : Nat} {G : gH} : gle (t_16_0 K d l0 l1 l2 l3 l4 l5 G) (gCa K (d + 1) 16 [.ref l0, .int l1, .int l2, .int l3, .int l4, .ref l5] G) := by
  have h : gent (gMx 16) [.ref l0, .int l1, .int l2, .int l3, .int l4, .ref l5] = [some (.ref l0), some (.int l1), some (.int l2), some (.int l3), some (.int l4), some (.ref l5), none] := by
    show gent (gT 16).2.2.2.1 _ = _
    rw [m_16]; rfl
  exact fun r e => (congrArg (fun q => gRn K d 16 0 q [] G) h).trans (e_16_0 r e)
theorem q_18 {K : gK} (pc : Nat) : gP K 18 pc = ((gL_18 K).lookup pc).getD o_none := rfl
noncomputable def t_18_0_1 (K : gK) (d : Nat) (G3 : gH) : Option gO := some (.inl (some (.int (0 : Int32))), G3)
noncomputable def t_18_0_2 (K : gK) (d : Nat) (l2 : Nat) (v2 : Int32) (G1 : gH) : Option gO := yJ G1 l2 (0 : Int32) ((v2).toInt64) (t_18_0_1 K d)
noncomputable def t_18_0 (K : gK) (d : Nat) (l0 : Nat) (l1 : Int32) (l2 : Nat) (G : gH) : Option gO := if g_cls G l0 = some 0 then (bH 18 4 (gCa K d 99 [.ref l0, .int l1] G) (kI (t_18_0_2 K d l2))) else none
theorem e_18_0 {K : gK} {d : Nat} {l0 : Nat} {l1 : Int32} {l2 : Nat} {G : gH} : gle (t_18_0 K d l0 l1 l2 G) (gRn K d 18 0 [some (.ref l0), some (.int l1), some (.ref l2), none] [] G) := by
  unfold t_18_0
  refine g_aload ((q_18 _).trans rfl) rfl ?_
  refine g_push ((q_18 _).trans rfl) ?_
  refine g_aload ((q_18 _).trans rfl) rfl ?_
  refine g_iload ((q_18 _).trans rfl) rfl ?_
  refine g_callVH (kk := 1) ((q_18 _).trans rfl) rfl (by exact ⟨Nat.le_of_ble_eq_true rfl, rfl⟩) rfl (fun w G1 => gm_I (fun v2 hw => ?_))
  subst hw
  refine g_i2l ((q_18 _).trans rfl) ?_
  refine g_last ((q_18 _).trans rfl) (fun G3 => ?_)
  refine g_goto ((q_18 _).trans rfl) ?_
  refine g_push ((q_18 _).trans rfl) ?_
  exact g_iret ((q_18 _).trans rfl)
theorem c_18 {K : gK} {d : Nat} {l0 : Nat} {l1 : Int32} {l2 : Nat} {G : gH} : gle (t_18_0 K d l0 l1 l2 G) (gCa K (d + 1) 18 [.ref l0, .int l1, .ref l2] G) := by
  have h : gent (gMx 18) [.ref l0, .int l1, .ref l2] = [some (.ref l0), some (.int l1), some (.ref l2), none] := by
    show gent (gT 18).2.2.2.1 _ = _
    rw [m_18]; rfl
  exact fun r e => (congrArg (fun q => gRn K d 18 0 q [] G) h).trans (e_18_0 r e)
theorem q_20 {K : gK} (pc : Nat) : gP K 20 pc = ((gL_20 K).lookup pc).getD o_none := rfl
noncomputable def t_20_0_1 (K : gK) (d : Nat) (G3 : gH) : Option gO := some (.inl (some (.int (0 : Int32))), G3)
noncomputable def t_20_0_2 (K : gK) (d : Nat) (l6 : Nat) (v2 : Int32) (G1 : gH) : Option gO := yJ G1 l6 (0 : Int32) ((v2).toInt64) (t_20_0_1 K d)
noncomputable def t_20_0 (K : gK) (d : Nat) (l0 : Nat) (l1 : Int32) (l2 : Int32) (l3 : Int32) (l4 : Int32) (l5 : Int32) (l6 : Nat) (G : gH) : Option gO := if g_cls G l0 = some 0 then (bH 20 11 (gCa K d 100 [.ref l0, .int l1, .int l2, .int l3, .int l4, .int l5] G) (kI (t_20_0_2 K d l6))) else none
theorem e_20_0 {K : gK} {d : Nat} {l0 : Nat} {l1 : Int32} {l2 : Int32} {l3 : Int32} {l4 : Int32} {l5 : Int32} {l6 : Nat} {G : gH} : gle (t_20_0 K d l0 l1 l2 l3 l4 l5 l6 G) (gRn K d 20 0 [some (.ref l0), some (.int l1), some (.int l2), some (.int l3), some (.int l4), some (.int l5), some (.ref l6), none] [] G) := by
  unfold t_20_0
  refine g_aload ((q_20 _).trans rfl) rfl ?_
  refine g_push ((q_20 _).trans rfl) ?_
  refine g_aload ((q_20 _).trans rfl) rfl ?_
  refine g_iload ((q_20 _).trans rfl) rfl ?_
  refine g_iload ((q_20 _).trans rfl) rfl ?_
  refine g_iload ((q_20 _).trans rfl) rfl ?_
  refine g_iload ((q_20 _).trans rfl) rfl ?_
  refine g_iload ((q_20 _).trans rfl) rfl ?_
  refine g_callVH (kk := 5) ((q_20 _).trans rfl) rfl (by exact ⟨Nat.le_of_ble_eq_true rfl, rfl⟩) rfl (fun w G1 => gm_I (fun v2 hw => ?_))
  subst hw
  refine g_i2l ((q_20 _).trans rfl) ?_
  refine g_last ((q_20 _).trans rfl) (fun G3 => ?_)
  refine g_goto ((q_20 _).trans rfl) ?_
  refine g_push ((q_20 _).trans rfl) ?_
  exact g_iret ((q_20 _).trans rfl)
theorem c_20 {K : gK} {d : Nat} {l0 : Nat} {l1 : Int32} {l2 : Int32} {l3 : Int32} {l4 : Int32} {l5 : Int32} {l6 : Nat} {G : gH} : gle (t_20_0 K d l0 l1 l2 l3 l4 l5 l6 G) (gCa K (d + 1) 20 [.ref l0, .int l1, .int l2, .int l3, .int l4, .int l5, .ref l6] G) := by
  have h : gent (gMx 20) [.ref l0, .int l1, .int l2, .int l3, .int l4, .int l5, .ref l6] = [some (.ref l0), some (.int l1), some (.int l2), some (.int l3), some (.int l4), some (.int l5), some (.ref l6), none] := by
    show gent (gT 20).2.2.2.1 _ = _
    rw [m_20]; rfl
  exact fun r e => (congrArg (fun q => gRn K d 20 0 q [] G) h).trans (e_20_0 r e)
theorem q_22 {K : gK} (pc : Nat) : gP K 22 pc = ((gL_22 K).lookup pc).getD o_none := rfl
noncomputable def t_22_0_1 (K : gK) (d : Nat) (G3 : gH) : Option gO := some (.inl (some (.int (0 : Int32))), G3)
noncomputable def t_22_0_2 (K : gK) (d : Nat) (l6 : Nat) (v2 : Int32) (G1 : gH) : Option gO := yJ G1 l6 (0 : Int32) ((v2).toInt64) (t_22_0_1 K d)
noncomputable def t_22_0 (K : gK) (d : Nat) (l0 : Nat) (l1 : Int32) (l2 : Int32) (l3 : Int32) (l4 : Int32) (l5 : Int32) (l6 : Nat) (G : gH) : Option gO := if g_cls G l0 = some 0 then (bH 22 11 (gCa K d 103 [.ref l0, .int l1, .int l2, .int l3, .int l4, .int l5] G) (kI (t_22_0_2 K d l6))) else none
theorem e_22_0 {K : gK} {d : Nat} {l0 : Nat} {l1 : Int32} {l2 : Int32} {l3 : Int32} {l4 : Int32} {l5 : Int32} {l6 : Nat} {G : gH} : gle (t_22_0 K d l0 l1 l2 l3 l4 l5 l6 G) (gRn K d 22 0 [some (.ref l0), some (.int l1), some (.int l2), some (.int l3), some (.int l4), some (.int l5), some (.ref l6), none] [] G) := by
  unfold t_22_0
  refine g_aload ((q_22 _).trans rfl) rfl ?_
  refine g_push ((q_22 _).trans rfl) ?_
  refine g_aload ((q_22 _).trans rfl) rfl ?_
  refine g_iload ((q_22 _).trans rfl) rfl ?_
  refine g_iload ((q_22 _).trans rfl) rfl ?_
  refine g_iload ((q_22 _).trans rfl) rfl ?_
  refine g_iload ((q_22 _).trans rfl) rfl ?_
  refine g_iload ((q_22 _).trans rfl) rfl ?_
  refine g_callVH (kk := 5) ((q_22 _).trans rfl) rfl (by exact ⟨Nat.le_of_ble_eq_true rfl, rfl⟩) rfl (fun w G1 => gm_I (fun v2 hw => ?_))
  subst hw
  refine g_i2l ((q_22 _).trans rfl) ?_
  refine g_last ((q_22 _).trans rfl) (fun G3 => ?_)
  refine g_goto ((q_22 _).trans rfl) ?_
  refine g_push ((q_22 _).trans rfl) ?_
  exact g_iret ((q_22 _).trans rfl)
theorem c_22 {K : gK} {d : Nat} {l0 : Nat} {l1 : Int32} {l2 : Int32} {l3 : Int32} {l4 : Int32} {l5 : Int32} {l6 : Nat} {G : gH} : gle (t_22_0 K d l0 l1 l2 l3 l4 l5 l6 G) (gCa K (d + 1) 22 [.ref l0, .int l1, .int l2, .int l3, .int l4, .int l5, .ref l6] G) := by
  have h : gent (gMx 22) [.ref l0, .int l1, .int l2, .int l3, .int l4, .int l5, .ref l6] = [some (.ref l0), some (.int l1), some (.int l2), some (.int l3), some (.int l4), some (.int l5), some (.ref l6), none] := by
    show gent (gT 22).2.2.2.1 _ = _
    rw [m_22]; rfl
  exact fun r e => (congrArg (fun q => gRn K d 22 0 q [] G) h).trans (e_22_0 r e)
theorem q_24 {K : gK} (pc : Nat) : gP K 24 pc = ((gL_24 K).lookup pc).getD o_none := rfl
noncomputable def t_24_0_1 (K : gK) (d : Nat) (G3 : gH) : Option gO := some (.inl (some (.int (0 : Int32))), G3)
noncomputable def t_24_0_2 (K : gK) (d : Nat) (l3 : Nat) (v2 : Int32) (G1 : gH) : Option gO := yJ G1 l3 (0 : Int32) ((v2).toInt64) (t_24_0_1 K d)
noncomputable def t_24_0 (K : gK) (d : Nat) (l0 : Nat) (l1 : Int32) (l2 : Int32) (l3 : Nat) (G : gH) : Option gO := if g_cls G l0 = some 0 then (bH 24 5 (gCa K d 104 [.ref l0, .int l1, .int l2] G) (kI (t_24_0_2 K d l3))) else none
theorem e_24_0 {K : gK} {d : Nat} {l0 : Nat} {l1 : Int32} {l2 : Int32} {l3 : Nat} {G : gH} : gle (t_24_0 K d l0 l1 l2 l3 G) (gRn K d 24 0 [some (.ref l0), some (.int l1), some (.int l2), some (.ref l3), none] [] G) := by
  unfold t_24_0
  refine g_aload ((q_24 _).trans rfl) rfl ?_
  refine g_push ((q_24 _).trans rfl) ?_
  refine g_aload ((q_24 _).trans rfl) rfl ?_
  refine g_iload ((q_24 _).trans rfl) rfl ?_
  refine g_iload ((q_24 _).trans rfl) rfl ?_
  refine g_callVH (kk := 2) ((q_24 _).trans rfl) rfl (by exact ⟨Nat.le_of_ble_eq_true rfl, rfl⟩) rfl (fun w G1 => gm_I (fun v2 hw => ?_))
  subst hw
  refine g_i2l ((q_24 _).trans rfl) ?_
  refine g_last ((q_24 _).trans rfl) (fun G3 => ?_)
  refine g_goto ((q_24 _).trans rfl) ?_
  refine g_push ((q_24 _).trans rfl) ?_
  exact g_iret ((q_24 _).trans rfl)
theorem c_24 {K : gK} {d : Nat} {l0 : Nat} {l1 : Int32} {l2 : Int32} {l3 : Nat} {G : gH} : gle (t_24_0 K d l0 l1 l2 l3 G) (gCa K (d + 1) 24 [.ref l0, .int l1, .int l2, .ref l3] G) := by
  have h : gent (gMx 24) [.ref l0, .int l1, .int l2, .ref l3] = [some (.ref l0), some (.int l1), some (.int l2), some (.ref l3), none] := by
    show gent (gT 24).2.2.2.1 _ = _
    rw [m_24]; rfl
  exact fun r e => (congrArg (fun q => gRn K d 24 0 q [] G) h).trans (e_24_0 r e)
theorem q_26 {K : gK} (pc : Nat) : gP K 26 pc = ((gL_26 K).lookup pc).getD o_none := rfl
noncomputable def t_26_0_1 (K : gK) (d : Nat) (G3 : gH) : Option gO := some (.inl (some (.int (0 : Int32))), G3)
noncomputable def t_26_0_2 (K : gK) (d : Nat) (l2 : Nat) (v2 : Int32) (G1 : gH) : Option gO := yJ G1 l2 (0 : Int32) ((v2).toInt64) (t_26_0_1 K d)
noncomputable def t_26_0 (K : gK) (d : Nat) (l0 : Nat) (l1 : Int32) (l2 : Nat) (G : gH) : Option gO := if g_cls G l0 = some 0 then (bH 26 4 (gCa K d 106 [.ref l0, .int l1] G) (kI (t_26_0_2 K d l2))) else none
theorem e_26_0 {K : gK} {d : Nat} {l0 : Nat} {l1 : Int32} {l2 : Nat} {G : gH} : gle (t_26_0 K d l0 l1 l2 G) (gRn K d 26 0 [some (.ref l0), some (.int l1), some (.ref l2), none] [] G) := by
  unfold t_26_0
  refine g_aload ((q_26 _).trans rfl) rfl ?_
  refine g_push ((q_26 _).trans rfl) ?_
  refine g_aload ((q_26 _).trans rfl) rfl ?_
  refine g_iload ((q_26 _).trans rfl) rfl ?_
  refine g_callVH (kk := 1) ((q_26 _).trans rfl) rfl (by exact ⟨Nat.le_of_ble_eq_true rfl, rfl⟩) rfl (fun w G1 => gm_I (fun v2 hw => ?_))
  subst hw
  refine g_i2l ((q_26 _).trans rfl) ?_
  refine g_last ((q_26 _).trans rfl) (fun G3 => ?_)
  refine g_goto ((q_26 _).trans rfl) ?_
  refine g_push ((q_26 _).trans rfl) ?_
  exact g_iret ((q_26 _).trans rfl)
theorem c_26 {K : gK} {d : Nat} {l0 : Nat} {l1 : Int32} {l2 : Nat} {G : gH} : gle (t_26_0 K d l0 l1 l2 G) (gCa K (d + 1) 26 [.ref l0, .int l1, .ref l2] G) := by
  have h : gent (gMx 26) [.ref l0, .int l1, .ref l2] = [some (.ref l0), some (.int l1), some (.ref l2), none] := by
    show gent (gT 26).2.2.2.1 _ = _
    rw [m_26]; rfl
  exact fun r e => (congrArg (fun q => gRn K d 26 0 q [] G) h).trans (e_26_0 r e)
theorem q_32 {K : gK} (pc : Nat) : gP K 32 pc = ((gL_32 K).lookup pc).getD o_none := rfl
noncomputable def t_32_0_1 (K : gK) (d : Nat) (G3 : gH) : Option gO := some (.inl (some (.int (0 : Int32))), G3)
noncomputable def t_32_0_2 (K : gK) (d : Nat) (l2 : Nat) (v2 : Int32) (G1 : gH) : Option gO := yJ G1 l2 (0 : Int32) ((v2).toInt64) (t_32_0_1 K d)
noncomputable def t_32_0 (K : gK) (d : Nat) (l0 : Nat) (l1 : Int32) (l2 : Nat) (G : gH) : Option gO := if g_cls G l0 = some 0 then (bH 32 4 (gCa K d 113 [.ref l0, .int l1] G) (kI (t_32_0_2 K d l2))) else none
theorem e_32_0 {K : gK} {d : Nat} {l0 : Nat} {l1 : Int32} {l2 : Nat} {G : gH} : gle (t_32_0 K d l0 l1 l2 G) (gRn K d 32 0 [some (.ref l0), some (.int l1), some (.ref l2), none] [] G) := by
  unfold t_32_0
  refine g_aload ((q_32 _).trans rfl) rfl ?_
  refine g_push ((q_32 _).trans rfl) ?_
  refine g_aload ((q_32 _).trans rfl) rfl ?_
  refine g_iload ((q_32 _).trans rfl) rfl ?_
  refine g_callVH (kk := 1) ((q_32 _).trans rfl) rfl (by exact ⟨Nat.le_of_ble_eq_true rfl, rfl⟩) rfl (fun w G1 => gm_I (fun v2 hw => ?_))
  subst hw
  refine g_i2l ((q_32 _).trans rfl) ?_
  refine g_last ((q_32 _).trans rfl) (fun G3 => ?_)
  refine g_goto ((q_32 _).trans rfl) ?_
  refine g_push ((q_32 _).trans rfl) ?_
  exact g_iret ((q_32 _).trans rfl)
theorem c_32 {K : gK} {d : Nat} {l0 : Nat} {l1 : Int32} {l2 : Nat} {G : gH} : gle (t_32_0 K d l0 l1 l2 G) (gCa K (d + 1) 32 [.ref l0, .int l1, .ref l2] G) := by
  have h : gent (gMx 32) [.ref l0, .int l1, .ref l2] = [some (.ref l0), some (.int l1), some (.ref l2), none] := by
    show gent (gT 32).2.2.2.1 _ = _
    rw [m_32]; rfl
  exact fun r e => (congrArg (fun q => gRn K d 32 0 q [] G) h).trans (e_32_0 r e)
theorem q_34 {K : gK} (pc : Nat) : gP K 34 pc = ((gL_34 K).lookup pc).getD o_none := rfl
noncomputable def t_34_0_1 (K : gK) (d : Nat) (G3 : gH) : Option gO := some (.inl (some (.int (0 : Int32))), G3)
noncomputable def t_34_0_2 (K : gK) (d : Nat) (l2 : Nat) (v2 : Int32) (G1 : gH) : Option gO := yJ G1 l2 (0 : Int32) ((v2).toInt64) (t_34_0_1 K d)
noncomputable def t_34_0 (K : gK) (d : Nat) (l0 : Nat) (l1 : Int32) (l2 : Nat) (G : gH) : Option gO := if g_cls G l0 = some 0 then (bH 34 4 (gCa K d 114 [.ref l0, .int l1] G) (kI (t_34_0_2 K d l2))) else none
theorem e_34_0 {K : gK} {d : Nat} {l0 : Nat} {l1 : Int32} {l2 : Nat} {G : gH} : gle (t_34_0 K d l0 l1 l2 G) (gRn K d 34 0 [some (.ref l0), some (.int l1), some (.ref l2), none] [] G) := by
  unfold t_34_0
  refine g_aload ((q_34 _).trans rfl) rfl ?_
  refine g_push ((q_34 _).trans rfl) ?_
  refine g_aload ((q_34 _).trans rfl) rfl ?_
  refine g_iload ((q_34 _).trans rfl) rfl ?_
  refine g_callVH (kk := 1) ((q_34 _).trans rfl) rfl (by exact ⟨Nat.le_of_ble_eq_true rfl, rfl⟩) rfl (fun w G1 => gm_I (fun v2 hw => ?_))
  subst hw
  refine g_i2l ((q_34 _).trans rfl) ?_
  refine g_last ((q_34 _).trans rfl) (fun G3 => ?_)
  refine g_goto ((q_34 _).trans rfl) ?_
  refine g_push ((q_34 _).trans rfl) ?_
  exact g_iret ((q_34 _).trans rfl)
theorem c_34 {K : gK} {d : Nat} {l0 : Nat} {l1 : Int32} {l2 : Nat} {G : gH} : gle (t_34_0 K d l0 l1 l2 G) (gCa K (d + 1) 34 [.ref l0, .int l1, .ref l2] G) := by
  have h : gent (gMx 34) [.ref l0, .int l1, .ref l2] = [some (.ref l0), some (.int l1), some (.ref l2), none] := by
    show gent (gT 34).2.2.2.1 _ = _
    rw [m_34]; rfl
  exact fun r e => (congrArg (fun q => gRn K d 34 0 q [] G) h).trans (e_34_0 r e)
theorem q_36 {K : gK} (pc : Nat) : gP K 36 pc = ((gL_36 K).lookup pc).getD o_none := rfl
noncomputable def t_36_0_1 (K : gK) (d : Nat) (G3 : gH) : Option gO := some (.inl (some (.int (0 : Int32))), G3)
noncomputable def t_36_0_2 (K : gK) (d : Nat) (l2 : Nat) (v2 : Int32) (G1 : gH) : Option gO := yJ G1 l2 (0 : Int32) ((v2).toInt64) (t_36_0_1 K d)
noncomputable def t_36_0 (K : gK) (d : Nat) (l0 : Nat) (l1 : Int32) (l2 : Nat) (G : gH) : Option gO := if g_cls G l0 = some 0 then (bH 36 4 (gCa K d 115 [.ref l0, .int l1] G) (kI (t_36_0_2 K d l2))) else none
theorem e_36_0 {K : gK} {d : Nat} {l0 : Nat} {l1 : Int32} {l2 : Nat} {G : gH} : gle (t_36_0 K d l0 l1 l2 G) (gRn K d 36 0 [some (.ref l0), some (.int l1), some (.ref l2), none] [] G) := by
  unfold t_36_0
  refine g_aload ((q_36 _).trans rfl) rfl ?_
  refine g_push ((q_36 _).trans rfl) ?_
  refine g_aload ((q_36 _).trans rfl) rfl ?_
  refine g_iload ((q_36 _).trans rfl) rfl ?_
  refine g_callVH (kk := 1) ((q_36 _).trans rfl) rfl (by exact ⟨Nat.le_of_ble_eq_true rfl, rfl⟩) rfl (fun w G1 => gm_I (fun v2 hw => ?_))
  subst hw
  refine g_i2l ((q_36 _).trans rfl) ?_
  refine g_last ((q_36 _).trans rfl) (fun G3 => ?_)
  refine g_goto ((q_36 _).trans rfl) ?_
  refine g_push ((q_36 _).trans rfl) ?_
  exact g_iret ((q_36 _).trans rfl)
theorem c_36 {K : gK} {d : Nat} {l0 : Nat} {l1 : Int32} {l2 : Nat} {G : gH} : gle (t_36_0 K d l0 l1 l2 G) (gCa K (d + 1) 36 [.ref l0, .int l1, .ref l2] G) := by
  have h : gent (gMx 36) [.ref l0, .int l1, .ref l2] = [some (.ref l0), some (.int l1), some (.ref l2), none] := by
    show gent (gT 36).2.2.2.1 _ = _
    rw [m_36]; rfl
  exact fun r e => (congrArg (fun q => gRn K d 36 0 q [] G) h).trans (e_36_0 r e)
theorem q_38 {K : gK} (pc : Nat) : gP K 38 pc = ((gL_38 K).lookup pc).getD o_none := rfl
noncomputable def t_38_0_1 (K : gK) (d : Nat) (G3 : gH) : Option gO := some (.inl (some (.int (0 : Int32))), G3)
noncomputable def t_38_0_2 (K : gK) (d : Nat) (l3 : Nat) (v2 : Int32) (G1 : gH) : Option gO := yJ G1 l3 (0 : Int32) ((v2).toInt64) (t_38_0_1 K d)
noncomputable def t_38_0 (K : gK) (d : Nat) (l0 : Nat) (l1 : Int32) (l2 : Int32) (l3 : Nat) (G : gH) : Option gO := if g_cls G l0 = some 0 then (bH 38 5 (gCa K d 116 [.ref l0, .int l1, .int l2] G) (kI (t_38_0_2 K d l3))) else none
theorem e_38_0 {K : gK} {d : Nat} {l0 : Nat} {l1 : Int32} {l2 : Int32} {l3 : Nat} {G : gH} : gle (t_38_0 K d l0 l1 l2 l3 G) (gRn K d 38 0 [some (.ref l0), some (.int l1), some (.int l2), some (.ref l3), none] [] G) := by
  unfold t_38_0
  refine g_aload ((q_38 _).trans rfl) rfl ?_
  refine g_push ((q_38 _).trans rfl) ?_
  refine g_aload ((q_38 _).trans rfl) rfl ?_
  refine g_iload ((q_38 _).trans rfl) rfl ?_
  refine g_iload ((q_38 _).trans rfl) rfl ?_
  refine g_callVH (kk := 2) ((q_38 _).trans rfl) rfl (by exact ⟨Nat.le_of_ble_eq_true rfl, rfl⟩) rfl (fun w G1 => gm_I (fun v2 hw => ?_))
  subst hw
  refine g_i2l ((q_38 _).trans rfl) ?_
  refine g_last ((q_38 _).trans rfl) (fun G3 => ?_)
  refine g_goto ((q_38 _).trans rfl) ?_
  refine g_push ((q_38 _).trans rfl) ?_
  exact g_iret ((q_38 _).trans rfl)
theorem c_38 {K : gK} {d : Nat} {l0 : Nat} {l1 : Int32} {l2 : Int32} {l3 : Nat} {G : gH} : gle (t_38_0 K d l0 l1 l2 l3 G) (gCa K (d + 1) 38 [.ref l0, .int l1, .int l2, .ref l3] G) := by
  have h : gent (gMx 38) [.ref l0, .int l1, .int l2, .ref l3] = [some (.ref l0), some (.int l1), some (.int l2), some (.ref l3), none] := by
    show gent (gT 38).2.2.2.1 _ = _
    rw [m_38]; rfl
  exact fun r e => (congrArg (fun q => gRn K d 38 0 q [] G) h).trans (e_38_0 r e)
theorem q_40 {K : gK} (pc : Nat) : gP K 40 pc = ((gL_40 K).lookup pc).getD o_none := rfl
noncomputable def t_40_0_1 (K : gK) (d : Nat) (G3 : gH) : Option gO := some (.inl (some (.int (0 : Int32))), G3)
noncomputable def t_40_0_2 (K : gK) (d : Nat) (l3 : Nat) (v2 : Int32) (G1 : gH) : Option gO := yJ G1 l3 (0 : Int32) ((v2).toInt64) (t_40_0_1 K d)
noncomputable def t_40_0 (K : gK) (d : Nat) (l0 : Nat) (l1 : Int32) (l2 : Int32) (l3 : Nat) (G : gH) : Option gO := if g_cls G l0 = some 0 then (bH 40 5 (gCa K d 117 [.ref l0, .int l1, .int l2] G) (kI (t_40_0_2 K d l3))) else none
theorem e_40_0 {K : gK} {d : Nat} {l0 : Nat} {l1 : Int32} {l2 : Int32} {l3 : Nat} {G : gH} : gle (t_40_0 K d l0 l1 l2 l3 G) (gRn K d 40 0 [some (.ref l0), some (.int l1), some (.int l2), some (.ref l3), none] [] G) := by
  unfold t_40_0
  refine g_aload ((q_40 _).trans rfl) rfl ?_
  refine g_push ((q_40 _).trans rfl) ?_
  refine g_aload ((q_40 _).trans rfl) rfl ?_
  refine g_iload ((q_40 _).trans rfl) rfl ?_
  refine g_iload ((q_40 _).trans rfl) rfl ?_
  refine g_callVH (kk := 2) ((q_40 _).trans rfl) rfl (by exact ⟨Nat.le_of_ble_eq_true rfl, rfl⟩) rfl (fun w G1 => gm_I (fun v2 hw => ?_))
  subst hw
  refine g_i2l ((q_40 _).trans rfl) ?_
  refine g_last ((q_40 _).trans rfl) (fun G3 => ?_)
  refine g_goto ((q_40 _).trans rfl) ?_
  refine g_push ((q_40 _).trans rfl) ?_
  exact g_iret ((q_40 _).trans rfl)
theorem c_40 {K : gK} {d : Nat} {l0 : Nat} {l1 : Int32} {l2 : Int32} {l3 : Nat} {G : gH} : gle (t_40_0 K d l0 l1 l2 l3 G) (gCa K (d + 1) 40 [.ref l0, .int l1, .int l2, .ref l3] G) := by
  have h : gent (gMx 40) [.ref l0, .int l1, .int l2, .ref l3] = [some (.ref l0), some (.int l1), some (.int l2), some (.ref l3), none] := by
    show gent (gT 40).2.2.2.1 _ = _
    rw [m_40]; rfl
  exact fun r e => (congrArg (fun q => gRn K d 40 0 q [] G) h).trans (e_40_0 r e)
theorem q_46 {K : gK} (pc : Nat) : gP K 46 pc = ((gL_46 K).lookup pc).getD o_none := rfl
noncomputable def t_46_0_1 (K : gK) (d : Nat) (G3 : gH) : Option gO := some (.inl (some (.int (0 : Int32))), G3)
noncomputable def t_46_0_2 (K : gK) (d : Nat) (l2 : Nat) (v2 : Int32) (G1 : gH) : Option gO := yJ G1 l2 (0 : Int32) ((v2).toInt64) (t_46_0_1 K d)
noncomputable def t_46_0 (K : gK) (d : Nat) (l0 : Nat) (l1 : Int32) (l2 : Nat) (G : gH) : Option gO := if g_cls G l0 = some 0 then (bH 46 4 (gCa K d 120 [.ref l0, .int l1] G) (kI (t_46_0_2 K d l2))) else none
theorem e_46_0 {K : gK} {d : Nat} {l0 : Nat} {l1 : Int32} {l2 : Nat} {G : gH} : gle (t_46_0 K d l0 l1 l2 G) (gRn K d 46 0 [some (.ref l0), some (.int l1), some (.ref l2), none] [] G) := by
  unfold t_46_0
  refine g_aload ((q_46 _).trans rfl) rfl ?_
  refine g_push ((q_46 _).trans rfl) ?_
  refine g_aload ((q_46 _).trans rfl) rfl ?_
  refine g_iload ((q_46 _).trans rfl) rfl ?_
  refine g_callVH (kk := 1) ((q_46 _).trans rfl) rfl (by exact ⟨Nat.le_of_ble_eq_true rfl, rfl⟩) rfl (fun w G1 => gm_I (fun v2 hw => ?_))
  subst hw
  refine g_i2l ((q_46 _).trans rfl) ?_
  refine g_last ((q_46 _).trans rfl) (fun G3 => ?_)
  refine g_goto ((q_46 _).trans rfl) ?_
  refine g_push ((q_46 _).trans rfl) ?_
  exact g_iret ((q_46 _).trans rfl)
theorem c_46 {K : gK} {d : Nat} {l0 : Nat} {l1 : Int32} {l2 : Nat} {G : gH} : gle (t_46_0 K d l0 l1 l2 G) (gCa K (d + 1) 46 [.ref l0, .int l1, .ref l2] G) := by
  have h : gent (gMx 46) [.ref l0, .int l1, .ref l2] = [some (.ref l0), some (.int l1), some (.ref l2), none] := by
    show gent (gT 46).2.2.2.1 _ = _
    rw [m_46]; rfl
  exact fun r e => (congrArg (fun q => gRn K d 46 0 q [] G) h).trans (e_46_0 r e)
theorem q_48 {K : gK} (pc : Nat) : gP K 48 pc = ((gL_48 K).lookup pc).getD o_none := rfl
noncomputable def t_48_0_1 (K : gK) (d : Nat) (G3 : gH) : Option gO := some (.inl (some (.int (0 : Int32))), G3)
noncomputable def t_48_0_2 (K : gK) (d : Nat) (l1 : Nat) (v2 : Int32) (G1 : gH) : Option gO := yJ G1 l1 (0 : Int32) ((v2).toInt64) (t_48_0_1 K d)
noncomputable def t_48_0 (K : gK) (d : Nat) (l0 : Nat) (l1 : Nat) (G : gH) : Option gO := if g_cls G l0 = some 0 then (bH 48 3 (gCa K d 121 [.ref l0] G) (kI (t_48_0_2 K d l1))) else none
theorem e_48_0 {K : gK} {d : Nat} {l0 : Nat} {l1 : Nat} {G : gH} : gle (t_48_0 K d l0 l1 G) (gRn K d 48 0 [some (.ref l0), some (.ref l1), none] [] G) := by
  unfold t_48_0
  refine g_aload ((q_48 _).trans rfl) rfl ?_
  refine g_push ((q_48 _).trans rfl) ?_
  refine g_aload ((q_48 _).trans rfl) rfl ?_
  refine g_callVH (kk := 0) ((q_48 _).trans rfl) rfl (by exact ⟨Nat.le_of_ble_eq_true rfl, rfl⟩) rfl (fun w G1 => gm_I (fun v2 hw => ?_))
  subst hw
  refine g_i2l ((q_48 _).trans rfl) ?_
  refine g_last ((q_48 _).trans rfl) (fun G3 => ?_)
  refine g_goto ((q_48 _).trans rfl) ?_
  refine g_push ((q_48 _).trans rfl) ?_
  exact g_iret ((q_48 _).trans rfl)
theorem c_48 {K : gK} {d : Nat} {l0 : Nat} {l1 : Nat} {G : gH} : gle (t_48_0 K d l0 l1 G) (gCa K (d + 1) 48 [.ref l0, .ref l1] G) := by
  have h : gent (gMx 48) [.ref l0, .ref l1] = [some (.ref l0), some (.ref l1), none] := by
    show gent (gT 48).2.2.2.1 _ = _
    rw [m_48]; rfl
  exact fun r e => (congrArg (fun q => gRn K d 48 0 q [] G) h).trans (e_48_0 r e)
theorem q_50 {K : gK} (pc : Nat) : gP K 50 pc = ((gL_50 K).lookup pc).getD o_none := rfl
noncomputable def t_50_0_1 (K : gK) (d : Nat) (G3 : gH) : Option gO := some (.inl (some (.int (0 : Int32))), G3)
noncomputable def t_50_0_2 (K : gK) (d : Nat) (l4 : Nat) (v2 : Int32) (G1 : gH) : Option gO := yJ G1 l4 (0 : Int32) ((v2).toInt64) (t_50_0_1 K d)
noncomputable def t_50_0 (K : gK) (d : Nat) (l0 : Nat) (l1 : Int32) (l2 : Int32) (l3 : Int32) (l4 : Nat) (G : gH) : Option gO := if g_cls G l0 = some 0 then (bH 50 7 (gCa K d 122 [.ref l0, .int l1, .int l2, .int l3] G) (kI (t_50_0_2 K d l4))) else none
theorem e_50_0 {K : gK} {d : Nat} {l0 : Nat} {l1 : Int32} {l2 : Int32} {l3 : Int32} {l4 : Nat} {G : gH} : gle (t_50_0 K d l0 l1 l2 l3 l4 G) (gRn K d 50 0 [some (.ref l0), some (.int l1), some (.int l2), some (.int l3), some (.ref l4), none] [] G) := by
  unfold t_50_0
  refine g_aload ((q_50 _).trans rfl) rfl ?_
  refine g_push ((q_50 _).trans rfl) ?_
  refine g_aload ((q_50 _).trans rfl) rfl ?_
  refine g_iload ((q_50 _).trans rfl) rfl ?_
  refine g_iload ((q_50 _).trans rfl) rfl ?_
  refine g_iload ((q_50 _).trans rfl) rfl ?_
  refine g_callVH (kk := 3) ((q_50 _).trans rfl) rfl (by exact ⟨Nat.le_of_ble_eq_true rfl, rfl⟩) rfl (fun w G1 => gm_I (fun v2 hw => ?_))
  subst hw
  refine g_i2l ((q_50 _).trans rfl) ?_
  refine g_last ((q_50 _).trans rfl) (fun G3 => ?_)
  refine g_goto ((q_50 _).trans rfl) ?_
  refine g_push ((q_50 _).trans rfl) ?_
  exact g_iret ((q_50 _).trans rfl)
theorem c_50 {K : gK} {d : Nat} {l0 : Nat} {l1 : Int32} {l2 : Int32} {l3 : Int32} {l4 : Nat} {G : gH} : gle (t_50_0 K d l0 l1 l2 l3 l4 G) (gCa K (d + 1) 50 [.ref l0, .int l1, .int l2, .int l3, .ref l4] G) := by
  have h : gent (gMx 50) [.ref l0, .int l1, .int l2, .int l3, .ref l4] = [some (.ref l0), some (.int l1), some (.int l2), some (.int l3), some (.ref l4), none] := by
    show gent (gT 50).2.2.2.1 _ = _
    rw [m_50]; rfl
  exact fun r e => (congrArg (fun q => gRn K d 50 0 q [] G) h).trans (e_50_0 r e)
theorem q_52 {K : gK} (pc : Nat) : gP K 52 pc = ((gL_52 K).lookup pc).getD o_none := rfl
noncomputable def t_52_0_1 (K : gK) (d : Nat) (G3 : gH) : Option gO := some (.inl (some (.int (0 : Int32))), G3)
noncomputable def t_52_0_2 (K : gK) (d : Nat) (l2 : Nat) (v2 : Int32) (G1 : gH) : Option gO := yJ G1 l2 (0 : Int32) ((v2).toInt64) (t_52_0_1 K d)
noncomputable def t_52_0 (K : gK) (d : Nat) (l0 : Nat) (l1 : Int32) (l2 : Nat) (G : gH) : Option gO := if g_cls G l0 = some 0 then (bH 52 4 (gCa K d 125 [.ref l0, .int l1] G) (kI (t_52_0_2 K d l2))) else none
theorem e_52_0 {K : gK} {d : Nat} {l0 : Nat} {l1 : Int32} {l2 : Nat} {G : gH} : gle (t_52_0 K d l0 l1 l2 G) (gRn K d 52 0 [some (.ref l0), some (.int l1), some (.ref l2), none] [] G) := by
  unfold t_52_0
  refine g_aload ((q_52 _).trans rfl) rfl ?_
  refine g_push ((q_52 _).trans rfl) ?_
  refine g_aload ((q_52 _).trans rfl) rfl ?_
  refine g_iload ((q_52 _).trans rfl) rfl ?_
  refine g_callVH (kk := 1) ((q_52 _).trans rfl) rfl (by exact ⟨Nat.le_of_ble_eq_true rfl, rfl⟩) rfl (fun w G1 => gm_I (fun v2 hw => ?_))
  subst hw
  refine g_i2l ((q_52 _).trans rfl) ?_
  refine g_last ((q_52 _).trans rfl) (fun G3 => ?_)
  refine g_goto ((q_52 _).trans rfl) ?_
  refine g_push ((q_52 _).trans rfl) ?_
  exact g_iret ((q_52 _).trans rfl)
theorem c_52 {K : gK} {d : Nat} {l0 : Nat} {l1 : Int32} {l2 : Nat} {G : gH} : gle (t_52_0 K d l0 l1 l2 G) (gCa K (d + 1) 52 [.ref l0, .int l1, .ref l2] G) := by
  have h : gent (gMx 52) [.ref l0, .int l1, .ref l2] = [some (.ref l0), some (.int l1), some (.ref l2), none] := by
    show gent (gT 52).2.2.2.1 _ = _
    rw [m_52]; rfl
  exact fun r e => (congrArg (fun q => gRn K d 52 0 q [] G) h).trans (e_52_0 r e)
theorem q_54 {K : gK} (pc : Nat) : gP K 54 pc = ((gL_54 K).lookup pc).getD o_none := rfl
noncomputable def t_54_0_1 (K : gK) (d : Nat) (G3 : gH) : Option gO := some (.inl (some (.int (0 : Int32))), G3)
noncomputable def t_54_0_2 (K : gK) (d : Nat) (l2 : Nat) (v2 : Int32) (G1 : gH) : Option gO := yJ G1 l2 (0 : Int32) ((v2).toInt64) (t_54_0_1 K d)
noncomputable def t_54_0 (K : gK) (d : Nat) (l0 : Nat) (l1 : Int32) (l2 : Nat) (G : gH) : Option gO := if g_cls G l0 = some 0 then (bH 54 4 (gCa K d 126 [.ref l0, .int l1] G) (kI (t_54_0_2 K d l2))) else none
theorem e_54_0 {K : gK} {d : Nat} {l0 : Nat} {l1 : Int32} {l2 : Nat} {G : gH} : gle (t_54_0 K d l0 l1 l2 G) (gRn K d 54 0 [some (.ref l0), some (.int l1), some (.ref l2), none] [] G) := by
  unfold t_54_0
  refine g_aload ((q_54 _).trans rfl) rfl ?_
  refine g_push ((q_54 _).trans rfl) ?_
  refine g_aload ((q_54 _).trans rfl) rfl ?_
  refine g_iload ((q_54 _).trans rfl) rfl ?_
  refine g_callVH (kk := 1) ((q_54 _).trans rfl) rfl (by exact ⟨Nat.le_of_ble_eq_true rfl, rfl⟩) rfl (fun w G1 => gm_I (fun v2 hw => ?_))
  subst hw
  refine g_i2l ((q_54 _).trans rfl) ?_
  refine g_last ((q_54 _).trans rfl) (fun G3 => ?_)
  refine g_goto ((q_54 _).trans rfl) ?_
  refine g_push ((q_54 _).trans rfl) ?_
  exact g_iret ((q_54 _).trans rfl)
theorem c_54 {K : gK} {d : Nat} {l0 : Nat} {l1 : Int32} {l2 : Nat} {G : gH} : gle (t_54_0 K d l0 l1 l2 G) (gCa K (d + 1) 54 [.ref l0, .int l1, .ref l2] G) := by
  have h : gent (gMx 54) [.ref l0, .int l1, .ref l2] = [some (.ref l0), some (.int l1), some (.ref l2), none] := by
    show gent (gT 54).2.2.2.1 _ = _
    rw [m_54]; rfl
  exact fun r e => (congrArg (fun q => gRn K d 54 0 q [] G) h).trans (e_54_0 r e)
theorem q_56 {K : gK} (pc : Nat) : gP K 56 pc = ((gL_56 K).lookup pc).getD o_none := rfl
noncomputable def t_56_0_1 (K : gK) (d : Nat) (G3 : gH) : Option gO := some (.inl (some (.int (0 : Int32))), G3)
noncomputable def t_56_0_2 (K : gK) (d : Nat) (l2 : Nat) (v2 : Int32) (G1 : gH) : Option gO := yJ G1 l2 (0 : Int32) ((v2).toInt64) (t_56_0_1 K d)
noncomputable def t_56_0 (K : gK) (d : Nat) (l0 : Nat) (l1 : Int32) (l2 : Nat) (G : gH) : Option gO := if g_cls G l0 = some 0 then (bH 56 4 (gCa K d 129 [.ref l0, .int l1] G) (kI (t_56_0_2 K d l2))) else none
theorem e_56_0 {K : gK} {d : Nat} {l0 : Nat} {l1 : Int32} {l2 : Nat} {G : gH} : gle (t_56_0 K d l0 l1 l2 G) (gRn K d 56 0 [some (.ref l0), some (.int l1), some (.ref l2), none] [] G) := by
  unfold t_56_0
  refine g_aload ((q_56 _).trans rfl) rfl ?_
  refine g_push ((q_56 _).trans rfl) ?_
  refine g_aload ((q_56 _).trans rfl) rfl ?_
  refine g_iload ((q_56 _).trans rfl) rfl ?_
  refine g_callVH (kk := 1) ((q_56 _).trans rfl) rfl (by exact ⟨Nat.le_of_ble_eq_true rfl, rfl⟩) rfl (fun w G1 => gm_I (fun v2 hw => ?_))
  subst hw
  refine g_i2l ((q_56 _).trans rfl) ?_
  refine g_last ((q_56 _).trans rfl) (fun G3 => ?_)
  refine g_goto ((q_56 _).trans rfl) ?_
  refine g_push ((q_56 _).trans rfl) ?_
  exact g_iret ((q_56 _).trans rfl)
theorem c_56 {K : gK} {d : Nat} {l0 : Nat} {l1 : Int32} {l2 : Nat} {G : gH} : gle (t_56_0 K d l0 l1 l2 G) (gCa K (d + 1) 56 [.ref l0, .int l1, .ref l2] G) := by
  have h : gent (gMx 56) [.ref l0, .int l1, .ref l2] = [some (.ref l0), some (.int l1), some (.ref l2), none] := by
    show gent (gT 56).2.2.2.1 _ = _
    rw [m_56]; rfl
  exact fun r e => (congrArg (fun q => gRn K d 56 0 q [] G) h).trans (e_56_0 r e)
theorem q_58 {K : gK} (pc : Nat) : gP K 58 pc = ((gL_58 K).lookup pc).getD o_none := rfl
noncomputable def t_58_0_1 (K : gK) (d : Nat) (G3 : gH) : Option gO := some (.inl (some (.int (0 : Int32))), G3)
noncomputable def t_58_0_2 (K : gK) (d : Nat) (l2 : Nat) (v2 : Int32) (G1 : gH) : Option gO := yJ G1 l2 (0 : Int32) ((v2).toInt64) (t_58_0_1 K d)
noncomputable def t_58_0 (K : gK) (d : Nat) (l0 : Nat) (l1 : Int32) (l2 : Nat) (G : gH) : Option gO := if g_cls G l0 = some 0 then (bH 58 4 (gCa K d 130 [.ref l0, .int l1] G) (kI (t_58_0_2 K d l2))) else none
theorem e_58_0 {K : gK} {d : Nat} {l0 : Nat} {l1 : Int32} {l2 : Nat} {G : gH} : gle (t_58_0 K d l0 l1 l2 G) (gRn K d 58 0 [some (.ref l0), some (.int l1), some (.ref l2), none] [] G) := by
  unfold t_58_0
  refine g_aload ((q_58 _).trans rfl) rfl ?_
  refine g_push ((q_58 _).trans rfl) ?_
  refine g_aload ((q_58 _).trans rfl) rfl ?_
  refine g_iload ((q_58 _).trans rfl) rfl ?_
  refine g_callVH (kk := 1) ((q_58 _).trans rfl) rfl (by exact ⟨Nat.le_of_ble_eq_true rfl, rfl⟩) rfl (fun w G1 => gm_I (fun v2 hw => ?_))
  subst hw
  refine g_i2l ((q_58 _).trans rfl) ?_
  refine g_last ((q_58 _).trans rfl) (fun G3 => ?_)
  refine g_goto ((q_58 _).trans rfl) ?_
  refine g_push ((q_58 _).trans rfl) ?_
  exact g_iret ((q_58 _).trans rfl)
theorem c_58 {K : gK} {d : Nat} {l0 : Nat} {l1 : Int32} {l2 : Nat} {G : gH} : gle (t_58_0 K d l0 l1 l2 G) (gCa K (d + 1) 58 [.ref l0, .int l1, .ref l2] G) := by
  have h : gent (gMx 58) [.ref l0, .int l1, .ref l2] = [some (.ref l0), some (.int l1), some (.ref l2), none] := by
    show gent (gT 58).2.2.2.1 _ = _
    rw [m_58]; rfl
  exact fun r e => (congrArg (fun q => gRn K d 58 0 q [] G) h).trans (e_58_0 r e)
theorem q_62 {K : gK} (pc : Nat) : gP K 62 pc = ((gL_62 K).lookup pc).getD o_none := rfl
noncomputable def t_62_0_1 (K : gK) (d : Nat) (G3 : gH) : Option gO := some (.inl (some (.int (0 : Int32))), G3)
noncomputable def t_62_0_2 (K : gK) (d : Nat) (l2 : Nat) (v2 : Int32) (G1 : gH) : Option gO := yJ G1 l2 (0 : Int32) ((v2).toInt64) (t_62_0_1 K d)
noncomputable def t_62_0 (K : gK) (d : Nat) (l0 : Nat) (l1 : Int32) (l2 : Nat) (G : gH) : Option gO := if g_cls G l0 = some 0 then (bH 62 4 (gCa K d 131 [.ref l0, .int l1] G) (kI (t_62_0_2 K d l2))) else none
theorem e_62_0 {K : gK} {d : Nat} {l0 : Nat} {l1 : Int32} {l2 : Nat} {G : gH} : gle (t_62_0 K d l0 l1 l2 G) (gRn K d 62 0 [some (.ref l0), some (.int l1), some (.ref l2), none] [] G) := by
  unfold t_62_0
  refine g_aload ((q_62 _).trans rfl) rfl ?_
  refine g_push ((q_62 _).trans rfl) ?_
  refine g_aload ((q_62 _).trans rfl) rfl ?_
  refine g_iload ((q_62 _).trans rfl) rfl ?_
  refine g_callVH (kk := 1) ((q_62 _).trans rfl) rfl (by exact ⟨Nat.le_of_ble_eq_true rfl, rfl⟩) rfl (fun w G1 => gm_I (fun v2 hw => ?_))
  subst hw
  refine g_i2l ((q_62 _).trans rfl) ?_
  refine g_last ((q_62 _).trans rfl) (fun G3 => ?_)
  refine g_goto ((q_62 _).trans rfl) ?_
  refine g_push ((q_62 _).trans rfl) ?_
  exact g_iret ((q_62 _).trans rfl)
theorem c_62 {K : gK} {d : Nat} {l0 : Nat} {l1 : Int32} {l2 : Nat} {G : gH} : gle (t_62_0 K d l0 l1 l2 G) (gCa K (d + 1) 62 [.ref l0, .int l1, .ref l2] G) := by
  have h : gent (gMx 62) [.ref l0, .int l1, .ref l2] = [some (.ref l0), some (.int l1), some (.ref l2), none] := by
    show gent (gT 62).2.2.2.1 _ = _
    rw [m_62]; rfl
  exact fun r e => (congrArg (fun q => gRn K d 62 0 q [] G) h).trans (e_62_0 r e)
theorem q_64 {K : gK} (pc : Nat) : gP K 64 pc = ((gL_64 K).lookup pc).getD o_none := rfl
noncomputable def t_64_0_1 (K : gK) (d : Nat) (G3 : gH) : Option gO := some (.inl (some (.int (0 : Int32))), G3)
noncomputable def t_64_0_2 (K : gK) (d : Nat) (l3 : Nat) (v2 : Int32) (G1 : gH) : Option gO := yJ G1 l3 (0 : Int32) ((v2).toInt64) (t_64_0_1 K d)
noncomputable def t_64_0 (K : gK) (d : Nat) (l0 : Nat) (l1 : Int32) (l2 : Int32) (l3 : Nat) (G : gH) : Option gO := if g_cls G l0 = some 0 then (bH 64 5 (gCa K d 135 [.ref l0, .int l1, .int l2] G) (kI (t_64_0_2 K d l3))) else none
theorem e_64_0 {K : gK} {d : Nat} {l0 : Nat} {l1 : Int32} {l2 : Int32} {l3 : Nat} {G : gH} : gle (t_64_0 K d l0 l1 l2 l3 G) (gRn K d 64 0 [some (.ref l0), some (.int l1), some (.int l2), some (.ref l3), none] [] G) := by
  unfold t_64_0
  refine g_aload ((q_64 _).trans rfl) rfl ?_
  refine g_push ((q_64 _).trans rfl) ?_
  refine g_aload ((q_64 _).trans rfl) rfl ?_
  refine g_iload ((q_64 _).trans rfl) rfl ?_
  refine g_iload ((q_64 _).trans rfl) rfl ?_
  refine g_callVH (kk := 2) ((q_64 _).trans rfl) rfl (by exact ⟨Nat.le_of_ble_eq_true rfl, rfl⟩) rfl (fun w G1 => gm_I (fun v2 hw => ?_))
  subst hw
  refine g_i2l ((q_64 _).trans rfl) ?_
  refine g_last ((q_64 _).trans rfl) (fun G3 => ?_)
  refine g_goto ((q_64 _).trans rfl) ?_
  refine g_push ((q_64 _).trans rfl) ?_
  exact g_iret ((q_64 _).trans rfl)
theorem c_64 {K : gK} {d : Nat} {l0 : Nat} {l1 : Int32} {l2 : Int32} {l3 : Nat} {G : gH} : gle (t_64_0 K d l0 l1 l2 l3 G) (gCa K (d + 1) 64 [.ref l0, .int l1, .int l2, .ref l3] G) := by
  have h : gent (gMx 64) [.ref l0, .int l1, .int l2, .ref l3] = [some (.ref l0), some (.int l1), some (.int l2), some (.ref l3), none] := by
    show gent (gT 64).2.2.2.1 _ = _
    rw [m_64]; rfl
  exact fun r e => (congrArg (fun q => gRn K d 64 0 q [] G) h).trans (e_64_0 r e)
theorem q_66 {K : gK} (pc : Nat) : gP K 66 pc = ((gL_66 K).lookup pc).getD o_none := rfl
noncomputable def t_66_0_1 (K : gK) (d : Nat) (G3 : gH) : Option gO := some (.inl (some (.int (0 : Int32))), G3)
noncomputable def t_66_0_2 (K : gK) (d : Nat) (l2 : Nat) (v2 : Int32) (G1 : gH) : Option gO := yJ G1 l2 (0 : Int32) ((v2).toInt64) (t_66_0_1 K d)
noncomputable def t_66_0 (K : gK) (d : Nat) (l0 : Nat) (l1 : Int32) (l2 : Nat) (G : gH) : Option gO := if g_cls G l0 = some 0 then (bH 66 4 (gCa K d 136 [.ref l0, .int l1] G) (kI (t_66_0_2 K d l2))) else none
theorem e_66_0 {K : gK} {d : Nat} {l0 : Nat} {l1 : Int32} {l2 : Nat} {G : gH} : gle (t_66_0 K d l0 l1 l2 G) (gRn K d 66 0 [some (.ref l0), some (.int l1), some (.ref l2), none] [] G) := by
  unfold t_66_0
  refine g_aload ((q_66 _).trans rfl) rfl ?_
  refine g_push ((q_66 _).trans rfl) ?_
  refine g_aload ((q_66 _).trans rfl) rfl ?_
  refine g_iload ((q_66 _).trans rfl) rfl ?_
  refine g_callVH (kk := 1) ((q_66 _).trans rfl) rfl (by exact ⟨Nat.le_of_ble_eq_true rfl, rfl⟩) rfl (fun w G1 => gm_I (fun v2 hw => ?_))
  subst hw
  refine g_i2l ((q_66 _).trans rfl) ?_
  refine g_last ((q_66 _).trans rfl) (fun G3 => ?_)
  refine g_goto ((q_66 _).trans rfl) ?_
  refine g_push ((q_66 _).trans rfl) ?_
  exact g_iret ((q_66 _).trans rfl)
theorem c_66 {K : gK} {d : Nat} {l0 : Nat} {l1 : Int32} {l2 : Nat} {G : gH} : gle (t_66_0 K d l0 l1 l2 G) (gCa K (d + 1) 66 [.ref l0, .int l1, .ref l2] G) := by
  have h : gent (gMx 66) [.ref l0, .int l1, .ref l2] = [some (.ref l0), some (.int l1), some (.ref l2), none] := by
    show gent (gT 66).2.2.2.1 _ = _
    rw [m_66]; rfl
  exact fun r e => (congrArg (fun q => gRn K d 66 0 q [] G) h).trans (e_66_0 r e)
theorem q_68 {K : gK} (pc : Nat) : gP K 68 pc = ((gL_68 K).lookup pc).getD o_none := rfl
noncomputable def t_68_0_1 (K : gK) (d : Nat) (G3 : gH) : Option gO := some (.inl (some (.int (0 : Int32))), G3)
noncomputable def t_68_0_2 (K : gK) (d : Nat) (l2 : Nat) (v2 : Int32) (G1 : gH) : Option gO := yJ G1 l2 (0 : Int32) ((v2).toInt64) (t_68_0_1 K d)
noncomputable def t_68_0 (K : gK) (d : Nat) (l0 : Nat) (l1 : Int32) (l2 : Nat) (G : gH) : Option gO := if g_cls G l0 = some 0 then (bH 68 4 (gCa K d 138 [.ref l0, .int l1] G) (kI (t_68_0_2 K d l2))) else none
theorem e_68_0 {K : gK} {d : Nat} {l0 : Nat} {l1 : Int32} {l2 : Nat} {G : gH} : gle (t_68_0 K d l0 l1 l2 G) (gRn K d 68 0 [some (.ref l0), some (.int l1), some (.ref l2), none] [] G) := by
  unfold t_68_0
  refine g_aload ((q_68 _).trans rfl) rfl ?_
  refine g_push ((q_68 _).trans rfl) ?_
  refine g_aload ((q_68 _).trans rfl) rfl ?_
  refine g_iload ((q_68 _).trans rfl) rfl ?_
  refine g_callVH (kk := 1) ((q_68 _).trans rfl) rfl (by exact ⟨Nat.le_of_ble_eq_true rfl, rfl⟩) rfl (fun w G1 => gm_I (fun v2 hw => ?_))
  subst hw
  refine g_i2l ((q_68 _).trans rfl) ?_
  refine g_last ((q_68 _).trans rfl) (fun G3 => ?_)
  refine g_goto ((q_68 _).trans rfl) ?_
  refine g_push ((q_68 _).trans rfl) ?_
  exact g_iret ((q_68 _).trans rfl)
theorem c_68 {K : gK} {d : Nat} {l0 : Nat} {l1 : Int32} {l2 : Nat} {G : gH} : gle (t_68_0 K d l0 l1 l2 G) (gCa K (d + 1) 68 [.ref l0, .int l1, .ref l2] G) := by
  have h : gent (gMx 68) [.ref l0, .int l1, .ref l2] = [some (.ref l0), some (.int l1), some (.ref l2), none] := by
    show gent (gT 68).2.2.2.1 _ = _
    rw [m_68]; rfl
  exact fun r e => (congrArg (fun q => gRn K d 68 0 q [] G) h).trans (e_68_0 r e)
theorem q_70 {K : gK} (pc : Nat) : gP K 70 pc = ((gL_70 K).lookup pc).getD o_none := rfl
noncomputable def t_70_0_1 (K : gK) (d : Nat) (G3 : gH) : Option gO := some (.inl (some (.int (0 : Int32))), G3)
noncomputable def t_70_0_2 (K : gK) (d : Nat) (l3 : Nat) (v2 : Int32) (G1 : gH) : Option gO := yJ G1 l3 (0 : Int32) ((v2).toInt64) (t_70_0_1 K d)
noncomputable def t_70_0 (K : gK) (d : Nat) (l0 : Nat) (l1 : Int32) (l2 : Int32) (l3 : Nat) (G : gH) : Option gO := if g_cls G l0 = some 0 then (bH 70 5 (gCa K d 139 [.ref l0, .int l1, .int l2] G) (kI (t_70_0_2 K d l3))) else none
theorem e_70_0 {K : gK} {d : Nat} {l0 : Nat} {l1 : Int32} {l2 : Int32} {l3 : Nat} {G : gH} : gle (t_70_0 K d l0 l1 l2 l3 G) (gRn K d 70 0 [some (.ref l0), some (.int l1), some (.int l2), some (.ref l3), none] [] G) := by
  unfold t_70_0
  refine g_aload ((q_70 _).trans rfl) rfl ?_
  refine g_push ((q_70 _).trans rfl) ?_
  refine g_aload ((q_70 _).trans rfl) rfl ?_
  refine g_iload ((q_70 _).trans rfl) rfl ?_
  refine g_iload ((q_70 _).trans rfl) rfl ?_
  refine g_callVH (kk := 2) ((q_70 _).trans rfl) rfl (by exact ⟨Nat.le_of_ble_eq_true rfl, rfl⟩) rfl (fun w G1 => gm_I (fun v2 hw => ?_))
  subst hw
  refine g_i2l ((q_70 _).trans rfl) ?_
  refine g_last ((q_70 _).trans rfl) (fun G3 => ?_)
  refine g_goto ((q_70 _).trans rfl) ?_
  refine g_push ((q_70 _).trans rfl) ?_
  exact g_iret ((q_70 _).trans rfl)
theorem c_70 {K : gK} {d : Nat} {l0 : Nat} {l1 : Int32} {l2 : Int32} {l3 : Nat} {G : gH} : gle (t_70_0 K d l0 l1 l2 l3 G) (gCa K (d + 1) 70 [.ref l0, .int l1, .int l2, .ref l3] G) := by
  have h : gent (gMx 70) [.ref l0, .int l1, .int l2, .ref l3] = [some (.ref l0), some (.int l1), some (.int l2), some (.ref l3), none] := by
    show gent (gT 70).2.2.2.1 _ = _
    rw [m_70]; rfl
  exact fun r e => (congrArg (fun q => gRn K d 70 0 q [] G) h).trans (e_70_0 r e)
theorem q_72 {K : gK} (pc : Nat) : gP K 72 pc = ((gL_72 K).lookup pc).getD o_none := rfl
noncomputable def t_72_0_1 (K : gK) (d : Nat) (G3 : gH) : Option gO := some (.inl (some (.int (0 : Int32))), G3)
noncomputable def t_72_0_2 (K : gK) (d : Nat) (l2 : Nat) (v2 : Int32) (G1 : gH) : Option gO := yJ G1 l2 (0 : Int32) ((v2).toInt64) (t_72_0_1 K d)
noncomputable def t_72_0 (K : gK) (d : Nat) (l0 : Nat) (l1 : Int32) (l2 : Nat) (G : gH) : Option gO := if g_cls G l0 = some 0 then (bH 72 4 (gCa K d 140 [.ref l0, .int l1] G) (kI (t_72_0_2 K d l2))) else none
theorem e_72_0 {K : gK} {d : Nat} {l0 : Nat} {l1 : Int32} {l2 : Nat} {G : gH} : gle (t_72_0 K d l0 l1 l2 G) (gRn K d 72 0 [some (.ref l0), some (.int l1), some (.ref l2), none] [] G) := by
  unfold t_72_0
  refine g_aload ((q_72 _).trans rfl) rfl ?_
  refine g_push ((q_72 _).trans rfl) ?_
  refine g_aload ((q_72 _).trans rfl) rfl ?_
  refine g_iload ((q_72 _).trans rfl) rfl ?_
  refine g_callVH (kk := 1) ((q_72 _).trans rfl) rfl (by exact ⟨Nat.le_of_ble_eq_true rfl, rfl⟩) rfl (fun w G1 => gm_I (fun v2 hw => ?_))
  subst hw
  refine g_i2l ((q_72 _).trans rfl) ?_
  refine g_last ((q_72 _).trans rfl) (fun G3 => ?_)
  refine g_goto ((q_72 _).trans rfl) ?_
  refine g_push ((q_72 _).trans rfl) ?_
  exact g_iret ((q_72 _).trans rfl)
theorem c_72 {K : gK} {d : Nat} {l0 : Nat} {l1 : Int32} {l2 : Nat} {G : gH} : gle (t_72_0 K d l0 l1 l2 G) (gCa K (d + 1) 72 [.ref l0, .int l1, .ref l2] G) := by
  have h : gent (gMx 72) [.ref l0, .int l1, .ref l2] = [some (.ref l0), some (.int l1), some (.ref l2), none] := by
    show gent (gT 72).2.2.2.1 _ = _
    rw [m_72]; rfl
  exact fun r e => (congrArg (fun q => gRn K d 72 0 q [] G) h).trans (e_72_0 r e)
theorem q_74 {K : gK} (pc : Nat) : gP K 74 pc = ((gL_74 K).lookup pc).getD o_none := rfl
noncomputable def t_74_0_1 (K : gK) (d : Nat) (G3 : gH) : Option gO := some (.inl (some (.int (0 : Int32))), G3)
noncomputable def t_74_0_2 (K : gK) (d : Nat) (l3 : Nat) (v2 : Int32) (G1 : gH) : Option gO := yJ G1 l3 (0 : Int32) ((v2).toInt64) (t_74_0_1 K d)
noncomputable def t_74_0 (K : gK) (d : Nat) (l0 : Nat) (l1 : Int32) (l2 : Int32) (l3 : Nat) (G : gH) : Option gO := if g_cls G l0 = some 0 then (bH 74 5 (gCa K d 141 [.ref l0, .int l1, .int l2] G) (kI (t_74_0_2 K d l3))) else none
theorem e_74_0 {K : gK} {d : Nat} {l0 : Nat} {l1 : Int32} {l2 : Int32} {l3 : Nat} {G : gH} : gle (t_74_0 K d l0 l1 l2 l3 G) (gRn K d 74 0 [some (.ref l0), some (.int l1), some (.int l2), some (.ref l3), none] [] G) := by
  unfold t_74_0
  refine g_aload ((q_74 _).trans rfl) rfl ?_
  refine g_push ((q_74 _).trans rfl) ?_
  refine g_aload ((q_74 _).trans rfl) rfl ?_
  refine g_iload ((q_74 _).trans rfl) rfl ?_
  refine g_iload ((q_74 _).trans rfl) rfl ?_
  refine g_callVH (kk := 2) ((q_74 _).trans rfl) rfl (by exact ⟨Nat.le_of_ble_eq_true rfl, rfl⟩) rfl (fun w G1 => gm_I (fun v2 hw => ?_))
  subst hw
  refine g_i2l ((q_74 _).trans rfl) ?_
  refine g_last ((q_74 _).trans rfl) (fun G3 => ?_)
  refine g_goto ((q_74 _).trans rfl) ?_
  refine g_push ((q_74 _).trans rfl) ?_
  exact g_iret ((q_74 _).trans rfl)
theorem c_74 {K : gK} {d : Nat} {l0 : Nat} {l1 : Int32} {l2 : Int32} {l3 : Nat} {G : gH} : gle (t_74_0 K d l0 l1 l2 l3 G) (gCa K (d + 1) 74 [.ref l0, .int l1, .int l2, .ref l3] G) := by
  have h : gent (gMx 74) [.ref l0, .int l1, .int l2, .ref l3] = [some (.ref l0), some (.int l1), some (.int l2), some (.ref l3), none] := by
    show gent (gT 74).2.2.2.1 _ = _
    rw [m_74]; rfl
  exact fun r e => (congrArg (fun q => gRn K d 74 0 q [] G) h).trans (e_74_0 r e)
theorem q_78 {K : gK} (pc : Nat) : gP K 78 pc = ((gL_78 K).lookup pc).getD o_none := rfl
noncomputable def t_78_0_1 (K : gK) (d : Nat) (G3 : gH) : Option gO := some (.inl (some (.int (0 : Int32))), G3)
noncomputable def t_78_0_2 (K : gK) (d : Nat) (l1 : Nat) (f2 : UInt32) (G1 : gH) : Option gO := if (FP.f2d f2) &&& 0x7fffffffffffffff ≤ 0x7ff0000000000000 then (yD G1 l1 (0 : Int32) (FP.f2d f2) (t_78_0_1 K d)) else none
noncomputable def t_78_0 (K : gK) (d : Nat) (l0 : Nat) (l1 : Nat) (G : gH) : Option gO := if g_cls G l0 = some 0 then (bH 78 3 (gCa K d 142 [.ref l0] G) (kF (t_78_0_2 K d l1))) else none
theorem e_78_0 {K : gK} {d : Nat} {l0 : Nat} {l1 : Nat} {G : gH} : gle (t_78_0 K d l0 l1 G) (gRn K d 78 0 [some (.ref l0), some (.ref l1), none] [] G) := by
  unfold t_78_0
  refine g_aload ((q_78 _).trans rfl) rfl ?_
  refine g_push ((q_78 _).trans rfl) ?_
  refine g_aload ((q_78 _).trans rfl) rfl ?_
  refine g_callVH (kk := 0) ((q_78 _).trans rfl) rfl (by exact ⟨Nat.le_of_ble_eq_true rfl, rfl⟩) rfl (fun w G1 => gm_F (fun f2 hw => ?_))
  subst hw
  refine g_f2d ((q_78 _).trans rfl) (fun _ => ?_)
  refine g_dast ((q_78 _).trans rfl) (fun G3 => ?_)
  refine g_goto ((q_78 _).trans rfl) ?_
  refine g_push ((q_78 _).trans rfl) ?_
  exact g_iret ((q_78 _).trans rfl)
theorem c_78 {K : gK} {d : Nat} {l0 : Nat} {l1 : Nat} {G : gH} : gle (t_78_0 K d l0 l1 G) (gCa K (d + 1) 78 [.ref l0, .ref l1] G) := by
  have h : gent (gMx 78) [.ref l0, .ref l1] = [some (.ref l0), some (.ref l1), none] := by
    show gent (gT 78).2.2.2.1 _ = _
    rw [m_78]; rfl
  exact fun r e => (congrArg (fun q => gRn K d 78 0 q [] G) h).trans (e_78_0 r e)
theorem q_80 {K : gK} (pc : Nat) : gP K 80 pc = ((gL_80 K).lookup pc).getD o_none := rfl
noncomputable def t_80_0_1 (K : gK) (d : Nat) (G3 : gH) : Option gO := some (.inl (some (.int (0 : Int32))), G3)
noncomputable def t_80_0_2 (K : gK) (d : Nat) (l1 : Nat) (q2 : UInt64) (G1 : gH) : Option gO := yD G1 l1 (0 : Int32) q2 (t_80_0_1 K d)
noncomputable def t_80_0 (K : gK) (d : Nat) (l0 : Nat) (l1 : Nat) (G : gH) : Option gO := if g_cls G l0 = some 0 then (bH 80 3 (gCa K d 144 [.ref l0] G) (kD (t_80_0_2 K d l1))) else none
theorem e_80_0 {K : gK} {d : Nat} {l0 : Nat} {l1 : Nat} {G : gH} : gle (t_80_0 K d l0 l1 G) (gRn K d 80 0 [some (.ref l0), some (.ref l1), none] [] G) := by
  unfold t_80_0
  refine g_aload ((q_80 _).trans rfl) rfl ?_
  refine g_push ((q_80 _).trans rfl) ?_
  refine g_aload ((q_80 _).trans rfl) rfl ?_
  refine g_callVH (kk := 0) ((q_80 _).trans rfl) rfl (by exact ⟨Nat.le_of_ble_eq_true rfl, rfl⟩) rfl (fun w G1 => gm_D (fun q2 hw => ?_))
  subst hw
  refine g_dast ((q_80 _).trans rfl) (fun G3 => ?_)
  refine g_goto ((q_80 _).trans rfl) ?_
  refine g_push ((q_80 _).trans rfl) ?_
  exact g_iret ((q_80 _).trans rfl)
theorem c_80 {K : gK} {d : Nat} {l0 : Nat} {l1 : Nat} {G : gH} : gle (t_80_0 K d l0 l1 G) (gCa K (d + 1) 80 [.ref l0, .ref l1] G) := by
  have h : gent (gMx 80) [.ref l0, .ref l1] = [some (.ref l0), some (.ref l1), none] := by
    show gent (gT 80).2.2.2.1 _ = _
    rw [m_80]; rfl
  exact fun r e => (congrArg (fun q => gRn K d 80 0 q [] G) h).trans (e_80_0 r e)
