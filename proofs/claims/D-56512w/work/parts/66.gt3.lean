/-! PURE 6: methods as trees, 3 (printed by mkpure.py) -/
set_option maxRecDepth 100000
theorem q_102 {K : gK} (pc : Nat) : gP K 102 pc = ((gL_102 K).lookup pc).getD o_none := rfl
noncomputable def t_102_0 (K : gK) (d : Nat) (l0 : Nat) (l1 : Int32) (l2 : Int32) (l3 : Int32) (l4 : Int32) (l5 : Int32) (G : gH) : Option gO := gRn K d 102 3 [some (.ref l0), some (.int l1), some (.int l2), some (.int l3), some (.int l4), some (.int l5), some (.int (0 : Int32))] [] G
theorem e_102_0 {K : gK} {d : Nat} {l0 : Nat} {l1 : Int32} {l2 : Int32} {l3 : Int32} {l4 : Int32} {l5 : Int32} {G : gH} : gle (t_102_0 K d l0 l1 l2 l3 l4 l5 G) (gRn K d 102 0 [some (.ref l0), some (.int l1), some (.int l2), some (.int l3), some (.int l4), some (.int l5), none] [] G) := by
  unfold t_102_0
  refine g_push ((q_102 _).trans rfl) ?_
  refine g_istore ((q_102 _).trans rfl) ?_
  exact gle.rf _
theorem c_102 {K : gK} {d : Nat} {l0 : Nat} {l1 : Int32} {l2 : Int32} {l3 : Int32} {l4 : Int32} {l5 : Int32} {G : gH} : gle (t_102_0 K d l0 l1 l2 l3 l4 l5 G) (gCa K (d + 1) 102 [.ref l0, .int l1, .int l2, .int l3, .int l4, .int l5] G) := by
  have h : gent (gMx 102) [.ref l0, .int l1, .int l2, .int l3, .int l4, .int l5] = [some (.ref l0), some (.int l1), some (.int l2), some (.int l3), some (.int l4), some (.int l5), none] := by
    show gent (gT 102).2.2.2.1 _ = _
    rw [m_102]; rfl
  exact fun r e => (congrArg (fun q => gRn K d 102 0 q [] G) h).trans (e_102_0 r e)
noncomputable def t_102_3_1 (K : gK) (d : Nat) (G26 : gH) (v27 : Int32) : Option gO := some (.inl (some (.int (v27 - (1 : Int32)))), G26)
noncomputable def t_102_3_2 (K : gK) (d : Nat) (l0 : Nat) (G26 : gH) : Option gO := rI G26 l0 3 18 (t_102_3_1 K d G26)
noncomputable def t_102_3_3 (K : gK) (d : Nat) (G24 : gH) (l0 : Nat) (v25 : Int32) : Option gO := if narrow .int (.int (v25 + (1 : Int32))) = .int (v25 + (1 : Int32)) ∧ fits .int (.int (v25 + (1 : Int32))) = true then wF G24 l0 3 18 (.int (v25 + (1 : Int32))) (t_102_3_2 K d l0) else none
noncomputable def t_102_3_4 (K : gK) (d : Nat) (l0 : Nat) (G24 : gH) : Option gO := rI G24 l0 3 18 (t_102_3_3 K d G24 l0)
noncomputable def t_102_3_5 (K : gK) (d : Nat) (G22 : gH) (l0 : Nat) (v23 : Int32) : Option gO := if narrow .int (.int (v23 + (1 : Int32))) = .int (v23 + (1 : Int32)) ∧ fits .int (.int (v23 + (1 : Int32))) = true then wF G22 l0 3 17 (.int (v23 + (1 : Int32))) (t_102_3_4 K d l0) else none
noncomputable def t_102_3_6 (K : gK) (d : Nat) (l0 : Nat) (G22 : gH) : Option gO := rI G22 l0 3 17 (t_102_3_5 K d G22 l0)
noncomputable def t_102_3_7 (K : gK) (d : Nat) (G19 : gH) (a20 : Nat) (l5 : Int32) (l0 : Nat) (v21 : Int32) : Option gO := yI G19 a20 1 v21 (vp_nar .boolean l5) (t_102_3_6 K d l0)
noncomputable def t_102_3_8 (K : gK) (d : Nat) (G19 : gH) (l0 : Nat) (l5 : Int32) (a20 : Nat) : Option gO := rI G19 l0 3 17 (t_102_3_7 K d G19 a20 l5 l0)
noncomputable def t_102_3_9 (K : gK) (d : Nat) (l0 : Nat) (l5 : Int32) (G19 : gH) : Option gO := rR G19 l0 3 24 (t_102_3_8 K d G19 l0 l5)
noncomputable def t_102_3_10 (K : gK) (d : Nat) (G16 : gH) (a17 : Nat) (l2 : Int32) (l0 : Nat) (l5 : Int32) (v18 : Int32) : Option gO := yI G16 a17 0 v18 l2 (t_102_3_9 K d l0 l5)
noncomputable def t_102_3_11 (K : gK) (d : Nat) (G16 : gH) (l0 : Nat) (l2 : Int32) (l5 : Int32) (a17 : Nat) : Option gO := rI G16 l0 3 17 (t_102_3_10 K d G16 a17 l2 l0 l5)
noncomputable def t_102_3_12 (K : gK) (d : Nat) (l0 : Nat) (l2 : Int32) (l5 : Int32) (G16 : gH) : Option gO := rR G16 l0 3 23 (t_102_3_11 K d G16 l0 l2 l5)
noncomputable def t_102_3_13 (K : gK) (d : Nat) (G13 : gH) (a14 : Nat) (l4 : Int32) (l0 : Nat) (l2 : Int32) (l5 : Int32) (v15 : Int32) : Option gO := yI G13 a14 0 v15 l4 (t_102_3_12 K d l0 l2 l5)
noncomputable def t_102_3_14 (K : gK) (d : Nat) (G13 : gH) (l0 : Nat) (l4 : Int32) (l2 : Int32) (l5 : Int32) (a14 : Nat) : Option gO := rI G13 l0 3 17 (t_102_3_13 K d G13 a14 l4 l0 l2 l5)
noncomputable def t_102_3_15 (K : gK) (d : Nat) (l0 : Nat) (l4 : Int32) (l2 : Int32) (l5 : Int32) (G13 : gH) : Option gO := rR G13 l0 3 22 (t_102_3_14 K d G13 l0 l4 l2 l5)
noncomputable def t_102_3_16 (K : gK) (d : Nat) (G10 : gH) (a11 : Nat) (l3 : Int32) (l0 : Nat) (l4 : Int32) (l2 : Int32) (l5 : Int32) (v12 : Int32) : Option gO := yI G10 a11 0 v12 l3 (t_102_3_15 K d l0 l4 l2 l5)
noncomputable def t_102_3_17 (K : gK) (d : Nat) (G10 : gH) (l0 : Nat) (l3 : Int32) (l4 : Int32) (l2 : Int32) (l5 : Int32) (a11 : Nat) : Option gO := rI G10 l0 3 17 (t_102_3_16 K d G10 a11 l3 l0 l4 l2 l5)
noncomputable def t_102_3_18 (K : gK) (d : Nat) (l0 : Nat) (l3 : Int32) (l4 : Int32) (l2 : Int32) (l5 : Int32) (G10 : gH) : Option gO := rR G10 l0 3 21 (t_102_3_17 K d G10 l0 l3 l4 l2 l5)
noncomputable def t_102_3_19 (K : gK) (d : Nat) (G7 : gH) (a8 : Nat) (l1 : Int32) (l0 : Nat) (l3 : Int32) (l4 : Int32) (l2 : Int32) (l5 : Int32) (v9 : Int32) : Option gO := yI G7 a8 0 v9 l1 (t_102_3_18 K d l0 l3 l4 l2 l5)
noncomputable def t_102_3_20 (K : gK) (d : Nat) (G7 : gH) (l0 : Nat) (l1 : Int32) (l3 : Int32) (l4 : Int32) (l2 : Int32) (l5 : Int32) (a8 : Nat) : Option gO := rI G7 l0 3 17 (t_102_3_19 K d G7 a8 l1 l0 l3 l4 l2 l5)
noncomputable def t_102_3_21 (K : gK) (d : Nat) (l0 : Nat) (l1 : Int32) (l3 : Int32) (l4 : Int32) (l2 : Int32) (l5 : Int32) (G7 : gH) : Option gO := rR G7 l0 3 20 (t_102_3_20 K d G7 l0 l1 l3 l4 l2 l5)
noncomputable def t_102_3_22 (K : gK) (d : Nat) (G2 : gH) (a4 : Nat) (v5 : Int32) (l0 : Nat) (l1 : Int32) (l3 : Int32) (l4 : Int32) (l2 : Int32) (l5 : Int32) (v6 : Int32) : Option gO := yI G2 a4 0 v5 v6 (t_102_3_21 K d l0 l1 l3 l4 l2 l5)
noncomputable def t_102_3_23 (K : gK) (d : Nat) (G2 : gH) (l0 : Nat) (a4 : Nat) (l1 : Int32) (l3 : Int32) (l4 : Int32) (l2 : Int32) (l5 : Int32) (v5 : Int32) : Option gO := rI G2 l0 3 18 (t_102_3_22 K d G2 a4 v5 l0 l1 l3 l4 l2 l5)
noncomputable def t_102_3_24 (K : gK) (d : Nat) (G2 : gH) (l0 : Nat) (l1 : Int32) (l3 : Int32) (l4 : Int32) (l2 : Int32) (l5 : Int32) (a4 : Nat) : Option gO := rI G2 l0 3 17 (t_102_3_23 K d G2 l0 a4 l1 l3 l4 l2 l5)
noncomputable def t_102_3_25 (K : gK) (d : Nat) (G61 : gH) (v62 : Int32) : Option gO := some (.inl (some (.int (v62 - (1 : Int32)))), G61)
noncomputable def t_102_3_26 (K : gK) (d : Nat) (l0 : Nat) (G61 : gH) : Option gO := rI G61 l0 3 18 (t_102_3_25 K d G61)
noncomputable def t_102_3_27 (K : gK) (d : Nat) (G59 : gH) (l0 : Nat) (v60 : Int32) : Option gO := if narrow .int (.int (v60 + (1 : Int32))) = .int (v60 + (1 : Int32)) ∧ fits .int (.int (v60 + (1 : Int32))) = true then wF G59 l0 3 18 (.int (v60 + (1 : Int32))) (t_102_3_26 K d l0) else none
noncomputable def t_102_3_28 (K : gK) (d : Nat) (l0 : Nat) (G59 : gH) : Option gO := rI G59 l0 3 18 (t_102_3_27 K d G59 l0)
noncomputable def t_102_3_29 (K : gK) (d : Nat) (G57 : gH) (l0 : Nat) (v58 : Int32) : Option gO := if narrow .int (.int (v58 + (1 : Int32))) = .int (v58 + (1 : Int32)) ∧ fits .int (.int (v58 + (1 : Int32))) = true then wF G57 l0 3 17 (.int (v58 + (1 : Int32))) (t_102_3_28 K d l0) else none
noncomputable def t_102_3_30 (K : gK) (d : Nat) (l0 : Nat) (G57 : gH) : Option gO := rI G57 l0 3 17 (t_102_3_29 K d G57 l0)
noncomputable def t_102_3_31 (K : gK) (d : Nat) (G54 : gH) (a55 : Nat) (l5 : Int32) (l0 : Nat) (v56 : Int32) : Option gO := yI G54 a55 1 v56 (vp_nar .boolean l5) (t_102_3_30 K d l0)
noncomputable def t_102_3_32 (K : gK) (d : Nat) (G54 : gH) (l0 : Nat) (l5 : Int32) (a55 : Nat) : Option gO := rI G54 l0 3 17 (t_102_3_31 K d G54 a55 l5 l0)
noncomputable def t_102_3_33 (K : gK) (d : Nat) (l0 : Nat) (l5 : Int32) (G54 : gH) : Option gO := rR G54 l0 3 24 (t_102_3_32 K d G54 l0 l5)
noncomputable def t_102_3_34 (K : gK) (d : Nat) (G51 : gH) (a52 : Nat) (l2 : Int32) (l0 : Nat) (l5 : Int32) (v53 : Int32) : Option gO := yI G51 a52 0 v53 l2 (t_102_3_33 K d l0 l5)
noncomputable def t_102_3_35 (K : gK) (d : Nat) (G51 : gH) (l0 : Nat) (l2 : Int32) (l5 : Int32) (a52 : Nat) : Option gO := rI G51 l0 3 17 (t_102_3_34 K d G51 a52 l2 l0 l5)
noncomputable def t_102_3_36 (K : gK) (d : Nat) (l0 : Nat) (l2 : Int32) (l5 : Int32) (G51 : gH) : Option gO := rR G51 l0 3 23 (t_102_3_35 K d G51 l0 l2 l5)
noncomputable def t_102_3_37 (K : gK) (d : Nat) (G48 : gH) (a49 : Nat) (l4 : Int32) (l0 : Nat) (l2 : Int32) (l5 : Int32) (v50 : Int32) : Option gO := yI G48 a49 0 v50 l4 (t_102_3_36 K d l0 l2 l5)
noncomputable def t_102_3_38 (K : gK) (d : Nat) (G48 : gH) (l0 : Nat) (l4 : Int32) (l2 : Int32) (l5 : Int32) (a49 : Nat) : Option gO := rI G48 l0 3 17 (t_102_3_37 K d G48 a49 l4 l0 l2 l5)
noncomputable def t_102_3_39 (K : gK) (d : Nat) (l0 : Nat) (l4 : Int32) (l2 : Int32) (l5 : Int32) (G48 : gH) : Option gO := rR G48 l0 3 22 (t_102_3_38 K d G48 l0 l4 l2 l5)
noncomputable def t_102_3_40 (K : gK) (d : Nat) (G45 : gH) (a46 : Nat) (l3 : Int32) (l0 : Nat) (l4 : Int32) (l2 : Int32) (l5 : Int32) (v47 : Int32) : Option gO := yI G45 a46 0 v47 l3 (t_102_3_39 K d l0 l4 l2 l5)
noncomputable def t_102_3_41 (K : gK) (d : Nat) (G45 : gH) (l0 : Nat) (l3 : Int32) (l4 : Int32) (l2 : Int32) (l5 : Int32) (a46 : Nat) : Option gO := rI G45 l0 3 17 (t_102_3_40 K d G45 a46 l3 l0 l4 l2 l5)
noncomputable def t_102_3_42 (K : gK) (d : Nat) (l0 : Nat) (l3 : Int32) (l4 : Int32) (l2 : Int32) (l5 : Int32) (G45 : gH) : Option gO := rR G45 l0 3 21 (t_102_3_41 K d G45 l0 l3 l4 l2 l5)
noncomputable def t_102_3_43 (K : gK) (d : Nat) (G42 : gH) (a43 : Nat) (l1 : Int32) (l0 : Nat) (l3 : Int32) (l4 : Int32) (l2 : Int32) (l5 : Int32) (v44 : Int32) : Option gO := yI G42 a43 0 v44 l1 (t_102_3_42 K d l0 l3 l4 l2 l5)
noncomputable def t_102_3_44 (K : gK) (d : Nat) (G42 : gH) (l0 : Nat) (l1 : Int32) (l3 : Int32) (l4 : Int32) (l2 : Int32) (l5 : Int32) (a43 : Nat) : Option gO := rI G42 l0 3 17 (t_102_3_43 K d G42 a43 l1 l0 l3 l4 l2 l5)
noncomputable def t_102_3_45 (K : gK) (d : Nat) (l0 : Nat) (l1 : Int32) (l3 : Int32) (l4 : Int32) (l2 : Int32) (l5 : Int32) (G42 : gH) : Option gO := rR G42 l0 3 20 (t_102_3_44 K d G42 l0 l1 l3 l4 l2 l5)
noncomputable def t_102_3_46 (K : gK) (d : Nat) (G38 : gH) (a39 : Nat) (v40 : Int32) (l0 : Nat) (l1 : Int32) (l3 : Int32) (l4 : Int32) (l2 : Int32) (l5 : Int32) (v41 : Int32) : Option gO := yI G38 a39 0 v40 v41 (t_102_3_45 K d l0 l1 l3 l4 l2 l5)
noncomputable def t_102_3_47 (K : gK) (d : Nat) (G38 : gH) (l0 : Nat) (a39 : Nat) (l1 : Int32) (l3 : Int32) (l4 : Int32) (l2 : Int32) (l5 : Int32) (v40 : Int32) : Option gO := rI G38 l0 3 18 (t_102_3_46 K d G38 a39 v40 l0 l1 l3 l4 l2 l5)
noncomputable def t_102_3_48 (K : gK) (d : Nat) (G38 : gH) (l0 : Nat) (l1 : Int32) (l3 : Int32) (l4 : Int32) (l2 : Int32) (l5 : Int32) (a39 : Nat) : Option gO := rI G38 l0 3 17 (t_102_3_47 K d G38 l0 a39 l1 l3 l4 l2 l5)
noncomputable def t_102_3_49 (K : gK) (d : Nat) (l0 : Nat) (l1 : Int32) (l3 : Int32) (l4 : Int32) (l2 : Int32) (l5 : Int32) (G38 : gH) : Option gO := rR G38 l0 3 19 (t_102_3_48 K d G38 l0 l1 l3 l4 l2 l5)
noncomputable def t_102_3_50 (K : gK) (d : Nat) (G33 : gH) (a34 : Nat) (v36 : Int32) (l0 : Nat) (l1 : Int32) (l3 : Int32) (l4 : Int32) (l2 : Int32) (l5 : Int32) (v37 : Int32) : Option gO := yI G33 a34 0 v36 (v37 + (1 : Int32)) (t_102_3_49 K d l0 l1 l3 l4 l2 l5)
noncomputable def t_102_3_51 (K : gK) (d : Nat) (G33 : gH) (a34 : Nat) (l0 : Nat) (l1 : Int32) (l3 : Int32) (l4 : Int32) (l2 : Int32) (l5 : Int32) (v36 : Int32) : Option gO := xI G33 a34 0 v36 (t_102_3_50 K d G33 a34 v36 l0 l1 l3 l4 l2 l5)
noncomputable def t_102_3_52 (K : gK) (d : Nat) (G33 : gH) (l1 : Int32) (a34 : Nat) (l0 : Nat) (l3 : Int32) (l4 : Int32) (l2 : Int32) (l5 : Int32) (a35 : Nat) : Option gO := xI G33 a35 0 l1 (t_102_3_51 K d G33 a34 l0 l1 l3 l4 l2 l5)
noncomputable def t_102_3_53 (K : gK) (d : Nat) (G33 : gH) (l0 : Nat) (l1 : Int32) (l3 : Int32) (l4 : Int32) (l2 : Int32) (l5 : Int32) (a34 : Nat) : Option gO := rR G33 l0 3 12 (t_102_3_52 K d G33 l1 a34 l0 l3 l4 l2 l5)
noncomputable def t_102_3_54 (K : gK) (d : Nat) (l0 : Nat) (l1 : Int32) (l3 : Int32) (l4 : Int32) (l2 : Int32) (l5 : Int32) (G33 : gH) : Option gO := rR G33 l0 3 27 (t_102_3_53 K d G33 l0 l1 l3 l4 l2 l5)
noncomputable def t_102_3_55 (K : gK) (d : Nat) (a28 : Nat) (v30 : Int32) (l0 : Nat) (l1 : Int32) (l3 : Int32) (l4 : Int32) (l2 : Int32) (l5 : Int32) (v32 : Int32) (G31 : gH) : Option gO := yI G31 a28 0 v30 v32 (t_102_3_54 K d l0 l1 l3 l4 l2 l5)
noncomputable def t_102_3_56 (K : gK) (d : Nat) (G2 : gH) (l0 : Nat) (l3 : Int32) (a28 : Nat) (l1 : Int32) (l4 : Int32) (l2 : Int32) (l5 : Int32) (v30 : Int32) : Option gO := if g_cls G2 l0 = some 3 then (cI (gCa K d 172 [.ref l0, .int l3] G2) (t_102_3_55 K d a28 v30 l0 l1 l3 l4 l2 l5)) else none
noncomputable def t_102_3_57 (K : gK) (d : Nat) (G2 : gH) (l1 : Int32) (l0 : Nat) (l3 : Int32) (a28 : Nat) (l4 : Int32) (l2 : Int32) (l5 : Int32) (a29 : Nat) : Option gO := xI G2 a29 0 l1 (t_102_3_56 K d G2 l0 l3 a28 l1 l4 l2 l5)
noncomputable def t_102_3_58 (K : gK) (d : Nat) (G2 : gH) (l0 : Nat) (l1 : Int32) (l3 : Int32) (l4 : Int32) (l2 : Int32) (l5 : Int32) (a28 : Nat) : Option gO := rR G2 l0 3 12 (t_102_3_57 K d G2 l1 l0 l3 a28 l4 l2 l5)
noncomputable def t_102_3_59 (K : gK) (d : Nat) (l0 : Nat) (l1 : Int32) (l3 : Int32) (l4 : Int32) (l2 : Int32) (l5 : Int32) (v3 : Int32) (G2 : gH) : Option gO := if v3 = 0 then (rR G2 l0 3 19 (t_102_3_24 K d G2 l0 l1 l3 l4 l2 l5)) else (rR G2 l0 3 26 (t_102_3_58 K d G2 l0 l1 l3 l4 l2 l5))
noncomputable def t_102_3_60 (K : gK) (d : Nat) (l0 : Nat) (l1 : Int32) (l2 : Int32) (l3 : Int32) (l4 : Int32) (l5 : Int32) (l6 : Int32) (G69 : gH) : Option gO := gRn K d 102 3 [some (.ref l0), some (.int l1), some (.int l2), some (.int l3), some (.int l4), some (.int l5), some (.int (l6 + 1))] [] G69
noncomputable def t_102_3_61 (K : gK) (d : Nat) (G : gH) (a63 : Nat) (l3 : Int32) (v65 : Int32) (l4 : Int32) (v67 : Int32) (l0 : Nat) (l1 : Int32) (l2 : Int32) (l5 : Int32) (l6 : Int32) (v68 : Int32) : Option gO := yI G a63 0 ((((12 : Int32) * (l3 + v65)) + l4) + v67) v68 (t_102_3_60 K d l0 l1 l2 l3 l4 l5 l6)
noncomputable def t_102_3_62 (K : gK) (d : Nat) (G : gH) (l0 : Nat) (a63 : Nat) (l3 : Int32) (v65 : Int32) (l4 : Int32) (l1 : Int32) (l2 : Int32) (l5 : Int32) (l6 : Int32) (v67 : Int32) : Option gO := rI G l0 3 18 (t_102_3_61 K d G a63 l3 v65 l4 v67 l0 l1 l2 l5 l6)
noncomputable def t_102_3_63 (K : gK) (d : Nat) (G : gH) (l6 : Int32) (l0 : Nat) (a63 : Nat) (l3 : Int32) (v65 : Int32) (l4 : Int32) (l1 : Int32) (l2 : Int32) (l5 : Int32) (a66 : Nat) : Option gO := xI G a66 0 l6 (t_102_3_62 K d G l0 a63 l3 v65 l4 l1 l2 l5 l6)
noncomputable def t_102_3_64 (K : gK) (d : Nat) (G : gH) (l0 : Nat) (l6 : Int32) (a63 : Nat) (l3 : Int32) (l4 : Int32) (l1 : Int32) (l2 : Int32) (l5 : Int32) (v65 : Int32) : Option gO := rR G l0 3 35 (t_102_3_63 K d G l6 l0 a63 l3 v65 l4 l1 l2 l5)
noncomputable def t_102_3_65 (K : gK) (d : Nat) (G : gH) (l6 : Int32) (l0 : Nat) (a63 : Nat) (l3 : Int32) (l4 : Int32) (l1 : Int32) (l2 : Int32) (l5 : Int32) (a64 : Nat) : Option gO := xI G a64 0 l6 (t_102_3_64 K d G l0 l6 a63 l3 l4 l1 l2 l5)
noncomputable def t_102_3_66 (K : gK) (d : Nat) (G : gH) (l0 : Nat) (l6 : Int32) (l3 : Int32) (l4 : Int32) (l1 : Int32) (l2 : Int32) (l5 : Int32) (a63 : Nat) : Option gO := rR G l0 3 34 (t_102_3_65 K d G l6 l0 a63 l3 l4 l1 l2 l5)
noncomputable def t_102_3_67 (K : gK) (d : Nat) (l6 : Int32) (G : gH) (l0 : Nat) (l1 : Int32) (l3 : Int32) (l4 : Int32) (l2 : Int32) (l5 : Int32) (v1 : Int32) : Option gO := if v1 ≤ l6 then (if g_cls G l0 = some 3 then (cI (gCa K d 171 [.ref l0, .int l1] G) (t_102_3_59 K d l0 l1 l3 l4 l2 l5)) else none) else (rR G l0 3 25 (t_102_3_66 K d G l0 l6 l3 l4 l1 l2 l5))
noncomputable def t_102_3 (K : gK) (d : Nat) (l0 : Nat) (l1 : Int32) (l2 : Int32) (l3 : Int32) (l4 : Int32) (l5 : Int32) (l6 : Int32) (G : gH) : Option gO := rI G l0 3 33 (t_102_3_67 K d l6 G l0 l1 l3 l4 l2 l5)
theorem e_102_3 {K : gK} {d : Nat} {l0 : Nat} {l1 : Int32} {l2 : Int32} {l3 : Int32} {l4 : Int32} {l5 : Int32} {l6 : Int32} {G : gH} : gle (t_102_3 K d l0 l1 l2 l3 l4 l5 l6 G) (gRn K d 102 3 [some (.ref l0), some (.int l1), some (.int l2), some (.int l3), some (.int l4), some (.int l5), some (.int l6)] [] G) := by
  unfold t_102_3
  refine g_iload ((q_102 _).trans rfl) rfl ?_
  refine g_aload ((q_102 _).trans rfl) rfl ?_
  refine g_getI ((q_102 _).trans rfl) (fun v1 => ?_)
  refine g_cmpge ((q_102 _).trans rfl) (fun _ => ?_) (fun _ => ?_)
  · refine g_aload ((q_102 _).trans rfl) rfl ?_
    refine g_iload ((q_102 _).trans rfl) rfl ?_
    refine g_callV (kk := 1) ((q_102 _).trans rfl) (gHn m_102) rfl (by exact ⟨Nat.le_of_ble_eq_true rfl, rfl⟩) rfl (fun w G2 => gm_I (fun v3 hw => ?_))
    subst hw
    refine g_ifeq ((q_102 _).trans rfl) (fun _ => ?_) (fun _ => ?_)
    · refine g_aload ((q_102 _).trans rfl) rfl ?_
      refine g_getR ((q_102 _).trans rfl) (fun a4 => ?_)
      refine g_aload ((q_102 _).trans rfl) rfl ?_
      refine g_getI ((q_102 _).trans rfl) (fun v5 => ?_)
      refine g_aload ((q_102 _).trans rfl) rfl ?_
      refine g_getI ((q_102 _).trans rfl) (fun v6 => ?_)
      refine g_iast ((q_102 _).trans rfl) (fun G7 => ?_)
      refine g_aload ((q_102 _).trans rfl) rfl ?_
      refine g_getR ((q_102 _).trans rfl) (fun a8 => ?_)
      refine g_aload ((q_102 _).trans rfl) rfl ?_
      refine g_getI ((q_102 _).trans rfl) (fun v9 => ?_)
      refine g_iload ((q_102 _).trans rfl) rfl ?_
      refine g_iast ((q_102 _).trans rfl) (fun G10 => ?_)
      refine g_aload ((q_102 _).trans rfl) rfl ?_
      refine g_getR ((q_102 _).trans rfl) (fun a11 => ?_)
      refine g_aload ((q_102 _).trans rfl) rfl ?_
      refine g_getI ((q_102 _).trans rfl) (fun v12 => ?_)
      refine g_iload ((q_102 _).trans rfl) rfl ?_
      refine g_iast ((q_102 _).trans rfl) (fun G13 => ?_)
      refine g_aload ((q_102 _).trans rfl) rfl ?_
      refine g_getR ((q_102 _).trans rfl) (fun a14 => ?_)
      refine g_aload ((q_102 _).trans rfl) rfl ?_
      refine g_getI ((q_102 _).trans rfl) (fun v15 => ?_)
      refine g_iload ((q_102 _).trans rfl) rfl ?_
      refine g_iast ((q_102 _).trans rfl) (fun G16 => ?_)
      refine g_aload ((q_102 _).trans rfl) rfl ?_
      refine g_getR ((q_102 _).trans rfl) (fun a17 => ?_)
      refine g_aload ((q_102 _).trans rfl) rfl ?_
      refine g_getI ((q_102 _).trans rfl) (fun v18 => ?_)
      refine g_iload ((q_102 _).trans rfl) rfl ?_
      refine g_iast ((q_102 _).trans rfl) (fun G19 => ?_)
      refine g_aload ((q_102 _).trans rfl) rfl ?_
      refine g_getR ((q_102 _).trans rfl) (fun a20 => ?_)
      refine g_aload ((q_102 _).trans rfl) rfl ?_
      refine g_getI ((q_102 _).trans rfl) (fun v21 => ?_)
      refine g_iload ((q_102 _).trans rfl) rfl ?_
      refine g_zast ((q_102 _).trans rfl) (fun G22 => ?_)
      refine g_aload ((q_102 _).trans rfl) rfl ?_
      refine g_dup_ref ((q_102 _).trans rfl) ?_
      refine g_getI ((q_102 _).trans rfl) (fun v23 => ?_)
      refine g_push ((q_102 _).trans rfl) ?_
      refine g_iadd ((q_102 _).trans rfl) ?_
      refine g_putf ((q_102 _).trans rfl) (fun G24 => ?_)
      refine g_aload ((q_102 _).trans rfl) rfl ?_
      refine g_dup_ref ((q_102 _).trans rfl) ?_
      refine g_getI ((q_102 _).trans rfl) (fun v25 => ?_)
      refine g_push ((q_102 _).trans rfl) ?_
      refine g_iadd ((q_102 _).trans rfl) ?_
      refine g_putf ((q_102 _).trans rfl) (fun G26 => ?_)
      refine g_aload ((q_102 _).trans rfl) rfl ?_
      refine g_getI ((q_102 _).trans rfl) (fun v27 => ?_)
      refine g_push ((q_102 _).trans rfl) ?_
      refine g_isub ((q_102 _).trans rfl) ?_
      exact g_iret ((q_102 _).trans rfl)
    · refine g_aload ((q_102 _).trans rfl) rfl ?_
      refine g_getR ((q_102 _).trans rfl) (fun a28 => ?_)
      refine g_aload ((q_102 _).trans rfl) rfl ?_
      refine g_getR ((q_102 _).trans rfl) (fun a29 => ?_)
      refine g_iload ((q_102 _).trans rfl) rfl ?_
      refine g_iald ((q_102 _).trans rfl) (fun v30 => ?_)
      refine g_aload ((q_102 _).trans rfl) rfl ?_
      refine g_iload ((q_102 _).trans rfl) rfl ?_
      refine g_callV (kk := 1) ((q_102 _).trans rfl) (gHn m_102) rfl (by exact ⟨Nat.le_of_ble_eq_true rfl, rfl⟩) rfl (fun w G31 => gm_I (fun v32 hw => ?_))
      subst hw
      refine g_iast ((q_102 _).trans rfl) (fun G33 => ?_)
      refine g_aload ((q_102 _).trans rfl) rfl ?_
      refine g_getR ((q_102 _).trans rfl) (fun a34 => ?_)
      refine g_aload ((q_102 _).trans rfl) rfl ?_
      refine g_getR ((q_102 _).trans rfl) (fun a35 => ?_)
      refine g_iload ((q_102 _).trans rfl) rfl ?_
      refine g_iald ((q_102 _).trans rfl) (fun v36 => ?_)
      refine g_dup2 ((q_102 _).trans rfl) ?_
      refine g_iald ((q_102 _).trans rfl) (fun v37 => ?_)
      refine g_push ((q_102 _).trans rfl) ?_
      refine g_iadd ((q_102 _).trans rfl) ?_
      refine g_iast ((q_102 _).trans rfl) (fun G38 => ?_)
      refine g_aload ((q_102 _).trans rfl) rfl ?_
      refine g_getR ((q_102 _).trans rfl) (fun a39 => ?_)
      refine g_aload ((q_102 _).trans rfl) rfl ?_
      refine g_getI ((q_102 _).trans rfl) (fun v40 => ?_)
      refine g_aload ((q_102 _).trans rfl) rfl ?_
      refine g_getI ((q_102 _).trans rfl) (fun v41 => ?_)
      refine g_iast ((q_102 _).trans rfl) (fun G42 => ?_)
      refine g_aload ((q_102 _).trans rfl) rfl ?_
      refine g_getR ((q_102 _).trans rfl) (fun a43 => ?_)
      refine g_aload ((q_102 _).trans rfl) rfl ?_
      refine g_getI ((q_102 _).trans rfl) (fun v44 => ?_)
      refine g_iload ((q_102 _).trans rfl) rfl ?_
      refine g_iast ((q_102 _).trans rfl) (fun G45 => ?_)
      refine g_aload ((q_102 _).trans rfl) rfl ?_
      refine g_getR ((q_102 _).trans rfl) (fun a46 => ?_)
      refine g_aload ((q_102 _).trans rfl) rfl ?_
      refine g_getI ((q_102 _).trans rfl) (fun v47 => ?_)
      refine g_iload ((q_102 _).trans rfl) rfl ?_
      refine g_iast ((q_102 _).trans rfl) (fun G48 => ?_)
      refine g_aload ((q_102 _).trans rfl) rfl ?_
      refine g_getR ((q_102 _).trans rfl) (fun a49 => ?_)
      refine g_aload ((q_102 _).trans rfl) rfl ?_
      refine g_getI ((q_102 _).trans rfl) (fun v50 => ?_)
      refine g_iload ((q_102 _).trans rfl) rfl ?_
      refine g_iast ((q_102 _).trans rfl) (fun G51 => ?_)
      refine g_aload ((q_102 _).trans rfl) rfl ?_
      refine g_getR ((q_102 _).trans rfl) (fun a52 => ?_)
      refine g_aload ((q_102 _).trans rfl) rfl ?_
      refine g_getI ((q_102 _).trans rfl) (fun v53 => ?_)
      refine g_iload ((q_102 _).trans rfl) rfl ?_
      refine g_iast ((q_102 _).trans rfl) (fun G54 => ?_)
      refine g_aload ((q_102 _).trans rfl) rfl ?_
      refine g_getR ((q_102 _).trans rfl) (fun a55 => ?_)
      refine g_aload ((q_102 _).trans rfl) rfl ?_
      refine g_getI ((q_102 _).trans rfl) (fun v56 => ?_)
      refine g_iload ((q_102 _).trans rfl) rfl ?_
      refine g_zast ((q_102 _).trans rfl) (fun G57 => ?_)
      refine g_aload ((q_102 _).trans rfl) rfl ?_
      refine g_dup_ref ((q_102 _).trans rfl) ?_
      refine g_getI ((q_102 _).trans rfl) (fun v58 => ?_)
      refine g_push ((q_102 _).trans rfl) ?_
      refine g_iadd ((q_102 _).trans rfl) ?_
      refine g_putf ((q_102 _).trans rfl) (fun G59 => ?_)
      refine g_aload ((q_102 _).trans rfl) rfl ?_
      refine g_dup_ref ((q_102 _).trans rfl) ?_
      refine g_getI ((q_102 _).trans rfl) (fun v60 => ?_)
      refine g_push ((q_102 _).trans rfl) ?_
      refine g_iadd ((q_102 _).trans rfl) ?_
      refine g_putf ((q_102 _).trans rfl) (fun G61 => ?_)
      refine g_aload ((q_102 _).trans rfl) rfl ?_
      refine g_getI ((q_102 _).trans rfl) (fun v62 => ?_)
      refine g_push ((q_102 _).trans rfl) ?_
      refine g_isub ((q_102 _).trans rfl) ?_
      exact g_iret ((q_102 _).trans rfl)
  · refine g_aload ((q_102 _).trans rfl) rfl ?_
    refine g_getR ((q_102 _).trans rfl) (fun a63 => ?_)
    refine g_push ((q_102 _).trans rfl) ?_
    refine g_iload ((q_102 _).trans rfl) rfl ?_
    refine g_aload ((q_102 _).trans rfl) rfl ?_
    refine g_getR ((q_102 _).trans rfl) (fun a64 => ?_)
    refine g_iload ((q_102 _).trans rfl) rfl ?_
    refine g_iald ((q_102 _).trans rfl) (fun v65 => ?_)
    refine g_iadd ((q_102 _).trans rfl) ?_
    refine g_imul ((q_102 _).trans rfl) ?_
    refine g_iload ((q_102 _).trans rfl) rfl ?_
    refine g_iadd ((q_102 _).trans rfl) ?_
    refine g_aload ((q_102 _).trans rfl) rfl ?_
    refine g_getR ((q_102 _).trans rfl) (fun a66 => ?_)
    refine g_iload ((q_102 _).trans rfl) rfl ?_
    refine g_iald ((q_102 _).trans rfl) (fun v67 => ?_)
    refine g_iadd ((q_102 _).trans rfl) ?_
    refine g_aload ((q_102 _).trans rfl) rfl ?_
    refine g_getI ((q_102 _).trans rfl) (fun v68 => ?_)
    refine g_iast ((q_102 _).trans rfl) (fun G69 => ?_)
    refine g_iinc ((q_102 _).trans rfl) rfl ?_
    refine g_goto ((q_102 _).trans rfl) ?_
    exact gle.rf _
theorem q_103 {K : gK} (pc : Nat) : gP K 103 pc = ((gL_103 K).lookup pc).getD o_none := rfl
noncomputable def t_103_0_1 (K : gK) (d : Nat) (v13 : Int32) (G12 : gH) : Option gO := if narrow .char (.int v13) = .int v13 then some (.inl (some (.int v13)), G12) else none
noncomputable def t_103_0_2 (K : gK) (d : Nat) (G9 : gH) (l0 : Nat) (a11 : Nat) : Option gO := if g_cls G9 l0 = some 0 then (cI (gCa K d 166 [.ref l0, .ref a11] G9) (t_103_0_1 K d)) else none
noncomputable def t_103_0_3 (K : gK) (d : Nat) (l0 : Nat) (G9 : gH) : Option gO := rR G9 l0 0 6 (t_103_0_2 K d G9 l0)
noncomputable def t_103_0_4 (K : gK) (d : Nat) (G6 : gH) (l2 : Int32) (l3 : Int32) (l4 : Int32) (l0 : Nat) (a8 : Nat) : Option gO := if g_cls G6 a8 = some 1 then (cV (gCa K d 165 [.ref a8, .int l2, .int l3, .int l4] G6) (t_103_0_3 K d l0)) else none
noncomputable def t_103_0_5 (K : gK) (d : Nat) (l0 : Nat) (l2 : Int32) (l3 : Int32) (l4 : Int32) (G6 : gH) : Option gO := rR G6 l0 0 5 (t_103_0_4 K d G6 l2 l3 l4 l0)
noncomputable def t_103_0_6 (K : gK) (d : Nat) (l2 : Int32) (l0 : Nat) (l3 : Int32) (l4 : Int32) (G4 : gH) : Option gO := cV (gCa K d 164 [.int l2] G4) (t_103_0_5 K d l0 l2 l3 l4)
noncomputable def t_103_0_7 (K : gK) (d : Nat) (a1 : Nat) (l5 : Int32) (l2 : Int32) (l0 : Nat) (l3 : Int32) (l4 : Int32) (a3 : Nat) (G2 : gH) : Option gO := if g_cls G2 a1 = some 1 then (cV (gCa K d 163 [.ref a1, .ref a3, .int l5] G2) (t_103_0_6 K d l2 l0 l3 l4)) else none
noncomputable def t_103_0_8 (K : gK) (d : Nat) (G : gH) (l0 : Nat) (l1 : Int32) (l5 : Int32) (l2 : Int32) (l3 : Int32) (l4 : Int32) (a1 : Nat) : Option gO := if g_cls G l0 = some 0 then (cR (gCa K d 157 [.ref l0, .int l1] G) (t_103_0_7 K d a1 l5 l2 l0 l3 l4)) else none
noncomputable def t_103_0 (K : gK) (d : Nat) (l0 : Nat) (l1 : Int32) (l2 : Int32) (l3 : Int32) (l4 : Int32) (l5 : Int32) (G : gH) : Option gO := rR G l0 0 5 (t_103_0_8 K d G l0 l1 l5 l2 l3 l4)
theorem e_103_0 {K : gK} {d : Nat} {l0 : Nat} {l1 : Int32} {l2 : Int32} {l3 : Int32} {l4 : Int32} {l5 : Int32} {G : gH} : gle (t_103_0 K d l0 l1 l2 l3 l4 l5 G) (gRn K d 103 0 [some (.ref l0), some (.int l1), some (.int l2), some (.int l3), some (.int l4), some (.int l5)] [] G) := by
  unfold t_103_0
  refine g_aload ((q_103 _).trans rfl) rfl ?_
  refine g_getR ((q_103 _).trans rfl) (fun a1 => ?_)
  refine g_aload ((q_103 _).trans rfl) rfl ?_
  refine g_iload ((q_103 _).trans rfl) rfl ?_
  refine g_callV (kk := 1) ((q_103 _).trans rfl) (gHn m_103) rfl (by exact ⟨Nat.le_of_ble_eq_true rfl, rfl⟩) rfl (fun w G2 => gm_R (fun a3 hw => ?_))
  subst hw
  refine g_iload ((q_103 _).trans rfl) rfl ?_
  refine g_callV (kk := 2) ((q_103 _).trans rfl) (gHn m_103) rfl (by exact ⟨Nat.le_of_ble_eq_true rfl, rfl⟩) rfl (fun w G4 => gm_V (fun hw => ?_))
  subst hw
  refine g_iload ((q_103 _).trans rfl) rfl ?_
  refine g_callS (kk := 1) ((q_103 _).trans rfl) (gHn m_103) (by exact ⟨Nat.le_of_ble_eq_true rfl, Nat.le_of_ble_eq_true rfl, rfl⟩) rfl (fun w G6 => gm_V (fun hw => ?_))
  subst hw
  refine g_aload ((q_103 _).trans rfl) rfl ?_
  refine g_getR ((q_103 _).trans rfl) (fun a8 => ?_)
  refine g_iload ((q_103 _).trans rfl) rfl ?_
  refine g_iload ((q_103 _).trans rfl) rfl ?_
  refine g_iload ((q_103 _).trans rfl) rfl ?_
  refine g_callV (kk := 3) ((q_103 _).trans rfl) (gHn m_103) rfl (by exact ⟨Nat.le_of_ble_eq_true rfl, rfl⟩) rfl (fun w G9 => gm_V (fun hw => ?_))
  subst hw
  refine g_aload ((q_103 _).trans rfl) rfl ?_
  refine g_aload ((q_103 _).trans rfl) rfl ?_
  refine g_getR ((q_103 _).trans rfl) (fun a11 => ?_)
  refine g_callV (kk := 1) ((q_103 _).trans rfl) (gHn m_103) rfl (by exact ⟨Nat.le_of_ble_eq_true rfl, rfl⟩) rfl (fun w G12 => gm_I (fun v13 hw => ?_))
  subst hw
  exact g_zret ((q_103 _).trans rfl)
theorem c_103 {K : gK} {d : Nat} {l0 : Nat} {l1 : Int32} {l2 : Int32} {l3 : Int32} {l4 : Int32} {l5 : Int32} {G : gH} : gle (t_103_0 K d l0 l1 l2 l3 l4 l5 G) (gCa K (d + 1) 103 [.ref l0, .int l1, .int l2, .int l3, .int l4, .int l5] G) := by
  have h : gent (gMx 103) [.ref l0, .int l1, .int l2, .int l3, .int l4, .int l5] = [some (.ref l0), some (.int l1), some (.int l2), some (.int l3), some (.int l4), some (.int l5)] := by
    show gent (gT 103).2.2.2.1 _ = _
    rw [m_103]; rfl
  exact fun r e => (congrArg (fun q => gRn K d 103 0 q [] G) h).trans (e_103_0 r e)
theorem q_104 {K : gK} (pc : Nat) : gP K 104 pc = ((gL_104 K).lookup pc).getD o_none := rfl
noncomputable def t_104_0_1 (K : gK) (d : Nat) (v15 : Int32) (G14 : gH) : Option gO := some (.inl (some (.int v15)), G14)
noncomputable def t_104_0_2 (K : gK) (d : Nat) (l0 : Nat) (G12 : gH) : Option gO := if g_cls G12 l0 = some 0 then (cI (gCa K d 167 [.ref l0] G12) (t_104_0_1 K d)) else none
noncomputable def t_104_0_3 (K : gK) (d : Nat) (v19 : Int32) (G18 : gH) : Option gO := some (.inl (some (.int v19)), G18)
noncomputable def t_104_0_4 (K : gK) (d : Nat) (l0 : Nat) (G16 : gH) : Option gO := if g_cls G16 l0 = some 0 then (cI (gCa K d 167 [.ref l0] G16) (t_104_0_3 K d)) else none
noncomputable def t_104_0_5 (K : gK) (d : Nat) (l0 : Nat) (v11 : Int32) (G10 : gH) : Option gO := if (40 : Int32) ≤ v11 then (cV (gCa K d 151 [.int (0 : Int32)] G10) (t_104_0_2 K d l0)) else (cV (gCa K d 151 [.int (1 : Int32)] G10) (t_104_0_4 K d l0))
noncomputable def t_104_0_6 (K : gK) (d : Nat) (G7 : gH) (l0 : Nat) (a9 : Nat) : Option gO := if g_cls G7 a9 = some 12 then (cI (gCa K d 110 [.ref a9] G7) (t_104_0_5 K d l0)) else none
noncomputable def t_104_0_7 (K : gK) (d : Nat) (l0 : Nat) (v8 : Int32) (G7 : gH) : Option gO := if v8 = 0 then (some (.inr 4, gjunk G7 6)) else (rR G7 l0 0 2 (t_104_0_6 K d G7 l0))
noncomputable def t_104_0_8 (K : gK) (d : Nat) (G4 : gH) (l0 : Nat) (a6 : Nat) : Option gO := if g_cls G4 l0 = some 0 then (cI (gCa K d 173 [.ref l0, .ref a6] G4) (t_104_0_7 K d l0)) else none
noncomputable def t_104_0_9 (K : gK) (d : Nat) (l0 : Nat) (G4 : gH) : Option gO := rR G4 l0 0 6 (t_104_0_8 K d G4 l0)
noncomputable def t_104_0_10 (K : gK) (d : Nat) (a1 : Nat) (l2 : Int32) (l0 : Nat) (a3 : Nat) (G2 : gH) : Option gO := if g_cls G2 a1 = some 1 then (cV (gCa K d 163 [.ref a1, .ref a3, .int l2] G2) (t_104_0_9 K d l0)) else none
noncomputable def t_104_0_11 (K : gK) (d : Nat) (G : gH) (l0 : Nat) (l1 : Int32) (l2 : Int32) (a1 : Nat) : Option gO := if g_cls G l0 = some 0 then (cR (gCa K d 157 [.ref l0, .int l1] G) (t_104_0_10 K d a1 l2 l0)) else none
noncomputable def t_104_0 (K : gK) (d : Nat) (l0 : Nat) (l1 : Int32) (l2 : Int32) (G : gH) : Option gO := rR G l0 0 5 (t_104_0_11 K d G l0 l1 l2)
theorem e_104_0 {K : gK} {d : Nat} {l0 : Nat} {l1 : Int32} {l2 : Int32} {G : gH} : gle (t_104_0 K d l0 l1 l2 G) (gRn K d 104 0 [some (.ref l0), some (.int l1), some (.int l2)] [] G) := by
  unfold t_104_0
  refine g_aload ((q_104 _).trans rfl) rfl ?_
  refine g_getR ((q_104 _).trans rfl) (fun a1 => ?_)
  refine g_aload ((q_104 _).trans rfl) rfl ?_
  refine g_iload ((q_104 _).trans rfl) rfl ?_
  refine g_callV (kk := 1) ((q_104 _).trans rfl) (gHn m_104) rfl (by exact ⟨Nat.le_of_ble_eq_true rfl, rfl⟩) rfl (fun w G2 => gm_R (fun a3 hw => ?_))
  subst hw
  refine g_iload ((q_104 _).trans rfl) rfl ?_
  refine g_callV (kk := 2) ((q_104 _).trans rfl) (gHn m_104) rfl (by exact ⟨Nat.le_of_ble_eq_true rfl, rfl⟩) rfl (fun w G4 => gm_V (fun hw => ?_))
  subst hw
  refine g_aload ((q_104 _).trans rfl) rfl ?_
  refine g_aload ((q_104 _).trans rfl) rfl ?_
  refine g_getR ((q_104 _).trans rfl) (fun a6 => ?_)
  refine g_callV (kk := 1) ((q_104 _).trans rfl) (gHn m_104) rfl (by exact ⟨Nat.le_of_ble_eq_true rfl, rfl⟩) rfl (fun w G7 => gm_I (fun v8 hw => ?_))
  subst hw
  refine g_ifne ((q_104 _).trans rfl) (fun _ => ?_) (fun _ => ?_)
  · exact gle.tr (gle.eq (if_pos (Nat.le_of_ble_eq_true rfl)).symm) (g_throw ((q_104 _).trans rfl))
  · refine g_aload ((q_104 _).trans rfl) rfl ?_
    refine g_getR ((q_104 _).trans rfl) (fun a9 => ?_)
    refine g_callV (kk := 0) ((q_104 _).trans rfl) (gHn m_104) rfl (by exact ⟨Nat.le_of_ble_eq_true rfl, rfl⟩) rfl (fun w G10 => gm_I (fun v11 hw => ?_))
    subst hw
    refine g_push ((q_104 _).trans rfl) ?_
    refine g_cmpge ((q_104 _).trans rfl) (fun _ => ?_) (fun _ => ?_)
    · refine g_push ((q_104 _).trans rfl) ?_
      refine g_callS (kk := 1) ((q_104 _).trans rfl) (gHn m_104) (by exact ⟨Nat.le_of_ble_eq_true rfl, Nat.le_of_ble_eq_true rfl, rfl⟩) rfl (fun w G12 => gm_V (fun hw => ?_))
      subst hw
      refine g_aload ((q_104 _).trans rfl) rfl ?_
      refine g_callV (kk := 0) ((q_104 _).trans rfl) (gHn m_104) rfl (by exact ⟨Nat.le_of_ble_eq_true rfl, rfl⟩) rfl (fun w G14 => gm_I (fun v15 hw => ?_))
      subst hw
      exact g_iret ((q_104 _).trans rfl)
    · refine g_push ((q_104 _).trans rfl) ?_
      refine g_goto ((q_104 _).trans rfl) ?_
      refine g_callS (kk := 1) ((q_104 _).trans rfl) (gHn m_104) (by exact ⟨Nat.le_of_ble_eq_true rfl, Nat.le_of_ble_eq_true rfl, rfl⟩) rfl (fun w G16 => gm_V (fun hw => ?_))
      subst hw
      refine g_aload ((q_104 _).trans rfl) rfl ?_
      refine g_callV (kk := 0) ((q_104 _).trans rfl) (gHn m_104) rfl (by exact ⟨Nat.le_of_ble_eq_true rfl, rfl⟩) rfl (fun w G18 => gm_I (fun v19 hw => ?_))
      subst hw
      exact g_iret ((q_104 _).trans rfl)
theorem c_104 {K : gK} {d : Nat} {l0 : Nat} {l1 : Int32} {l2 : Int32} {G : gH} : gle (t_104_0 K d l0 l1 l2 G) (gCa K (d + 1) 104 [.ref l0, .int l1, .int l2] G) := by
  have h : gent (gMx 104) [.ref l0, .int l1, .int l2] = [some (.ref l0), some (.int l1), some (.int l2)] := by
    show gent (gT 104).2.2.2.1 _ = _
    rw [m_104]; rfl
  exact fun r e => (congrArg (fun q => gRn K d 104 0 q [] G) h).trans (e_104_0 r e)
theorem q_105 {K : gK} (pc : Nat) : gP K 105 pc = ((gL_105 K).lookup pc).getD o_none := rfl
noncomputable def t_105_0 (K : gK) (d : Nat) (l0 : Nat) (l1 : Int32) (l2 : Int32) (G : gH) : Option gO := gRn K d 105 2 [some (.ref l0), some (.int l1), some (.int l2), some (.int (0 : Int32))] [] G
theorem e_105_0 {K : gK} {d : Nat} {l0 : Nat} {l1 : Int32} {l2 : Int32} {G : gH} : gle (t_105_0 K d l0 l1 l2 G) (gRn K d 105 0 [some (.ref l0), some (.int l1), some (.int l2), none] [] G) := by
  unfold t_105_0
  refine g_push ((q_105 _).trans rfl) ?_
  refine g_istore ((q_105 _).trans rfl) ?_
  exact gle.rf _
theorem c_105 {K : gK} {d : Nat} {l0 : Nat} {l1 : Int32} {l2 : Int32} {G : gH} : gle (t_105_0 K d l0 l1 l2 G) (gCa K (d + 1) 105 [.ref l0, .int l1, .int l2] G) := by
  have h : gent (gMx 105) [.ref l0, .int l1, .int l2] = [some (.ref l0), some (.int l1), some (.int l2), none] := by
    show gent (gT 105).2.2.2.1 _ = _
    rw [m_105]; rfl
  exact fun r e => (congrArg (fun q => gRn K d 105 0 q [] G) h).trans (e_105_0 r e)
noncomputable def t_105_2_1 (K : gK) (d : Nat) (l0 : Nat) (l1 : Int32) (l2 : Int32) (l3 : Int32) (v8 : Int32) (G7 : gH) : Option gO := if v8 = (45 : Int32) then (if narrow .boolean (.int (1 : Int32)) = .int (1 : Int32) then some (.inl (some (.int (1 : Int32))), G7) else none) else (gRn K d 105 2 [some (.ref l0), some (.int l1), some (.int l2), some (.int (l3 + 1))] [] G7)
noncomputable def t_105_2_2 (K : gK) (d : Nat) (G3 : gH) (l0 : Nat) (l1 : Int32) (v4 : Int32) (v5 : Int32) (l2 : Int32) (l3 : Int32) (v6 : Int32) : Option gO := if g_cls G3 l0 = some 3 then (cI (gCa K d 101 [.ref l0, .int l1, .int v4, .int v5, .int v6, .int l2] G3) (t_105_2_1 K d l0 l1 l2 l3)) else none
noncomputable def t_105_2_3 (K : gK) (d : Nat) (G3 : gH) (l0 : Nat) (l1 : Int32) (v4 : Int32) (l2 : Int32) (l3 : Int32) (v5 : Int32) : Option gO := rI G3 l0 3 38 (t_105_2_2 K d G3 l0 l1 v4 v5 l2 l3)
noncomputable def t_105_2_4 (K : gK) (d : Nat) (G3 : gH) (l0 : Nat) (l1 : Int32) (l2 : Int32) (l3 : Int32) (v4 : Int32) : Option gO := rI G3 l0 3 37 (t_105_2_3 K d G3 l0 l1 v4 l2 l3)
noncomputable def t_105_2_5 (K : gK) (d : Nat) (l0 : Nat) (l1 : Int32) (l2 : Int32) (l3 : Int32) (G3 : gH) : Option gO := rI G3 l0 3 39 (t_105_2_4 K d G3 l0 l1 l2 l3)
noncomputable def t_105_2_6 (K : gK) (d : Nat) (l3 : Int32) (l0 : Nat) (l1 : Int32) (l2 : Int32) (G2 : gH) : Option gO := if (4 : Int32) = 0 then none else (if narrow .int (.int (l3 - l3 / (4 : Int32) * (4 : Int32))) = .int (l3 - l3 / (4 : Int32) * (4 : Int32)) ∧ fits .int (.int (l3 - l3 / (4 : Int32) * (4 : Int32))) = true then wF G2 l0 3 39 (.int (l3 - l3 / (4 : Int32) * (4 : Int32))) (t_105_2_5 K d l0 l1 l2 l3) else none)
noncomputable def t_105_2_7 (K : gK) (d : Nat) (l3 : Int32) (l0 : Nat) (l1 : Int32) (l2 : Int32) (G1 : gH) : Option gO := if (4 : Int32) = 0 then none else (if (12 : Int32) = 0 then none else (if narrow .int (.int ((l3 / (4 : Int32)) - (l3 / (4 : Int32)) / (12 : Int32) * (12 : Int32))) = .int ((l3 / (4 : Int32)) - (l3 / (4 : Int32)) / (12 : Int32) * (12 : Int32)) ∧ fits .int (.int ((l3 / (4 : Int32)) - (l3 / (4 : Int32)) / (12 : Int32) * (12 : Int32))) = true then wF G1 l0 3 38 (.int ((l3 / (4 : Int32)) - (l3 / (4 : Int32)) / (12 : Int32) * (12 : Int32))) (t_105_2_6 K d l3 l0 l1 l2) else none))
noncomputable def t_105_2 (K : gK) (d : Nat) (l0 : Nat) (l1 : Int32) (l2 : Int32) (l3 : Int32) (G : gH) : Option gO := if (2880 : Int32) ≤ l3 then (if narrow .boolean (.int (0 : Int32)) = .int (0 : Int32) then some (.inl (some (.int (0 : Int32))), G) else none) else (if (48 : Int32) = 0 then none else (if narrow .int (.int (l3 / (48 : Int32))) = .int (l3 / (48 : Int32)) ∧ fits .int (.int (l3 / (48 : Int32))) = true then wF G l0 3 37 (.int (l3 / (48 : Int32))) (t_105_2_7 K d l3 l0 l1 l2) else none))
theorem e_105_2 {K : gK} {d : Nat} {l0 : Nat} {l1 : Int32} {l2 : Int32} {l3 : Int32} {G : gH} : gle (t_105_2 K d l0 l1 l2 l3 G) (gRn K d 105 2 [some (.ref l0), some (.int l1), some (.int l2), some (.int l3)] [] G) := by
  unfold t_105_2
  refine g_iload ((q_105 _).trans rfl) rfl ?_
  refine g_push ((q_105 _).trans rfl) ?_
  refine g_cmpge ((q_105 _).trans rfl) (fun _ => ?_) (fun _ => ?_)
  · refine g_push ((q_105 _).trans rfl) ?_
    exact g_zret ((q_105 _).trans rfl)
  · refine g_aload ((q_105 _).trans rfl) rfl ?_
    refine g_iload ((q_105 _).trans rfl) rfl ?_
    refine g_push ((q_105 _).trans rfl) ?_
    refine g_idiv ((q_105 _).trans rfl) (fun _ => ?_)
    refine g_putf ((q_105 _).trans rfl) (fun G1 => ?_)
    refine g_aload ((q_105 _).trans rfl) rfl ?_
    refine g_iload ((q_105 _).trans rfl) rfl ?_
    refine g_push ((q_105 _).trans rfl) ?_
    refine g_idiv ((q_105 _).trans rfl) (fun _ => ?_)
    refine g_push ((q_105 _).trans rfl) ?_
    refine g_irem ((q_105 _).trans rfl) (fun _ => ?_)
    refine g_putf ((q_105 _).trans rfl) (fun G2 => ?_)
    refine g_aload ((q_105 _).trans rfl) rfl ?_
    refine g_iload ((q_105 _).trans rfl) rfl ?_
    refine g_push ((q_105 _).trans rfl) ?_
    refine g_irem ((q_105 _).trans rfl) (fun _ => ?_)
    refine g_putf ((q_105 _).trans rfl) (fun G3 => ?_)
    refine g_aload ((q_105 _).trans rfl) rfl ?_
    refine g_iload ((q_105 _).trans rfl) rfl ?_
    refine g_aload ((q_105 _).trans rfl) rfl ?_
    refine g_getI ((q_105 _).trans rfl) (fun v4 => ?_)
    refine g_aload ((q_105 _).trans rfl) rfl ?_
    refine g_getI ((q_105 _).trans rfl) (fun v5 => ?_)
    refine g_aload ((q_105 _).trans rfl) rfl ?_
    refine g_getI ((q_105 _).trans rfl) (fun v6 => ?_)
    refine g_iload ((q_105 _).trans rfl) rfl ?_
    refine g_callV (kk := 5) ((q_105 _).trans rfl) (gHn m_105) rfl (by exact ⟨Nat.le_of_ble_eq_true rfl, rfl⟩) rfl (fun w G7 => gm_I (fun v8 hw => ?_))
    subst hw
    refine g_push ((q_105 _).trans rfl) ?_
    refine g_cmpne ((q_105 _).trans rfl) (fun _ => ?_) (fun _ => ?_)
    · refine g_push ((q_105 _).trans rfl) ?_
      exact g_zret ((q_105 _).trans rfl)
    · refine g_iinc ((q_105 _).trans rfl) rfl ?_
      refine g_goto ((q_105 _).trans rfl) ?_
      exact gle.rf _
theorem q_106 {K : gK} (pc : Nat) : gP K 106 pc = ((gL_106 K).lookup pc).getD o_none := rfl
noncomputable def t_106_0_1 (K : gK) (d : Nat) (G6 : gH) (v9 : Int32) : Option gO := some (.inl (some (.int v9)), G6)
noncomputable def t_106_0_2 (K : gK) (d : Nat) (G6 : gH) (a8 : Nat) : Option gO := rI G6 a8 2 2 (t_106_0_1 K d G6)
noncomputable def t_106_0_3 (K : gK) (d : Nat) (l0 : Nat) (G6 : gH) : Option gO := rR G6 l0 0 6 (t_106_0_2 K d G6)
noncomputable def t_106_0_4 (K : gK) (d : Nat) (l0 : Nat) (v5 : Int32) (G4 : gH) : Option gO := if g_cls G4 l0 = some 0 then (cV (gCa K d 176 [.ref l0] G4) (t_106_0_3 K d l0)) else none
noncomputable def t_106_0_5 (K : gK) (d : Nat) (a1 : Nat) (l0 : Nat) (a3 : Nat) (G2 : gH) : Option gO := if g_cls G2 a1 = some 12 then (cI (gCa K d 175 [.ref a1, .ref a3] G2) (t_106_0_4 K d l0)) else none
noncomputable def t_106_0_6 (K : gK) (d : Nat) (G : gH) (l0 : Nat) (l1 : Int32) (a1 : Nat) : Option gO := if g_cls G l0 = some 0 then (cR (gCa K d 174 [.ref l0, .int l1] G) (t_106_0_5 K d a1 l0)) else none
noncomputable def t_106_0 (K : gK) (d : Nat) (l0 : Nat) (l1 : Int32) (G : gH) : Option gO := rR G l0 0 2 (t_106_0_6 K d G l0 l1)
theorem e_106_0 {K : gK} {d : Nat} {l0 : Nat} {l1 : Int32} {G : gH} : gle (t_106_0 K d l0 l1 G) (gRn K d 106 0 [some (.ref l0), some (.int l1)] [] G) := by
  unfold t_106_0
  refine g_aload ((q_106 _).trans rfl) rfl ?_
  refine g_getR ((q_106 _).trans rfl) (fun a1 => ?_)
  refine g_aload ((q_106 _).trans rfl) rfl ?_
  refine g_iload ((q_106 _).trans rfl) rfl ?_
  refine g_callV (kk := 1) ((q_106 _).trans rfl) (gHn m_106) rfl (by exact ⟨Nat.le_of_ble_eq_true rfl, rfl⟩) rfl (fun w G2 => gm_R (fun a3 hw => ?_))
  subst hw
  refine g_callV (kk := 1) ((q_106 _).trans rfl) (gHn m_106) rfl (by exact ⟨Nat.le_of_ble_eq_true rfl, rfl⟩) rfl (fun w G4 => gm_I (fun v5 hw => ?_))
  subst hw
  refine g_pop_int ((q_106 _).trans rfl) ?_
  refine g_aload ((q_106 _).trans rfl) rfl ?_
  refine g_callV (kk := 0) ((q_106 _).trans rfl) (gHn m_106) rfl (by exact ⟨Nat.le_of_ble_eq_true rfl, rfl⟩) rfl (fun w G6 => gm_V (fun hw => ?_))
  subst hw
  refine g_aload ((q_106 _).trans rfl) rfl ?_
  refine g_getR ((q_106 _).trans rfl) (fun a8 => ?_)
  refine g_getI ((q_106 _).trans rfl) (fun v9 => ?_)
  exact g_iret ((q_106 _).trans rfl)
theorem c_106 {K : gK} {d : Nat} {l0 : Nat} {l1 : Int32} {G : gH} : gle (t_106_0 K d l0 l1 G) (gCa K (d + 1) 106 [.ref l0, .int l1] G) := by
  have h : gent (gMx 106) [.ref l0, .int l1] = [some (.ref l0), some (.int l1)] := by
    show gent (gT 106).2.2.2.1 _ = _
    rw [m_106]; rfl
  exact fun r e => (congrArg (fun q => gRn K d 106 0 q [] G) h).trans (e_106_0 r e)
theorem q_107 {K : gK} (pc : Nat) : gP K 107 pc = ((gL_107 K).lookup pc).getD o_none := rfl
noncomputable def t_107_0 (K : gK) (d : Nat) (l0 : Nat) (l1 : Int32) (G : gH) : Option gO := gRn K d 107 4 [some (.ref l0), some (.int l1), some (.int ((-1) : Int32)), some (.int (0 : Int32))] [] G
theorem e_107_0 {K : gK} {d : Nat} {l0 : Nat} {l1 : Int32} {G : gH} : gle (t_107_0 K d l0 l1 G) (gRn K d 107 0 [some (.ref l0), some (.int l1), none, none] [] G) := by
  unfold t_107_0
  refine g_push ((q_107 _).trans rfl) ?_
  refine g_istore ((q_107 _).trans rfl) ?_
  refine g_push ((q_107 _).trans rfl) ?_
  refine g_istore ((q_107 _).trans rfl) ?_
  exact gle.rf _
theorem c_107 {K : gK} {d : Nat} {l0 : Nat} {l1 : Int32} {G : gH} : gle (t_107_0 K d l0 l1 G) (gCa K (d + 1) 107 [.ref l0, .int l1] G) := by
  have h : gent (gMx 107) [.ref l0, .int l1] = [some (.ref l0), some (.int l1), none, none] := by
    show gent (gT 107).2.2.2.1 _ = _
    rw [m_107]; rfl
  exact fun r e => (congrArg (fun q => gRn K d 107 0 q [] G) h).trans (e_107_0 r e)
noncomputable def t_107_4_1 (K : gK) (d : Nat) (l1 : Int32) (l0 : Nat) (l3 : Int32) (G : gH) (l2 : Int32) (v3 : Int32) : Option gO := if v3 = l1 then (gRn K d 107 4 [some (.ref l0), some (.int l1), some (.int l3), some (.int (l3 + 1))] [] G) else (gRn K d 107 4 [some (.ref l0), some (.int l1), some (.int l2), some (.int (l3 + 1))] [] G)
noncomputable def t_107_4_2 (K : gK) (d : Nat) (G : gH) (l3 : Int32) (l1 : Int32) (l0 : Nat) (l2 : Int32) (a2 : Nat) : Option gO := xI G a2 0 l3 (t_107_4_1 K d l1 l0 l3 G l2)
noncomputable def t_107_4_3 (K : gK) (d : Nat) (l3 : Int32) (l2 : Int32) (G : gH) (l0 : Nat) (l1 : Int32) (v1 : Int32) : Option gO := if v1 ≤ l3 then (some (.inl (some (.int l2)), G)) else (rR G l0 3 19 (t_107_4_2 K d G l3 l1 l0 l2))
noncomputable def t_107_4 (K : gK) (d : Nat) (l0 : Nat) (l1 : Int32) (l2 : Int32) (l3 : Int32) (G : gH) : Option gO := rI G l0 3 17 (t_107_4_3 K d l3 l2 G l0 l1)
theorem e_107_4 {K : gK} {d : Nat} {l0 : Nat} {l1 : Int32} {l2 : Int32} {l3 : Int32} {G : gH} : gle (t_107_4 K d l0 l1 l2 l3 G) (gRn K d 107 4 [some (.ref l0), some (.int l1), some (.int l2), some (.int l3)] [] G) := by
  unfold t_107_4
  refine g_iload ((q_107 _).trans rfl) rfl ?_
  refine g_aload ((q_107 _).trans rfl) rfl ?_
  refine g_getI ((q_107 _).trans rfl) (fun v1 => ?_)
  refine g_cmpge ((q_107 _).trans rfl) (fun _ => ?_) (fun _ => ?_)
  · refine g_iload ((q_107 _).trans rfl) rfl ?_
    exact g_iret ((q_107 _).trans rfl)
  · refine g_aload ((q_107 _).trans rfl) rfl ?_
    refine g_getR ((q_107 _).trans rfl) (fun a2 => ?_)
    refine g_iload ((q_107 _).trans rfl) rfl ?_
    refine g_iald ((q_107 _).trans rfl) (fun v3 => ?_)
    refine g_iload ((q_107 _).trans rfl) rfl ?_
    refine g_cmpne ((q_107 _).trans rfl) (fun _ => ?_) (fun _ => ?_)
    · refine g_iload ((q_107 _).trans rfl) rfl ?_
      refine g_goto ((q_107 _).trans rfl) ?_
      refine g_istore ((q_107 _).trans rfl) ?_
      refine g_iinc ((q_107 _).trans rfl) rfl ?_
      refine g_goto ((q_107 _).trans rfl) ?_
      exact gle.rf _
    · refine g_iload ((q_107 _).trans rfl) rfl ?_
      refine g_istore ((q_107 _).trans rfl) ?_
      refine g_iinc ((q_107 _).trans rfl) rfl ?_
      refine g_goto ((q_107 _).trans rfl) ?_
      exact gle.rf _
theorem q_108 {K : gK} (pc : Nat) : gP K 108 pc = ((gL_108 K).lookup pc).getD o_none := rfl
noncomputable def t_108_0 (K : gK) (d : Nat) (l0 : Nat) (l1 : Int32) (G : gH) : Option gO := gRn K d 108 2 [some (.ref l0), some (.int l1), some (.int (0 : Int32)), none] [] G
theorem e_108_0 {K : gK} {d : Nat} {l0 : Nat} {l1 : Int32} {G : gH} : gle (t_108_0 K d l0 l1 G) (gRn K d 108 0 [some (.ref l0), some (.int l1), none, none] [] G) := by
  unfold t_108_0
  refine g_push ((q_108 _).trans rfl) ?_
  refine g_istore ((q_108 _).trans rfl) ?_
  exact gle.rf _
theorem c_108 {K : gK} {d : Nat} {l0 : Nat} {l1 : Int32} {G : gH} : gle (t_108_0 K d l0 l1 G) (gCa K (d + 1) 108 [.ref l0, .int l1] G) := by
  have h : gent (gMx 108) [.ref l0, .int l1] = [some (.ref l0), some (.int l1), none, none] := by
    show gent (gT 108).2.2.2.1 _ = _
    rw [m_108]; rfl
  exact fun r e => (congrArg (fun q => gRn K d 108 0 q [] G) h).trans (e_108_0 r e)
noncomputable def t_108_2_1 (K : gK) (d : Nat) (l0 : Nat) (l1 : Int32) (v2 : Int32) (G6 : gH) : Option gO := gRn K d 108 88 [some (.ref l0), some (.int l1), some (.int v2), some (.int l1)] [] G6
noncomputable def t_108_2_2 (K : gK) (d : Nat) (G3 : gH) (l0 : Nat) (l1 : Int32) (v2 : Int32) (v5 : Int32) : Option gO := if narrow .int (.int (v5 - (1 : Int32))) = .int (v5 - (1 : Int32)) ∧ fits .int (.int (v5 - (1 : Int32))) = true then wF G3 l0 3 17 (.int (v5 - (1 : Int32))) (t_108_2_1 K d l0 l1 v2) else none
noncomputable def t_108_2_3 (K : gK) (d : Nat) (l0 : Nat) (l1 : Int32) (v2 : Int32) (G13 : gH) : Option gO := gRn K d 108 88 [some (.ref l0), some (.int l1), some (.int v2), some (.int l1)] [] G13
noncomputable def t_108_2_4 (K : gK) (d : Nat) (G11 : gH) (l0 : Nat) (l1 : Int32) (v2 : Int32) (v12 : Int32) : Option gO := if narrow .int (.int (v12 - (1 : Int32))) = .int (v12 - (1 : Int32)) ∧ fits .int (.int (v12 - (1 : Int32))) = true then wF G11 l0 3 17 (.int (v12 - (1 : Int32))) (t_108_2_3 K d l0 l1 v2) else none
noncomputable def t_108_2_5 (K : gK) (d : Nat) (l0 : Nat) (l1 : Int32) (v2 : Int32) (G11 : gH) : Option gO := rI G11 l0 3 17 (t_108_2_4 K d G11 l0 l1 v2)
noncomputable def t_108_2_6 (K : gK) (d : Nat) (G3 : gH) (a7 : Nat) (v9 : Int32) (l0 : Nat) (l1 : Int32) (v2 : Int32) (v10 : Int32) : Option gO := yI G3 a7 0 v9 (v10 - (1 : Int32)) (t_108_2_5 K d l0 l1 v2)
noncomputable def t_108_2_7 (K : gK) (d : Nat) (G3 : gH) (a7 : Nat) (l0 : Nat) (l1 : Int32) (v2 : Int32) (v9 : Int32) : Option gO := xI G3 a7 0 v9 (t_108_2_6 K d G3 a7 v9 l0 l1 v2)
noncomputable def t_108_2_8 (K : gK) (d : Nat) (G3 : gH) (v2 : Int32) (a7 : Nat) (l0 : Nat) (l1 : Int32) (a8 : Nat) : Option gO := xI G3 a8 0 v2 (t_108_2_7 K d G3 a7 l0 l1 v2)
noncomputable def t_108_2_9 (K : gK) (d : Nat) (G3 : gH) (l0 : Nat) (v2 : Int32) (l1 : Int32) (a7 : Nat) : Option gO := rR G3 l0 3 12 (t_108_2_8 K d G3 v2 a7 l0 l1)
noncomputable def t_108_2_10 (K : gK) (d : Nat) (l0 : Nat) (l1 : Int32) (v2 : Int32) (v4 : Int32) (G3 : gH) : Option gO := if v4 = 0 then (rI G3 l0 3 17 (t_108_2_2 K d G3 l0 l1 v2)) else (rR G3 l0 3 27 (t_108_2_9 K d G3 l0 v2 l1))
noncomputable def t_108_2_11 (K : gK) (d : Nat) (G : gH) (l0 : Nat) (l1 : Int32) (v2 : Int32) : Option gO := if g_cls G l0 = some 3 then (cI (gCa K d 171 [.ref l0, .int v2] G) (t_108_2_10 K d l0 l1 v2)) else none
noncomputable def t_108_2_12 (K : gK) (d : Nat) (G : gH) (l1 : Int32) (l0 : Nat) (a1 : Nat) : Option gO := xI G a1 0 l1 (t_108_2_11 K d G l0 l1)
noncomputable def t_108_2_13 (K : gK) (d : Nat) (l0 : Nat) (l1 : Int32) (l2 : Int32) (o3 : Option Value) (G19 : gH) : Option gO := gRn K d 108 2 [some (.ref l0), some (.int l1), some (.int (l2 + 1)), o3] [] G19
noncomputable def t_108_2_14 (K : gK) (d : Nat) (l0 : Nat) (l1 : Int32) (l2 : Int32) (o3 : Option Value) (G22 : gH) : Option gO := gRn K d 108 2 [some (.ref l0), some (.int l1), some (.int (l2 + 1)), o3] [] G22
noncomputable def t_108_2_15 (K : gK) (d : Nat) (G : gH) (a14 : Nat) (l2 : Int32) (l0 : Nat) (l1 : Int32) (o3 : Option Value) (v21 : Int32) : Option gO := yI G a14 0 l2 v21 (t_108_2_14 K d l0 l1 l2 o3)
noncomputable def t_108_2_16 (K : gK) (d : Nat) (G : gH) (l2 : Int32) (a14 : Nat) (l0 : Nat) (l1 : Int32) (o3 : Option Value) (a20 : Nat) : Option gO := xI G a20 0 l2 (t_108_2_15 K d G a14 l2 l0 l1 o3)
noncomputable def t_108_2_17 (K : gK) (d : Nat) (v16 : Int32) (G : gH) (a14 : Nat) (l2 : Int32) (l0 : Nat) (l1 : Int32) (o3 : Option Value) (v18 : Int32) : Option gO := if v16 = v18 then (yI G a14 0 l2 ((-1) : Int32) (t_108_2_13 K d l0 l1 l2 o3)) else (rR G l0 3 25 (t_108_2_16 K d G l2 a14 l0 l1 o3))
noncomputable def t_108_2_18 (K : gK) (d : Nat) (G : gH) (l1 : Int32) (v16 : Int32) (a14 : Nat) (l2 : Int32) (l0 : Nat) (o3 : Option Value) (a17 : Nat) : Option gO := xI G a17 0 l1 (t_108_2_17 K d v16 G a14 l2 l0 l1 o3)
noncomputable def t_108_2_19 (K : gK) (d : Nat) (G : gH) (l0 : Nat) (l1 : Int32) (a14 : Nat) (l2 : Int32) (o3 : Option Value) (v16 : Int32) : Option gO := rR G l0 3 19 (t_108_2_18 K d G l1 v16 a14 l2 l0 o3)
noncomputable def t_108_2_20 (K : gK) (d : Nat) (G : gH) (l2 : Int32) (l0 : Nat) (l1 : Int32) (a14 : Nat) (o3 : Option Value) (a15 : Nat) : Option gO := xI G a15 0 l2 (t_108_2_19 K d G l0 l1 a14 l2 o3)
noncomputable def t_108_2_21 (K : gK) (d : Nat) (G : gH) (l0 : Nat) (l2 : Int32) (l1 : Int32) (o3 : Option Value) (a14 : Nat) : Option gO := rR G l0 3 25 (t_108_2_20 K d G l2 l0 l1 a14 o3)
noncomputable def t_108_2 (K : gK) (d : Nat) (l0 : Nat) (l1 : Int32) (l2 : Int32) (o3 : Option Value) (G : gH) : Option gO := if (720 : Int32) ≤ l2 then (rR G l0 3 20 (t_108_2_12 K d G l1 l0)) else (rR G l0 3 25 (t_108_2_21 K d G l0 l2 l1 o3))
theorem e_108_2 {K : gK} {d : Nat} {l0 : Nat} {l1 : Int32} {l2 : Int32} {o3 : Option Value} {G : gH} : gle (t_108_2 K d l0 l1 l2 o3 G) (gRn K d 108 2 [some (.ref l0), some (.int l1), some (.int l2), o3] [] G) := by
  unfold t_108_2
  refine g_iload ((q_108 _).trans rfl) rfl ?_
  refine g_push ((q_108 _).trans rfl) ?_
  refine g_cmpge ((q_108 _).trans rfl) (fun _ => ?_) (fun _ => ?_)
  · refine g_aload ((q_108 _).trans rfl) rfl ?_
    refine g_getR ((q_108 _).trans rfl) (fun a1 => ?_)
    refine g_iload ((q_108 _).trans rfl) rfl ?_
    refine g_iald ((q_108 _).trans rfl) (fun v2 => ?_)
    refine g_istore ((q_108 _).trans rfl) ?_
    refine g_aload ((q_108 _).trans rfl) rfl ?_
    refine g_iload ((q_108 _).trans rfl) rfl ?_
    refine g_callV (kk := 1) ((q_108 _).trans rfl) (gHn m_108) rfl (by exact ⟨Nat.le_of_ble_eq_true rfl, rfl⟩) rfl (fun w G3 => gm_I (fun v4 hw => ?_))
    subst hw
    refine g_ifeq ((q_108 _).trans rfl) (fun _ => ?_) (fun _ => ?_)
    · refine g_aload ((q_108 _).trans rfl) rfl ?_
      refine g_dup_ref ((q_108 _).trans rfl) ?_
      refine g_getI ((q_108 _).trans rfl) (fun v5 => ?_)
      refine g_push ((q_108 _).trans rfl) ?_
      refine g_isub ((q_108 _).trans rfl) ?_
      refine g_putf ((q_108 _).trans rfl) (fun G6 => ?_)
      refine g_iload ((q_108 _).trans rfl) rfl ?_
      refine g_istore ((q_108 _).trans rfl) ?_
      exact gle.rf _
    · refine g_aload ((q_108 _).trans rfl) rfl ?_
      refine g_getR ((q_108 _).trans rfl) (fun a7 => ?_)
      refine g_aload ((q_108 _).trans rfl) rfl ?_
      refine g_getR ((q_108 _).trans rfl) (fun a8 => ?_)
      refine g_iload ((q_108 _).trans rfl) rfl ?_
      refine g_iald ((q_108 _).trans rfl) (fun v9 => ?_)
      refine g_dup2 ((q_108 _).trans rfl) ?_
      refine g_iald ((q_108 _).trans rfl) (fun v10 => ?_)
      refine g_push ((q_108 _).trans rfl) ?_
      refine g_isub ((q_108 _).trans rfl) ?_
      refine g_iast ((q_108 _).trans rfl) (fun G11 => ?_)
      refine g_aload ((q_108 _).trans rfl) rfl ?_
      refine g_dup_ref ((q_108 _).trans rfl) ?_
      refine g_getI ((q_108 _).trans rfl) (fun v12 => ?_)
      refine g_push ((q_108 _).trans rfl) ?_
      refine g_isub ((q_108 _).trans rfl) ?_
      refine g_putf ((q_108 _).trans rfl) (fun G13 => ?_)
      refine g_iload ((q_108 _).trans rfl) rfl ?_
      refine g_istore ((q_108 _).trans rfl) ?_
      exact gle.rf _
  · refine g_aload ((q_108 _).trans rfl) rfl ?_
    refine g_getR ((q_108 _).trans rfl) (fun a14 => ?_)
    refine g_iload ((q_108 _).trans rfl) rfl ?_
    refine g_aload ((q_108 _).trans rfl) rfl ?_
    refine g_getR ((q_108 _).trans rfl) (fun a15 => ?_)
    refine g_iload ((q_108 _).trans rfl) rfl ?_
    refine g_iald ((q_108 _).trans rfl) (fun v16 => ?_)
    refine g_aload ((q_108 _).trans rfl) rfl ?_
    refine g_getR ((q_108 _).trans rfl) (fun a17 => ?_)
    refine g_iload ((q_108 _).trans rfl) rfl ?_
    refine g_iald ((q_108 _).trans rfl) (fun v18 => ?_)
    refine g_cmpne ((q_108 _).trans rfl) (fun _ => ?_) (fun _ => ?_)
    · refine g_push ((q_108 _).trans rfl) ?_
      refine g_goto ((q_108 _).trans rfl) ?_
      refine g_iast ((q_108 _).trans rfl) (fun G19 => ?_)
      refine g_iinc ((q_108 _).trans rfl) rfl ?_
      refine g_goto ((q_108 _).trans rfl) ?_
      exact gle.rf _
    · refine g_aload ((q_108 _).trans rfl) rfl ?_
      refine g_getR ((q_108 _).trans rfl) (fun a20 => ?_)
      refine g_iload ((q_108 _).trans rfl) rfl ?_
      refine g_iald ((q_108 _).trans rfl) (fun v21 => ?_)
      refine g_iast ((q_108 _).trans rfl) (fun G22 => ?_)
      refine g_iinc ((q_108 _).trans rfl) rfl ?_
      refine g_goto ((q_108 _).trans rfl) ?_
      exact gle.rf _
noncomputable def t_108_88_1 (K : gK) (d : Nat) (l0 : Nat) (l1 : Int32) (l2 : Int32) (l3 : Int32) (G25 : gH) : Option gO := gRn K d 108 88 [some (.ref l0), some (.int l1), some (.int l2), some (.int (l3 + 1))] [] G25
noncomputable def t_108_88_2 (K : gK) (d : Nat) (G21 : gH) (a22 : Nat) (l3 : Int32) (l0 : Nat) (l1 : Int32) (l2 : Int32) (v24 : Int32) : Option gO := yI G21 a22 1 l3 (vp_nar .boolean v24) (t_108_88_1 K d l0 l1 l2 l3)
noncomputable def t_108_88_3 (K : gK) (d : Nat) (G21 : gH) (l3 : Int32) (a22 : Nat) (l0 : Nat) (l1 : Int32) (l2 : Int32) (a23 : Nat) : Option gO := xI G21 a23 1 (l3 + (1 : Int32)) (t_108_88_2 K d G21 a22 l3 l0 l1 l2)
noncomputable def t_108_88_4 (K : gK) (d : Nat) (G21 : gH) (l0 : Nat) (l3 : Int32) (l1 : Int32) (l2 : Int32) (a22 : Nat) : Option gO := rR G21 l0 3 24 (t_108_88_3 K d G21 l3 a22 l0 l1 l2)
noncomputable def t_108_88_5 (K : gK) (d : Nat) (l0 : Nat) (l3 : Int32) (l1 : Int32) (l2 : Int32) (G21 : gH) : Option gO := rR G21 l0 3 24 (t_108_88_4 K d G21 l0 l3 l1 l2)
noncomputable def t_108_88_6 (K : gK) (d : Nat) (G17 : gH) (a18 : Nat) (l3 : Int32) (l0 : Nat) (l1 : Int32) (l2 : Int32) (v20 : Int32) : Option gO := yI G17 a18 0 l3 v20 (t_108_88_5 K d l0 l3 l1 l2)
noncomputable def t_108_88_7 (K : gK) (d : Nat) (G17 : gH) (l3 : Int32) (a18 : Nat) (l0 : Nat) (l1 : Int32) (l2 : Int32) (a19 : Nat) : Option gO := xI G17 a19 0 (l3 + (1 : Int32)) (t_108_88_6 K d G17 a18 l3 l0 l1 l2)
noncomputable def t_108_88_8 (K : gK) (d : Nat) (G17 : gH) (l0 : Nat) (l3 : Int32) (l1 : Int32) (l2 : Int32) (a18 : Nat) : Option gO := rR G17 l0 3 23 (t_108_88_7 K d G17 l3 a18 l0 l1 l2)
noncomputable def t_108_88_9 (K : gK) (d : Nat) (l0 : Nat) (l3 : Int32) (l1 : Int32) (l2 : Int32) (G17 : gH) : Option gO := rR G17 l0 3 23 (t_108_88_8 K d G17 l0 l3 l1 l2)
noncomputable def t_108_88_10 (K : gK) (d : Nat) (G13 : gH) (a14 : Nat) (l3 : Int32) (l0 : Nat) (l1 : Int32) (l2 : Int32) (v16 : Int32) : Option gO := yI G13 a14 0 l3 v16 (t_108_88_9 K d l0 l3 l1 l2)
noncomputable def t_108_88_11 (K : gK) (d : Nat) (G13 : gH) (l3 : Int32) (a14 : Nat) (l0 : Nat) (l1 : Int32) (l2 : Int32) (a15 : Nat) : Option gO := xI G13 a15 0 (l3 + (1 : Int32)) (t_108_88_10 K d G13 a14 l3 l0 l1 l2)
noncomputable def t_108_88_12 (K : gK) (d : Nat) (G13 : gH) (l0 : Nat) (l3 : Int32) (l1 : Int32) (l2 : Int32) (a14 : Nat) : Option gO := rR G13 l0 3 22 (t_108_88_11 K d G13 l3 a14 l0 l1 l2)
noncomputable def t_108_88_13 (K : gK) (d : Nat) (l0 : Nat) (l3 : Int32) (l1 : Int32) (l2 : Int32) (G13 : gH) : Option gO := rR G13 l0 3 22 (t_108_88_12 K d G13 l0 l3 l1 l2)
noncomputable def t_108_88_14 (K : gK) (d : Nat) (G9 : gH) (a10 : Nat) (l3 : Int32) (l0 : Nat) (l1 : Int32) (l2 : Int32) (v12 : Int32) : Option gO := yI G9 a10 0 l3 v12 (t_108_88_13 K d l0 l3 l1 l2)
noncomputable def t_108_88_15 (K : gK) (d : Nat) (G9 : gH) (l3 : Int32) (a10 : Nat) (l0 : Nat) (l1 : Int32) (l2 : Int32) (a11 : Nat) : Option gO := xI G9 a11 0 (l3 + (1 : Int32)) (t_108_88_14 K d G9 a10 l3 l0 l1 l2)
noncomputable def t_108_88_16 (K : gK) (d : Nat) (G9 : gH) (l0 : Nat) (l3 : Int32) (l1 : Int32) (l2 : Int32) (a10 : Nat) : Option gO := rR G9 l0 3 21 (t_108_88_15 K d G9 l3 a10 l0 l1 l2)
noncomputable def t_108_88_17 (K : gK) (d : Nat) (l0 : Nat) (l3 : Int32) (l1 : Int32) (l2 : Int32) (G9 : gH) : Option gO := rR G9 l0 3 21 (t_108_88_16 K d G9 l0 l3 l1 l2)
noncomputable def t_108_88_18 (K : gK) (d : Nat) (G5 : gH) (a6 : Nat) (l3 : Int32) (l0 : Nat) (l1 : Int32) (l2 : Int32) (v8 : Int32) : Option gO := yI G5 a6 0 l3 v8 (t_108_88_17 K d l0 l3 l1 l2)
noncomputable def t_108_88_19 (K : gK) (d : Nat) (G5 : gH) (l3 : Int32) (a6 : Nat) (l0 : Nat) (l1 : Int32) (l2 : Int32) (a7 : Nat) : Option gO := xI G5 a7 0 (l3 + (1 : Int32)) (t_108_88_18 K d G5 a6 l3 l0 l1 l2)
noncomputable def t_108_88_20 (K : gK) (d : Nat) (G5 : gH) (l0 : Nat) (l3 : Int32) (l1 : Int32) (l2 : Int32) (a6 : Nat) : Option gO := rR G5 l0 3 20 (t_108_88_19 K d G5 l3 a6 l0 l1 l2)
noncomputable def t_108_88_21 (K : gK) (d : Nat) (l0 : Nat) (l3 : Int32) (l1 : Int32) (l2 : Int32) (G5 : gH) : Option gO := rR G5 l0 3 20 (t_108_88_20 K d G5 l0 l3 l1 l2)
noncomputable def t_108_88_22 (K : gK) (d : Nat) (G : gH) (a2 : Nat) (l3 : Int32) (l0 : Nat) (l1 : Int32) (l2 : Int32) (v4 : Int32) : Option gO := yI G a2 0 l3 v4 (t_108_88_21 K d l0 l3 l1 l2)
noncomputable def t_108_88_23 (K : gK) (d : Nat) (G : gH) (l3 : Int32) (a2 : Nat) (l0 : Nat) (l1 : Int32) (l2 : Int32) (a3 : Nat) : Option gO := xI G a3 0 (l3 + (1 : Int32)) (t_108_88_22 K d G a2 l3 l0 l1 l2)
noncomputable def t_108_88_24 (K : gK) (d : Nat) (G : gH) (l0 : Nat) (l3 : Int32) (l1 : Int32) (l2 : Int32) (a2 : Nat) : Option gO := rR G l0 3 19 (t_108_88_23 K d G l3 a2 l0 l1 l2)
noncomputable def t_108_88_25 (K : gK) (d : Nat) (l3 : Int32) (G : gH) (l0 : Nat) (l1 : Int32) (l2 : Int32) (v1 : Int32) : Option gO := if v1 ≤ l3 then (some (.inl none, G)) else (rR G l0 3 19 (t_108_88_24 K d G l0 l3 l1 l2))
noncomputable def t_108_88 (K : gK) (d : Nat) (l0 : Nat) (l1 : Int32) (l2 : Int32) (l3 : Int32) (G : gH) : Option gO := rI G l0 3 17 (t_108_88_25 K d l3 G l0 l1 l2)
theorem e_108_88 {K : gK} {d : Nat} {l0 : Nat} {l1 : Int32} {l2 : Int32} {l3 : Int32} {G : gH} : gle (t_108_88 K d l0 l1 l2 l3 G) (gRn K d 108 88 [some (.ref l0), some (.int l1), some (.int l2), some (.int l3)] [] G) := by
  unfold t_108_88
  refine g_iload ((q_108 _).trans rfl) rfl ?_
  refine g_aload ((q_108 _).trans rfl) rfl ?_
  refine g_getI ((q_108 _).trans rfl) (fun v1 => ?_)
  refine g_cmpge ((q_108 _).trans rfl) (fun _ => ?_) (fun _ => ?_)
  · exact g_vret ((q_108 _).trans rfl)
  · refine g_aload ((q_108 _).trans rfl) rfl ?_
    refine g_getR ((q_108 _).trans rfl) (fun a2 => ?_)
    refine g_iload ((q_108 _).trans rfl) rfl ?_
    refine g_aload ((q_108 _).trans rfl) rfl ?_
    refine g_getR ((q_108 _).trans rfl) (fun a3 => ?_)
    refine g_iload ((q_108 _).trans rfl) rfl ?_
    refine g_push ((q_108 _).trans rfl) ?_
    refine g_iadd ((q_108 _).trans rfl) ?_
    refine g_iald ((q_108 _).trans rfl) (fun v4 => ?_)
    refine g_iast ((q_108 _).trans rfl) (fun G5 => ?_)
    refine g_aload ((q_108 _).trans rfl) rfl ?_
    refine g_getR ((q_108 _).trans rfl) (fun a6 => ?_)
    refine g_iload ((q_108 _).trans rfl) rfl ?_
    refine g_aload ((q_108 _).trans rfl) rfl ?_
    refine g_getR ((q_108 _).trans rfl) (fun a7 => ?_)
    refine g_iload ((q_108 _).trans rfl) rfl ?_
    refine g_push ((q_108 _).trans rfl) ?_
    refine g_iadd ((q_108 _).trans rfl) ?_
    refine g_iald ((q_108 _).trans rfl) (fun v8 => ?_)
    refine g_iast ((q_108 _).trans rfl) (fun G9 => ?_)
    refine g_aload ((q_108 _).trans rfl) rfl ?_
    refine g_getR ((q_108 _).trans rfl) (fun a10 => ?_)
    refine g_iload ((q_108 _).trans rfl) rfl ?_
    refine g_aload ((q_108 _).trans rfl) rfl ?_
    refine g_getR ((q_108 _).trans rfl) (fun a11 => ?_)
    refine g_iload ((q_108 _).trans rfl) rfl ?_
    refine g_push ((q_108 _).trans rfl) ?_
    refine g_iadd ((q_108 _).trans rfl) ?_
    refine g_iald ((q_108 _).trans rfl) (fun v12 => ?_)
    refine g_iast ((q_108 _).trans rfl) (fun G13 => ?_)
    refine g_aload ((q_108 _).trans rfl) rfl ?_
    refine g_getR ((q_108 _).trans rfl) (fun a14 => ?_)
    refine g_iload ((q_108 _).trans rfl) rfl ?_
    refine g_aload ((q_108 _).trans rfl) rfl ?_
    refine g_getR ((q_108 _).trans rfl) (fun a15 => ?_)
    refine g_iload ((q_108 _).trans rfl) rfl ?_
    refine g_push ((q_108 _).trans rfl) ?_
    refine g_iadd ((q_108 _).trans rfl) ?_
    refine g_iald ((q_108 _).trans rfl) (fun v16 => ?_)
    refine g_iast ((q_108 _).trans rfl) (fun G17 => ?_)
    refine g_aload ((q_108 _).trans rfl) rfl ?_
    refine g_getR ((q_108 _).trans rfl) (fun a18 => ?_)
    refine g_iload ((q_108 _).trans rfl) rfl ?_
    refine g_aload ((q_108 _).trans rfl) rfl ?_
    refine g_getR ((q_108 _).trans rfl) (fun a19 => ?_)
    refine g_iload ((q_108 _).trans rfl) rfl ?_
    refine g_push ((q_108 _).trans rfl) ?_
    refine g_iadd ((q_108 _).trans rfl) ?_
    refine g_iald ((q_108 _).trans rfl) (fun v20 => ?_)
    refine g_iast ((q_108 _).trans rfl) (fun G21 => ?_)
    refine g_aload ((q_108 _).trans rfl) rfl ?_
    refine g_getR ((q_108 _).trans rfl) (fun a22 => ?_)
    refine g_iload ((q_108 _).trans rfl) rfl ?_
    refine g_aload ((q_108 _).trans rfl) rfl ?_
    refine g_getR ((q_108 _).trans rfl) (fun a23 => ?_)
    refine g_iload ((q_108 _).trans rfl) rfl ?_
    refine g_push ((q_108 _).trans rfl) ?_
    refine g_iadd ((q_108 _).trans rfl) ?_
    refine g_iald ((q_108 _).trans rfl) (fun v24 => ?_)
    refine g_zast ((q_108 _).trans rfl) (fun G25 => ?_)
    refine g_iinc ((q_108 _).trans rfl) rfl ?_
    refine g_goto ((q_108 _).trans rfl) ?_
    exact gle.rf _
theorem q_109 {K : gK} (pc : Nat) : gP K 109 pc = ((gL_109 K).lookup pc).getD o_none := rfl
noncomputable def t_109_0 (K : gK) (d : Nat) (l0 : Nat) (G : gH) : Option gO := gRn K d 109 4 [some (.ref l0), some (.int (0 : Int32)), some (.int (0 : Int32))] [] G
theorem e_109_0 {K : gK} {d : Nat} {l0 : Nat} {G : gH} : gle (t_109_0 K d l0 G) (gRn K d 109 0 [some (.ref l0), none, none] [] G) := by
  unfold t_109_0
  refine g_push ((q_109 _).trans rfl) ?_
  refine g_istore ((q_109 _).trans rfl) ?_
  refine g_push ((q_109 _).trans rfl) ?_
  refine g_istore ((q_109 _).trans rfl) ?_
  exact gle.rf _
theorem c_109 {K : gK} {d : Nat} {l0 : Nat} {G : gH} : gle (t_109_0 K d l0 G) (gCa K (d + 1) 109 [.ref l0] G) := by
  have h : gent (gMx 109) [.ref l0] = [some (.ref l0), none, none] := by
    show gent (gT 109).2.2.2.1 _ = _
    rw [m_109]; rfl
  exact fun r e => (congrArg (fun q => gRn K d 109 0 q [] G) h).trans (e_109_0 r e)
noncomputable def t_109_4_1 (K : gK) (d : Nat) (l0 : Nat) (l1 : Int32) (l2 : Int32) (G : gH) (v2 : Int32) : Option gO := if v2 = ((-1) : Int32) then (gRn K d 109 4 [some (.ref l0), some (.int l1), some (.int (l2 + 1))] [] G) else (if (12 : Int32) = 0 then none else (gRn K d 109 4 [some (.ref l0), some (.int ((l2 / (12 : Int32)) + (1 : Int32))), some (.int (l2 + 1))] [] G))
noncomputable def t_109_4_2 (K : gK) (d : Nat) (G : gH) (l2 : Int32) (l0 : Nat) (l1 : Int32) (a1 : Nat) : Option gO := xI G a1 0 l2 (t_109_4_1 K d l0 l1 l2 G)
noncomputable def t_109_4 (K : gK) (d : Nat) (l0 : Nat) (l1 : Int32) (l2 : Int32) (G : gH) : Option gO := if (720 : Int32) ≤ l2 then (some (.inl (some (.int l1)), G)) else (rR G l0 3 25 (t_109_4_2 K d G l2 l0 l1))
theorem e_109_4 {K : gK} {d : Nat} {l0 : Nat} {l1 : Int32} {l2 : Int32} {G : gH} : gle (t_109_4 K d l0 l1 l2 G) (gRn K d 109 4 [some (.ref l0), some (.int l1), some (.int l2)] [] G) := by
  unfold t_109_4
  refine g_iload ((q_109 _).trans rfl) rfl ?_
  refine g_push ((q_109 _).trans rfl) ?_
  refine g_cmpge ((q_109 _).trans rfl) (fun _ => ?_) (fun _ => ?_)
  · refine g_iload ((q_109 _).trans rfl) rfl ?_
    exact g_iret ((q_109 _).trans rfl)
  · refine g_aload ((q_109 _).trans rfl) rfl ?_
    refine g_getR ((q_109 _).trans rfl) (fun a1 => ?_)
    refine g_iload ((q_109 _).trans rfl) rfl ?_
    refine g_iald ((q_109 _).trans rfl) (fun v2 => ?_)
    refine g_push ((q_109 _).trans rfl) ?_
    refine g_cmpeq ((q_109 _).trans rfl) (fun _ => ?_) (fun _ => ?_)
    · refine g_iload ((q_109 _).trans rfl) rfl ?_
      refine g_istore ((q_109 _).trans rfl) ?_
      refine g_iinc ((q_109 _).trans rfl) rfl ?_
      refine g_goto ((q_109 _).trans rfl) ?_
      exact gle.rf _
    · refine g_iload ((q_109 _).trans rfl) rfl ?_
      refine g_push ((q_109 _).trans rfl) ?_
      refine g_idiv ((q_109 _).trans rfl) (fun _ => ?_)
      refine g_push ((q_109 _).trans rfl) ?_
      refine g_iadd ((q_109 _).trans rfl) ?_
      refine g_goto ((q_109 _).trans rfl) ?_
      refine g_istore ((q_109 _).trans rfl) ?_
      refine g_iinc ((q_109 _).trans rfl) rfl ?_
      refine g_goto ((q_109 _).trans rfl) ?_
      exact gle.rf _
theorem q_110 {K : gK} (pc : Nat) : gP K 110 pc = ((gL_110 K).lookup pc).getD o_none := rfl
noncomputable def t_110_0_1 (K : gK) (d : Nat) (G : gH) (v1 : Int32) : Option gO := some (.inl (some (.int v1)), G)
noncomputable def t_110_0 (K : gK) (d : Nat) (l0 : Nat) (G : gH) : Option gO := rI G l0 12 2 (t_110_0_1 K d G)
theorem e_110_0 {K : gK} {d : Nat} {l0 : Nat} {G : gH} : gle (t_110_0 K d l0 G) (gRn K d 110 0 [some (.ref l0)] [] G) := by
  unfold t_110_0
  refine g_aload ((q_110 _).trans rfl) rfl ?_
  refine g_getI ((q_110 _).trans rfl) (fun v1 => ?_)
  exact g_iret ((q_110 _).trans rfl)
theorem c_110 {K : gK} {d : Nat} {l0 : Nat} {G : gH} : gle (t_110_0 K d l0 G) (gCa K (d + 1) 110 [.ref l0] G) := by
  have h : gent (gMx 110) [.ref l0] = [some (.ref l0)] := by
    show gent (gT 110).2.2.2.1 _ = _
    rw [m_110]; rfl
  exact fun r e => (congrArg (fun q => gRn K d 110 0 q [] G) h).trans (e_110_0 r e)
theorem q_111 {K : gK} (pc : Nat) : gP K 111 pc = ((gL_111 K).lookup pc).getD o_none := rfl
noncomputable def t_111_0_1 (K : gK) (d : Nat) (l0 : Nat) (a3 : Nat) (v4 : Int32) (G5 : gH) : Option gO := gRn K d 111 27 [some (.ref l0), some (.ref a3), some (.int v4), some (.int (0 : Int32))] [] G5
noncomputable def t_111_0_2 (K : gK) (d : Nat) (G2 : gH) (l0 : Nat) (a3 : Nat) (v4 : Int32) : Option gO := if narrow .int (.int (0 : Int32)) = .int (0 : Int32) ∧ fits .int (.int (0 : Int32)) = true then wF G2 l0 12 2 (.int (0 : Int32)) (t_111_0_1 K d l0 a3 v4) else none
noncomputable def t_111_0_3 (K : gK) (d : Nat) (G2 : gH) (l0 : Nat) (a3 : Nat) : Option gO := rI G2 l0 12 2 (t_111_0_2 K d G2 l0 a3)
noncomputable def t_111_0_4 (K : gK) (d : Nat) (l0 : Nat) (G2 : gH) : Option gO := rR G2 l0 12 1 (t_111_0_3 K d G2 l0)
noncomputable def t_111_0_5 (K : gK) (d : Nat) (G : gH) (l0 : Nat) (v1 : Int32) : Option gO := if narrow .int (.int (v1 + (1 : Int32))) = .int (v1 + (1 : Int32)) ∧ fits .int (.int (v1 + (1 : Int32))) = true then wF G l0 12 0 (.int (v1 + (1 : Int32))) (t_111_0_4 K d l0) else none
noncomputable def t_111_0 (K : gK) (d : Nat) (l0 : Nat) (G : gH) : Option gO := rI G l0 12 0 (t_111_0_5 K d G l0)
theorem e_111_0 {K : gK} {d : Nat} {l0 : Nat} {G : gH} : gle (t_111_0 K d l0 G) (gRn K d 111 0 [some (.ref l0), none, none, none] [] G) := by
  unfold t_111_0
  refine g_aload ((q_111 _).trans rfl) rfl ?_
  refine g_dup_ref ((q_111 _).trans rfl) ?_
  refine g_getI ((q_111 _).trans rfl) (fun v1 => ?_)
  refine g_push ((q_111 _).trans rfl) ?_
  refine g_iadd ((q_111 _).trans rfl) ?_
  refine g_putf ((q_111 _).trans rfl) (fun G2 => ?_)
  refine g_aload ((q_111 _).trans rfl) rfl ?_
  refine g_getR ((q_111 _).trans rfl) (fun a3 => ?_)
  refine g_astore ((q_111 _).trans rfl) ?_
  refine g_aload ((q_111 _).trans rfl) rfl ?_
  refine g_getI ((q_111 _).trans rfl) (fun v4 => ?_)
  refine g_istore ((q_111 _).trans rfl) ?_
  refine g_aload ((q_111 _).trans rfl) rfl ?_
  refine g_push ((q_111 _).trans rfl) ?_
  refine g_dup_x1_int ((q_111 _).trans rfl) ?_
  refine g_putf ((q_111 _).trans rfl) (fun G5 => ?_)
  refine g_istore ((q_111 _).trans rfl) ?_
  exact gle.rf _
theorem c_111 {K : gK} {d : Nat} {l0 : Nat} {G : gH} : gle (t_111_0 K d l0 G) (gCa K (d + 1) 111 [.ref l0] G) := by
  have h : gent (gMx 111) [.ref l0] = [some (.ref l0), none, none, none] := by
    show gent (gT 111).2.2.2.1 _ = _
    rw [m_111]; rfl
  exact fun r e => (congrArg (fun q => gRn K d 111 0 q [] G) h).trans (e_111_0 r e)
noncomputable def t_111_27_1 (K : gK) (d : Nat) (l0 : Nat) (l1 : Nat) (l2 : Int32) (l3 : Int32) (G1 : gH) : Option gO := gRn K d 111 27 [some (.ref l0), some (.ref l1), some (.int l2), some (.int (l3 + 1))] [] G1
noncomputable def t_111_27 (K : gK) (d : Nat) (l0 : Nat) (l1 : Nat) (l2 : Int32) (l3 : Int32) (G : gH) : Option gO := if l2 ≤ l3 then (some (.inl none, G)) else (yQ G l1 5 l3 none (t_111_27_1 K d l0 l1 l2 l3))
theorem e_111_27 {K : gK} {d : Nat} {l0 : Nat} {l1 : Nat} {l2 : Int32} {l3 : Int32} {G : gH} : gle (t_111_27 K d l0 l1 l2 l3 G) (gRn K d 111 27 [some (.ref l0), some (.ref l1), some (.int l2), some (.int l3)] [] G) := by
  unfold t_111_27
  refine g_iload ((q_111 _).trans rfl) rfl ?_
  refine g_iload ((q_111 _).trans rfl) rfl ?_
  refine g_cmpge ((q_111 _).trans rfl) (fun _ => ?_) (fun _ => ?_)
  · exact g_vret ((q_111 _).trans rfl)
  · refine g_aload ((q_111 _).trans rfl) rfl ?_
    refine g_iload ((q_111 _).trans rfl) rfl ?_
    refine g_push ((q_111 _).trans rfl) ?_
    refine g_aastN ((q_111 _).trans rfl) (fun G1 => ?_)
    refine g_iinc ((q_111 _).trans rfl) rfl ?_
    refine g_goto ((q_111 _).trans rfl) ?_
    exact gle.rf _
theorem q_112 {K : gK} (pc : Nat) : gP K 112 pc = ((gL_112 K).lookup pc).getD o_none := rfl
noncomputable def t_112_0 (K : gK) (d : Nat) (l0 : Nat) (G : gH) : Option gO := gRn K d 112 2 [some (.ref l0), some (.int (0 : Int32)), none] [] G
theorem e_112_0 {K : gK} {d : Nat} {l0 : Nat} {G : gH} : gle (t_112_0 K d l0 G) (gRn K d 112 0 [some (.ref l0), none, none] [] G) := by
  unfold t_112_0
  refine g_push ((q_112 _).trans rfl) ?_
  refine g_istore ((q_112 _).trans rfl) ?_
  exact gle.rf _
theorem c_112 {K : gK} {d : Nat} {l0 : Nat} {G : gH} : gle (t_112_0 K d l0 G) (gCa K (d + 1) 112 [.ref l0] G) := by
  have h : gent (gMx 112) [.ref l0] = [some (.ref l0), none, none] := by
    show gent (gT 112).2.2.2.1 _ = _
    rw [m_112]; rfl
  exact fun r e => (congrArg (fun q => gRn K d 112 0 q [] G) h).trans (e_112_0 r e)
noncomputable def t_112_2 (K : gK) (d : Nat) (l0 : Nat) (l1 : Int32) (o2 : Option Value) (G : gH) : Option gO := if (60 : Int32) ≤ l1 then (gRn K d 112 39 [some (.ref l0), some (.int (0 : Int32)), o2] [] G) else (gRn K d 112 10 [some (.ref l0), some (.int l1), some (.int (0 : Int32))] [] G)
theorem e_112_2 {K : gK} {d : Nat} {l0 : Nat} {l1 : Int32} {o2 : Option Value} {G : gH} : gle (t_112_2 K d l0 l1 o2 G) (gRn K d 112 2 [some (.ref l0), some (.int l1), o2] [] G) := by
  unfold t_112_2
  refine g_iload ((q_112 _).trans rfl) rfl ?_
  refine g_push ((q_112 _).trans rfl) ?_
  refine g_cmpge ((q_112 _).trans rfl) (fun _ => ?_) (fun _ => ?_)
  · refine g_push ((q_112 _).trans rfl) ?_
    refine g_istore ((q_112 _).trans rfl) ?_
    exact gle.rf _
  · refine g_push ((q_112 _).trans rfl) ?_
    refine g_istore ((q_112 _).trans rfl) ?_
    exact gle.rf _
noncomputable def t_112_39_1 (K : gK) (d : Nat) (G1 : gH) : Option gO := some (.inl none, G1)
noncomputable def t_112_39_2 (K : gK) (d : Nat) (l0 : Nat) (l1 : Int32) (o2 : Option Value) (G3 : gH) : Option gO := gRn K d 112 39 [some (.ref l0), some (.int (l1 + 1)), o2] [] G3
noncomputable def t_112_39_3 (K : gK) (d : Nat) (G : gH) (l1 : Int32) (l0 : Nat) (o2 : Option Value) (a2 : Nat) : Option gO := yI G a2 0 l1 ((-1) : Int32) (t_112_39_2 K d l0 l1 o2)
noncomputable def t_112_39 (K : gK) (d : Nat) (l0 : Nat) (l1 : Int32) (o2 : Option Value) (G : gH) : Option gO := if (4 : Int32) ≤ l1 then (if narrow .int (.int (0 : Int32)) = .int (0 : Int32) ∧ fits .int (.int (0 : Int32)) = true then wF G l0 2 2 (.int (0 : Int32)) (t_112_39_1 K d) else none) else (rR G l0 2 1 (t_112_39_3 K d G l1 l0 o2))
theorem e_112_39 {K : gK} {d : Nat} {l0 : Nat} {l1 : Int32} {o2 : Option Value} {G : gH} : gle (t_112_39 K d l0 l1 o2 G) (gRn K d 112 39 [some (.ref l0), some (.int l1), o2] [] G) := by
  unfold t_112_39
  refine g_iload ((q_112 _).trans rfl) rfl ?_
  refine g_push ((q_112 _).trans rfl) ?_
  refine g_cmpge ((q_112 _).trans rfl) (fun _ => ?_) (fun _ => ?_)
  · refine g_aload ((q_112 _).trans rfl) rfl ?_
    refine g_push ((q_112 _).trans rfl) ?_
    refine g_putf ((q_112 _).trans rfl) (fun G1 => ?_)
    exact g_vret ((q_112 _).trans rfl)
  · refine g_aload ((q_112 _).trans rfl) rfl ?_
    refine g_getR ((q_112 _).trans rfl) (fun a2 => ?_)
    refine g_iload ((q_112 _).trans rfl) rfl ?_
    refine g_push ((q_112 _).trans rfl) ?_
    refine g_iast ((q_112 _).trans rfl) (fun G3 => ?_)
    refine g_iinc ((q_112 _).trans rfl) rfl ?_
    refine g_goto ((q_112 _).trans rfl) ?_
    exact gle.rf _
noncomputable def t_112_10_1 (K : gK) (d : Nat) (l0 : Nat) (l1 : Int32) (l2 : Int32) (G3 : gH) : Option gO := gRn K d 112 10 [some (.ref l0), some (.int l1), some (.int (l2 + 1))] [] G3
noncomputable def t_112_10_2 (K : gK) (d : Nat) (G : gH) (l2 : Int32) (l0 : Nat) (l1 : Int32) (a2 : Nat) : Option gO := yI G a2 0 l2 ((-1) : Int32) (t_112_10_1 K d l0 l1 l2)
noncomputable def t_112_10_3 (K : gK) (d : Nat) (G : gH) (l1 : Int32) (l2 : Int32) (l0 : Nat) (a1 : Nat) : Option gO := xQ G a1 8 l1 (t_112_10_2 K d G l2 l0 l1)
noncomputable def t_112_10 (K : gK) (d : Nat) (l0 : Nat) (l1 : Int32) (l2 : Int32) (G : gH) : Option gO := if (12 : Int32) ≤ l2 then (gRn K d 112 2 [some (.ref l0), some (.int (l1 + 1)), some (.int l2)] [] G) else (rR G l0 2 0 (t_112_10_3 K d G l1 l2 l0))
theorem e_112_10 {K : gK} {d : Nat} {l0 : Nat} {l1 : Int32} {l2 : Int32} {G : gH} : gle (t_112_10 K d l0 l1 l2 G) (gRn K d 112 10 [some (.ref l0), some (.int l1), some (.int l2)] [] G) := by
  unfold t_112_10
  refine g_iload ((q_112 _).trans rfl) rfl ?_
  refine g_push ((q_112 _).trans rfl) ?_
  refine g_cmpge ((q_112 _).trans rfl) (fun _ => ?_) (fun _ => ?_)
  · refine g_iinc ((q_112 _).trans rfl) rfl ?_
    refine g_goto ((q_112 _).trans rfl) ?_
    exact gle.rf _
  · refine g_aload ((q_112 _).trans rfl) rfl ?_
    refine g_getR ((q_112 _).trans rfl) (fun a1 => ?_)
    refine g_iload ((q_112 _).trans rfl) rfl ?_
    refine g_aald ((q_112 _).trans rfl) (fun a2 => ?_)
    refine g_iload ((q_112 _).trans rfl) rfl ?_
    refine g_push ((q_112 _).trans rfl) ?_
    refine g_iast ((q_112 _).trans rfl) (fun G3 => ?_)
    refine g_iinc ((q_112 _).trans rfl) rfl ?_
    refine g_goto ((q_112 _).trans rfl) ?_
    exact gle.rf _
theorem q_113 {K : gK} (pc : Nat) : gP K 113 pc = ((gL_113 K).lookup pc).getD o_none := rfl
noncomputable def t_113_0_1 (K : gK) (d : Nat) (G1 : gH) (v3 : Int32) : Option gO := some (.inl (some (.int v3)), G1)
noncomputable def t_113_0_2 (K : gK) (d : Nat) (a2 : Nat) (G1 : gH) : Option gO := rI G1 a2 7 4 (t_113_0_1 K d G1)
noncomputable def t_113_0 (K : gK) (d : Nat) (l0 : Nat) (l1 : Int32) (G : gH) : Option gO := if g_cls G l0 = some 0 then (cR (gCa K d 174 [.ref l0, .int l1] G) (t_113_0_2 K d)) else none
theorem e_113_0 {K : gK} {d : Nat} {l0 : Nat} {l1 : Int32} {G : gH} : gle (t_113_0 K d l0 l1 G) (gRn K d 113 0 [some (.ref l0), some (.int l1)] [] G) := by
  unfold t_113_0
  refine g_aload ((q_113 _).trans rfl) rfl ?_
  refine g_iload ((q_113 _).trans rfl) rfl ?_
  refine g_callV (kk := 1) ((q_113 _).trans rfl) (gHn m_113) rfl (by exact ⟨Nat.le_of_ble_eq_true rfl, rfl⟩) rfl (fun w G1 => gm_R (fun a2 hw => ?_))
  subst hw
  refine g_getI ((q_113 _).trans rfl) (fun v3 => ?_)
  exact g_iret ((q_113 _).trans rfl)
theorem c_113 {K : gK} {d : Nat} {l0 : Nat} {l1 : Int32} {G : gH} : gle (t_113_0 K d l0 l1 G) (gCa K (d + 1) 113 [.ref l0, .int l1] G) := by
  have h : gent (gMx 113) [.ref l0, .int l1] = [some (.ref l0), some (.int l1)] := by
    show gent (gT 113).2.2.2.1 _ = _
    rw [m_113]; rfl
  exact fun r e => (congrArg (fun q => gRn K d 113 0 q [] G) h).trans (e_113_0 r e)
theorem q_114 {K : gK} (pc : Nat) : gP K 114 pc = ((gL_114 K).lookup pc).getD o_none := rfl
noncomputable def t_114_0_1 (K : gK) (d : Nat) (G1 : gH) (v3 : Int32) : Option gO := some (.inl (some (.int v3)), G1)
noncomputable def t_114_0_2 (K : gK) (d : Nat) (a2 : Nat) (G1 : gH) : Option gO := rI G1 a2 7 5 (t_114_0_1 K d G1)
noncomputable def t_114_0 (K : gK) (d : Nat) (l0 : Nat) (l1 : Int32) (G : gH) : Option gO := if g_cls G l0 = some 0 then (cR (gCa K d 174 [.ref l0, .int l1] G) (t_114_0_2 K d)) else none
theorem e_114_0 {K : gK} {d : Nat} {l0 : Nat} {l1 : Int32} {G : gH} : gle (t_114_0 K d l0 l1 G) (gRn K d 114 0 [some (.ref l0), some (.int l1)] [] G) := by
  unfold t_114_0
  refine g_aload ((q_114 _).trans rfl) rfl ?_
  refine g_iload ((q_114 _).trans rfl) rfl ?_
  refine g_callV (kk := 1) ((q_114 _).trans rfl) (gHn m_114) rfl (by exact ⟨Nat.le_of_ble_eq_true rfl, rfl⟩) rfl (fun w G1 => gm_R (fun a2 hw => ?_))
  subst hw
  refine g_getI ((q_114 _).trans rfl) (fun v3 => ?_)
  exact g_iret ((q_114 _).trans rfl)
theorem c_114 {K : gK} {d : Nat} {l0 : Nat} {l1 : Int32} {G : gH} : gle (t_114_0 K d l0 l1 G) (gCa K (d + 1) 114 [.ref l0, .int l1] G) := by
  have h : gent (gMx 114) [.ref l0, .int l1] = [some (.ref l0), some (.int l1)] := by
    show gent (gT 114).2.2.2.1 _ = _
    rw [m_114]; rfl
  exact fun r e => (congrArg (fun q => gRn K d 114 0 q [] G) h).trans (e_114_0 r e)
theorem q_115 {K : gK} (pc : Nat) : gP K 115 pc = ((gL_115 K).lookup pc).getD o_none := rfl
noncomputable def t_115_0_1 (K : gK) (d : Nat) (G1 : gH) (v3 : Int32) : Option gO := some (.inl (some (.int v3)), G1)
noncomputable def t_115_0_2 (K : gK) (d : Nat) (a2 : Nat) (G1 : gH) : Option gO := rI G1 a2 7 2 (t_115_0_1 K d G1)
noncomputable def t_115_0 (K : gK) (d : Nat) (l0 : Nat) (l1 : Int32) (G : gH) : Option gO := if g_cls G l0 = some 0 then (cR (gCa K d 174 [.ref l0, .int l1] G) (t_115_0_2 K d)) else none
theorem e_115_0 {K : gK} {d : Nat} {l0 : Nat} {l1 : Int32} {G : gH} : gle (t_115_0 K d l0 l1 G) (gRn K d 115 0 [some (.ref l0), some (.int l1)] [] G) := by
  unfold t_115_0
  refine g_aload ((q_115 _).trans rfl) rfl ?_
  refine g_iload ((q_115 _).trans rfl) rfl ?_
  refine g_callV (kk := 1) ((q_115 _).trans rfl) (gHn m_115) rfl (by exact ⟨Nat.le_of_ble_eq_true rfl, rfl⟩) rfl (fun w G1 => gm_R (fun a2 hw => ?_))
  subst hw
  refine g_getI ((q_115 _).trans rfl) (fun v3 => ?_)
  exact g_iret ((q_115 _).trans rfl)
theorem c_115 {K : gK} {d : Nat} {l0 : Nat} {l1 : Int32} {G : gH} : gle (t_115_0 K d l0 l1 G) (gCa K (d + 1) 115 [.ref l0, .int l1] G) := by
  have h : gent (gMx 115) [.ref l0, .int l1] = [some (.ref l0), some (.int l1)] := by
    show gent (gT 115).2.2.2.1 _ = _
    rw [m_115]; rfl
  exact fun r e => (congrArg (fun q => gRn K d 115 0 q [] G) h).trans (e_115_0 r e)
theorem q_116 {K : gK} (pc : Nat) : gP K 116 pc = ((gL_116 K).lookup pc).getD o_none := rfl
noncomputable def t_116_0_1 (K : gK) (d : Nat) (v10 : Int32) (G9 : gH) : Option gO := some (.inl (some (.int v10)), G9)
noncomputable def t_116_0_2 (K : gK) (d : Nat) (G6 : gH) (l1 : Int32) (l2 : Int32) (a8 : Nat) : Option gO := if g_cls G6 a8 = some 2 then (cI (gCa K d 152 [.ref a8, .int l1, .int l2] G6) (t_116_0_1 K d)) else none
noncomputable def t_116_0_3 (K : gK) (d : Nat) (l0 : Nat) (l1 : Int32) (l2 : Int32) (G6 : gH) : Option gO := rR G6 l0 0 6 (t_116_0_2 K d G6 l1 l2)
noncomputable def t_116_0_4 (K : gK) (d : Nat) (v15 : Int32) (G14 : gH) : Option gO := some (.inl (some (.int v15)), G14)
noncomputable def t_116_0_5 (K : gK) (d : Nat) (G11 : gH) (l1 : Int32) (l2 : Int32) (a13 : Nat) : Option gO := if g_cls G11 a13 = some 2 then (cI (gCa K d 152 [.ref a13, .int l1, .int l2] G11) (t_116_0_4 K d)) else none
noncomputable def t_116_0_6 (K : gK) (d : Nat) (l0 : Nat) (l1 : Int32) (l2 : Int32) (G11 : gH) : Option gO := rR G11 l0 0 6 (t_116_0_5 K d G11 l1 l2)
noncomputable def t_116_0_7 (K : gK) (d : Nat) (l0 : Nat) (l1 : Int32) (l2 : Int32) (v5 : Int32) (G4 : gH) : Option gO := if v5 = ((-1) : Int32) then (cV (gCa K d 151 [.int (0 : Int32)] G4) (t_116_0_3 K d l0 l1 l2)) else (cV (gCa K d 151 [.int (1 : Int32)] G4) (t_116_0_6 K d l0 l1 l2))
noncomputable def t_116_0_8 (K : gK) (d : Nat) (G1 : gH) (l1 : Int32) (l2 : Int32) (l0 : Nat) (a3 : Nat) : Option gO := if g_cls G1 a3 = some 2 then (cI (gCa K d 152 [.ref a3, .int l1, .int l2] G1) (t_116_0_7 K d l0 l1 l2)) else none
noncomputable def t_116_0_9 (K : gK) (d : Nat) (l0 : Nat) (l1 : Int32) (l2 : Int32) (G1 : gH) : Option gO := rR G1 l0 0 6 (t_116_0_8 K d G1 l1 l2 l0)
noncomputable def t_116_0 (K : gK) (d : Nat) (l0 : Nat) (l1 : Int32) (l2 : Int32) (G : gH) : Option gO := cV (gCa K d 177 [.int l1, .int l2] G) (t_116_0_9 K d l0 l1 l2)
theorem e_116_0 {K : gK} {d : Nat} {l0 : Nat} {l1 : Int32} {l2 : Int32} {G : gH} : gle (t_116_0 K d l0 l1 l2 G) (gRn K d 116 0 [some (.ref l0), some (.int l1), some (.int l2)] [] G) := by
  unfold t_116_0
  refine g_iload ((q_116 _).trans rfl) rfl ?_
  refine g_iload ((q_116 _).trans rfl) rfl ?_
  refine g_callS (kk := 2) ((q_116 _).trans rfl) (gHn m_116) (by exact ⟨Nat.le_of_ble_eq_true rfl, Nat.le_of_ble_eq_true rfl, rfl⟩) rfl (fun w G1 => gm_V (fun hw => ?_))
  subst hw
  refine g_aload ((q_116 _).trans rfl) rfl ?_
  refine g_getR ((q_116 _).trans rfl) (fun a3 => ?_)
  refine g_iload ((q_116 _).trans rfl) rfl ?_
  refine g_iload ((q_116 _).trans rfl) rfl ?_
  refine g_callV (kk := 2) ((q_116 _).trans rfl) (gHn m_116) rfl (by exact ⟨Nat.le_of_ble_eq_true rfl, rfl⟩) rfl (fun w G4 => gm_I (fun v5 hw => ?_))
  subst hw
  refine g_push ((q_116 _).trans rfl) ?_
  refine g_cmpeq ((q_116 _).trans rfl) (fun _ => ?_) (fun _ => ?_)
  · refine g_push ((q_116 _).trans rfl) ?_
    refine g_callS (kk := 1) ((q_116 _).trans rfl) (gHn m_116) (by exact ⟨Nat.le_of_ble_eq_true rfl, Nat.le_of_ble_eq_true rfl, rfl⟩) rfl (fun w G6 => gm_V (fun hw => ?_))
    subst hw
    refine g_aload ((q_116 _).trans rfl) rfl ?_
    refine g_getR ((q_116 _).trans rfl) (fun a8 => ?_)
    refine g_iload ((q_116 _).trans rfl) rfl ?_
    refine g_iload ((q_116 _).trans rfl) rfl ?_
    refine g_callV (kk := 2) ((q_116 _).trans rfl) (gHn m_116) rfl (by exact ⟨Nat.le_of_ble_eq_true rfl, rfl⟩) rfl (fun w G9 => gm_I (fun v10 hw => ?_))
    subst hw
    exact g_iret ((q_116 _).trans rfl)
  · refine g_push ((q_116 _).trans rfl) ?_
    refine g_goto ((q_116 _).trans rfl) ?_
    refine g_callS (kk := 1) ((q_116 _).trans rfl) (gHn m_116) (by exact ⟨Nat.le_of_ble_eq_true rfl, Nat.le_of_ble_eq_true rfl, rfl⟩) rfl (fun w G11 => gm_V (fun hw => ?_))
    subst hw
    refine g_aload ((q_116 _).trans rfl) rfl ?_
    refine g_getR ((q_116 _).trans rfl) (fun a13 => ?_)
    refine g_iload ((q_116 _).trans rfl) rfl ?_
    refine g_iload ((q_116 _).trans rfl) rfl ?_
    refine g_callV (kk := 2) ((q_116 _).trans rfl) (gHn m_116) rfl (by exact ⟨Nat.le_of_ble_eq_true rfl, rfl⟩) rfl (fun w G14 => gm_I (fun v15 hw => ?_))
    subst hw
    exact g_iret ((q_116 _).trans rfl)
theorem c_116 {K : gK} {d : Nat} {l0 : Nat} {l1 : Int32} {l2 : Int32} {G : gH} : gle (t_116_0 K d l0 l1 l2 G) (gCa K (d + 1) 116 [.ref l0, .int l1, .int l2] G) := by
  have h : gent (gMx 116) [.ref l0, .int l1, .int l2] = [some (.ref l0), some (.int l1), some (.int l2)] := by
    show gent (gT 116).2.2.2.1 _ = _
    rw [m_116]; rfl
  exact fun r e => (congrArg (fun q => gRn K d 116 0 q [] G) h).trans (e_116_0 r e)
theorem q_117 {K : gK} (pc : Nat) : gP K 117 pc = ((gL_117 K).lookup pc).getD o_none := rfl
noncomputable def t_117_0_1 (K : gK) (d : Nat) (l0 : Nat) (l1 : Int32) (l2 : Int32) (G1 : gH) : Option gO := gRn K d 117 7 [some (.ref l0), some (.int l1), some (.int l2), some (.int (0 : Int32)), none] [] G1
noncomputable def t_117_0 (K : gK) (d : Nat) (l0 : Nat) (l1 : Int32) (l2 : Int32) (G : gH) : Option gO := cV (gCa K d 177 [.int l1, .int l2] G) (t_117_0_1 K d l0 l1 l2)
theorem e_117_0 {K : gK} {d : Nat} {l0 : Nat} {l1 : Int32} {l2 : Int32} {G : gH} : gle (t_117_0 K d l0 l1 l2 G) (gRn K d 117 0 [some (.ref l0), some (.int l1), some (.int l2), none, none] [] G) := by
  unfold t_117_0
  refine g_iload ((q_117 _).trans rfl) rfl ?_
  refine g_iload ((q_117 _).trans rfl) rfl ?_
  refine g_callS (kk := 2) ((q_117 _).trans rfl) (gHn m_117) (by exact ⟨Nat.le_of_ble_eq_true rfl, Nat.le_of_ble_eq_true rfl, rfl⟩) rfl (fun w G1 => gm_V (fun hw => ?_))
  subst hw
  refine g_push ((q_117 _).trans rfl) ?_
  refine g_istore ((q_117 _).trans rfl) ?_
  exact gle.rf _
theorem c_117 {K : gK} {d : Nat} {l0 : Nat} {l1 : Int32} {l2 : Int32} {G : gH} : gle (t_117_0 K d l0 l1 l2 G) (gCa K (d + 1) 117 [.ref l0, .int l1, .int l2] G) := by
  have h : gent (gMx 117) [.ref l0, .int l1, .int l2] = [some (.ref l0), some (.int l1), some (.int l2), none, none] := by
    show gent (gT 117).2.2.2.1 _ = _
    rw [m_117]; rfl
  exact fun r e => (congrArg (fun q => gRn K d 117 0 q [] G) h).trans (e_117_0 r e)
noncomputable def t_117_7_1 (K : gK) (d : Nat) (G7 : gH) (v9 : Int32) : Option gO := some (.inl (some (.int v9)), G7)
noncomputable def t_117_7_2 (K : gK) (d : Nat) (l0 : Nat) (l1 : Int32) (l2 : Int32) (l3 : Int32) (a6 : Nat) (v8 : Int32) (G7 : gH) : Option gO := if v8 = 0 then (gRn K d 117 7 [some (.ref l0), some (.int l1), some (.int l2), some (.int (l3 + 1)), some (.ref a6)] [] G7) else (rI G7 a6 7 0 (t_117_7_1 K d G7))
noncomputable def t_117_7_3 (K : gK) (d : Nat) (l1 : Int32) (l2 : Int32) (l0 : Nat) (l3 : Int32) (a6 : Nat) (G5 : gH) : Option gO := if g_cls G5 a6 = some 7 then (if g_cls G5 a6 = some 7 then (cI (gCa K d 179 [.ref a6, .int l1, .int l2] G5) (t_117_7_2 K d l0 l1 l2 l3 a6)) else none) else none
noncomputable def t_117_7_4 (K : gK) (d : Nat) (G2 : gH) (l3 : Int32) (l1 : Int32) (l2 : Int32) (l0 : Nat) (a4 : Nat) : Option gO := if g_cls G2 a4 = some 12 then (cR (gCa K d 178 [.ref a4, .int l3] G2) (t_117_7_3 K d l1 l2 l0 l3)) else none
noncomputable def t_117_7_5 (K : gK) (d : Nat) (l3 : Int32) (l0 : Nat) (l1 : Int32) (l2 : Int32) (v3 : Int32) (G2 : gH) : Option gO := if v3 ≤ l3 then (some (.inr 1, gjunk G2 6)) else (rR G2 l0 0 2 (t_117_7_4 K d G2 l3 l1 l2 l0))
noncomputable def t_117_7_6 (K : gK) (d : Nat) (G : gH) (l3 : Int32) (l0 : Nat) (l1 : Int32) (l2 : Int32) (a1 : Nat) : Option gO := if g_cls G a1 = some 12 then (cI (gCa K d 110 [.ref a1] G) (t_117_7_5 K d l3 l0 l1 l2)) else none
noncomputable def t_117_7 (K : gK) (d : Nat) (l0 : Nat) (l1 : Int32) (l2 : Int32) (l3 : Int32) (o4 : Option Value) (G : gH) : Option gO := rR G l0 0 2 (t_117_7_6 K d G l3 l0 l1 l2)
theorem e_117_7 {K : gK} {d : Nat} {l0 : Nat} {l1 : Int32} {l2 : Int32} {l3 : Int32} {o4 : Option Value} {G : gH} : gle (t_117_7 K d l0 l1 l2 l3 o4 G) (gRn K d 117 7 [some (.ref l0), some (.int l1), some (.int l2), some (.int l3), o4] [] G) := by
  unfold t_117_7
  refine g_iload ((q_117 _).trans rfl) rfl ?_
  refine g_aload ((q_117 _).trans rfl) rfl ?_
  refine g_getR ((q_117 _).trans rfl) (fun a1 => ?_)
  refine g_callV (kk := 0) ((q_117 _).trans rfl) (gHn m_117) rfl (by exact ⟨Nat.le_of_ble_eq_true rfl, rfl⟩) rfl (fun w G2 => gm_I (fun v3 hw => ?_))
  subst hw
  refine g_cmpge ((q_117 _).trans rfl) (fun _ => ?_) (fun _ => ?_)
  · exact gle.tr (gle.eq (if_pos (Nat.le_of_ble_eq_true rfl)).symm) (g_throw ((q_117 _).trans rfl))
  · refine g_aload ((q_117 _).trans rfl) rfl ?_
    refine g_getR ((q_117 _).trans rfl) (fun a4 => ?_)
    refine g_iload ((q_117 _).trans rfl) rfl ?_
    refine g_callV (kk := 1) ((q_117 _).trans rfl) (gHn m_117) rfl (by exact ⟨Nat.le_of_ble_eq_true rfl, rfl⟩) rfl (fun w G5 => gm_R (fun a6 hw => ?_))
    subst hw
    refine g_ccast ((q_117 _).trans rfl) ?_
    refine g_astore ((q_117 _).trans rfl) ?_
    refine g_aload ((q_117 _).trans rfl) rfl ?_
    refine g_iload ((q_117 _).trans rfl) rfl ?_
    refine g_iload ((q_117 _).trans rfl) rfl ?_
    refine g_callV (kk := 2) ((q_117 _).trans rfl) (gHn m_117) rfl (by exact ⟨Nat.le_of_ble_eq_true rfl, rfl⟩) rfl (fun w G7 => gm_I (fun v8 hw => ?_))
    subst hw
    refine g_ifeq ((q_117 _).trans rfl) (fun _ => ?_) (fun _ => ?_)
    · refine g_iinc ((q_117 _).trans rfl) rfl ?_
      refine g_goto ((q_117 _).trans rfl) ?_
      exact gle.rf _
    · refine g_aload ((q_117 _).trans rfl) rfl ?_
      refine g_getI ((q_117 _).trans rfl) (fun v9 => ?_)
      exact g_iret ((q_117 _).trans rfl)
theorem q_118 {K : gK} (pc : Nat) : gP K 118 pc = ((gL_118 K).lookup pc).getD o_none := rfl
noncomputable def t_118_0 (K : gK) (d : Nat) (l0 : Nat) (G : gH) : Option gO := gRn K d 118 4 [some (.ref l0), some (.int (0 : Int32)), some (.int (0 : Int32)), none] [] G
theorem e_118_0 {K : gK} {d : Nat} {l0 : Nat} {G : gH} : gle (t_118_0 K d l0 G) (gRn K d 118 0 [some (.ref l0), none, none, none] [] G) := by
  unfold t_118_0
  refine g_push ((q_118 _).trans rfl) ?_
  refine g_istore ((q_118 _).trans rfl) ?_
  refine g_push ((q_118 _).trans rfl) ?_
  refine g_istore ((q_118 _).trans rfl) ?_
  exact gle.rf _
theorem c_118 {K : gK} {d : Nat} {l0 : Nat} {G : gH} : gle (t_118_0 K d l0 G) (gCa K (d + 1) 118 [.ref l0] G) := by
  have h : gent (gMx 118) [.ref l0] = [some (.ref l0), none, none, none] := by
    show gent (gT 118).2.2.2.1 _ = _
    rw [m_118]; rfl
  exact fun r e => (congrArg (fun q => gRn K d 118 0 q [] G) h).trans (e_118_0 r e)
noncomputable def t_118_4_1 (K : gK) (d : Nat) (l0 : Nat) (l1 : Int32) (l2 : Int32) (a6 : Nat) (v10 : Int32) (G9 : gH) : Option gO := gRn K d 118 4 [some (.ref l0), some (.int (l1 + v10)), some (.int (l2 + 1)), some (.ref a6)] [] G9
noncomputable def t_118_4_2 (K : gK) (d : Nat) (G5 : gH) (l0 : Nat) (l1 : Int32) (l2 : Int32) (a6 : Nat) (a8 : Nat) : Option gO := if g_cls G5 a8 = some 12 then (cI (gCa K d 110 [.ref a8] G5) (t_118_4_1 K d l0 l1 l2 a6)) else none
noncomputable def t_118_4_3 (K : gK) (d : Nat) (G5 : gH) (l0 : Nat) (l1 : Int32) (l2 : Int32) (a6 : Nat) (a7 : Nat) : Option gO := rR G5 a7 4 2 (t_118_4_2 K d G5 l0 l1 l2 a6)
noncomputable def t_118_4_4 (K : gK) (d : Nat) (l0 : Nat) (l1 : Int32) (l2 : Int32) (a6 : Nat) (G5 : gH) : Option gO := if g_cls G5 a6 = some 7 then (rR G5 a6 7 1 (t_118_4_3 K d G5 l0 l1 l2 a6)) else none
noncomputable def t_118_4_5 (K : gK) (d : Nat) (G2 : gH) (l2 : Int32) (l0 : Nat) (l1 : Int32) (a4 : Nat) : Option gO := if g_cls G2 a4 = some 12 then (cR (gCa K d 178 [.ref a4, .int l2] G2) (t_118_4_4 K d l0 l1 l2)) else none
noncomputable def t_118_4_6 (K : gK) (d : Nat) (l2 : Int32) (l1 : Int32) (l0 : Nat) (v3 : Int32) (G2 : gH) : Option gO := if v3 ≤ l2 then (some (.inl (some (.int l1)), G2)) else (rR G2 l0 0 2 (t_118_4_5 K d G2 l2 l0 l1))
noncomputable def t_118_4_7 (K : gK) (d : Nat) (G : gH) (l2 : Int32) (l1 : Int32) (l0 : Nat) (a1 : Nat) : Option gO := if g_cls G a1 = some 12 then (cI (gCa K d 110 [.ref a1] G) (t_118_4_6 K d l2 l1 l0)) else none
noncomputable def t_118_4 (K : gK) (d : Nat) (l0 : Nat) (l1 : Int32) (l2 : Int32) (o3 : Option Value) (G : gH) : Option gO := rR G l0 0 2 (t_118_4_7 K d G l2 l1 l0)
theorem e_118_4 {K : gK} {d : Nat} {l0 : Nat} {l1 : Int32} {l2 : Int32} {o3 : Option Value} {G : gH} : gle (t_118_4 K d l0 l1 l2 o3 G) (gRn K d 118 4 [some (.ref l0), some (.int l1), some (.int l2), o3] [] G) := by
  unfold t_118_4
  refine g_iload ((q_118 _).trans rfl) rfl ?_
  refine g_aload ((q_118 _).trans rfl) rfl ?_
  refine g_getR ((q_118 _).trans rfl) (fun a1 => ?_)
  refine g_callV (kk := 0) ((q_118 _).trans rfl) (gHn m_118) rfl (by exact ⟨Nat.le_of_ble_eq_true rfl, rfl⟩) rfl (fun w G2 => gm_I (fun v3 hw => ?_))
  subst hw
  refine g_cmpge ((q_118 _).trans rfl) (fun _ => ?_) (fun _ => ?_)
  · refine g_iload ((q_118 _).trans rfl) rfl ?_
    exact g_iret ((q_118 _).trans rfl)
  · refine g_aload ((q_118 _).trans rfl) rfl ?_
    refine g_getR ((q_118 _).trans rfl) (fun a4 => ?_)
    refine g_iload ((q_118 _).trans rfl) rfl ?_
    refine g_callV (kk := 1) ((q_118 _).trans rfl) (gHn m_118) rfl (by exact ⟨Nat.le_of_ble_eq_true rfl, rfl⟩) rfl (fun w G5 => gm_R (fun a6 hw => ?_))
    subst hw
    refine g_ccast ((q_118 _).trans rfl) ?_
    refine g_astore ((q_118 _).trans rfl) ?_
    refine g_iload ((q_118 _).trans rfl) rfl ?_
    refine g_aload ((q_118 _).trans rfl) rfl ?_
    refine g_getR ((q_118 _).trans rfl) (fun a7 => ?_)
    refine g_getR ((q_118 _).trans rfl) (fun a8 => ?_)
    refine g_callV (kk := 0) ((q_118 _).trans rfl) (gHn m_118) rfl (by exact ⟨Nat.le_of_ble_eq_true rfl, rfl⟩) rfl (fun w G9 => gm_I (fun v10 hw => ?_))
    subst hw
    refine g_iadd ((q_118 _).trans rfl) ?_
    refine g_istore ((q_118 _).trans rfl) ?_
    refine g_iinc ((q_118 _).trans rfl) rfl ?_
    refine g_goto ((q_118 _).trans rfl) ?_
    exact gle.rf _
theorem q_119 {K : gK} (pc : Nat) : gP K 119 pc = ((gL_119 K).lookup pc).getD o_none := rfl
noncomputable def t_119_0 (K : gK) (d : Nat) (l0 : Nat) (G : gH) : Option gO := gRn K d 119 4 [some (.ref l0), some (.int (0 : Int32)), some (.int (0 : Int32))] [] G
theorem e_119_0 {K : gK} {d : Nat} {l0 : Nat} {G : gH} : gle (t_119_0 K d l0 G) (gRn K d 119 0 [some (.ref l0), none, none] [] G) := by
  unfold t_119_0
  refine g_push ((q_119 _).trans rfl) ?_
  refine g_istore ((q_119 _).trans rfl) ?_
  refine g_push ((q_119 _).trans rfl) ?_
  refine g_istore ((q_119 _).trans rfl) ?_
  exact gle.rf _
theorem c_119 {K : gK} {d : Nat} {l0 : Nat} {G : gH} : gle (t_119_0 K d l0 G) (gCa K (d + 1) 119 [.ref l0] G) := by
  have h : gent (gMx 119) [.ref l0] = [some (.ref l0), none, none] := by
    show gent (gT 119).2.2.2.1 _ = _
    rw [m_119]; rfl
  exact fun r e => (congrArg (fun q => gRn K d 119 0 q [] G) h).trans (e_119_0 r e)
noncomputable def t_119_4_1 (K : gK) (d : Nat) (l0 : Nat) (l1 : Int32) (l2 : Int32) (G : gH) (v5 : Int32) : Option gO := gRn K d 119 4 [some (.ref l0), some (.int (l1 + v5)), some (.int (l2 + 1))] [] G
noncomputable def t_119_4_2 (K : gK) (d : Nat) (G : gH) (a2 : Nat) (l0 : Nat) (l1 : Int32) (l2 : Int32) (v4 : Int32) : Option gO := xI G a2 0 v4 (t_119_4_1 K d l0 l1 l2 G)
noncomputable def t_119_4_3 (K : gK) (d : Nat) (G : gH) (l2 : Int32) (a2 : Nat) (l0 : Nat) (l1 : Int32) (a3 : Nat) : Option gO := xI G a3 0 l2 (t_119_4_2 K d G a2 l0 l1 l2)
noncomputable def t_119_4_4 (K : gK) (d : Nat) (G : gH) (l0 : Nat) (l2 : Int32) (l1 : Int32) (a2 : Nat) : Option gO := rR G l0 3 20 (t_119_4_3 K d G l2 a2 l0 l1)
noncomputable def t_119_4_5 (K : gK) (d : Nat) (l2 : Int32) (l1 : Int32) (G : gH) (l0 : Nat) (v1 : Int32) : Option gO := if v1 ≤ l2 then (some (.inl (some (.int l1)), G)) else (rR G l0 3 11 (t_119_4_4 K d G l0 l2 l1))
noncomputable def t_119_4 (K : gK) (d : Nat) (l0 : Nat) (l1 : Int32) (l2 : Int32) (G : gH) : Option gO := rI G l0 3 17 (t_119_4_5 K d l2 l1 G l0)
theorem e_119_4 {K : gK} {d : Nat} {l0 : Nat} {l1 : Int32} {l2 : Int32} {G : gH} : gle (t_119_4 K d l0 l1 l2 G) (gRn K d 119 4 [some (.ref l0), some (.int l1), some (.int l2)] [] G) := by
  unfold t_119_4
  refine g_iload ((q_119 _).trans rfl) rfl ?_
  refine g_aload ((q_119 _).trans rfl) rfl ?_
  refine g_getI ((q_119 _).trans rfl) (fun v1 => ?_)
  refine g_cmpge ((q_119 _).trans rfl) (fun _ => ?_) (fun _ => ?_)
  · refine g_iload ((q_119 _).trans rfl) rfl ?_
    exact g_iret ((q_119 _).trans rfl)
  · refine g_iload ((q_119 _).trans rfl) rfl ?_
    refine g_aload ((q_119 _).trans rfl) rfl ?_
    refine g_getR ((q_119 _).trans rfl) (fun a2 => ?_)
    refine g_aload ((q_119 _).trans rfl) rfl ?_
    refine g_getR ((q_119 _).trans rfl) (fun a3 => ?_)
    refine g_iload ((q_119 _).trans rfl) rfl ?_
    refine g_iald ((q_119 _).trans rfl) (fun v4 => ?_)
    refine g_iald ((q_119 _).trans rfl) (fun v5 => ?_)
    refine g_iadd ((q_119 _).trans rfl) ?_
    refine g_istore ((q_119 _).trans rfl) ?_
    refine g_iinc ((q_119 _).trans rfl) rfl ?_
    refine g_goto ((q_119 _).trans rfl) ?_
    exact gle.rf _
theorem q_120 {K : gK} (pc : Nat) : gP K 120 pc = ((gL_120 K).lookup pc).getD o_none := rfl
noncomputable def t_120_0_1 (K : gK) (d : Nat) (G8 : gH) (v12 : Int32) : Option gO := some (.inl (some (.int v12)), G8)
noncomputable def t_120_0_2 (K : gK) (d : Nat) (G8 : gH) (l1 : Int32) (a11 : Nat) : Option gO := xI G8 a11 0 l1 (t_120_0_1 K d G8)
noncomputable def t_120_0_3 (K : gK) (d : Nat) (G8 : gH) (l1 : Int32) (a10 : Nat) : Option gO := rR G8 a10 2 1 (t_120_0_2 K d G8 l1)
noncomputable def t_120_0_4 (K : gK) (d : Nat) (l0 : Nat) (l1 : Int32) (G8 : gH) : Option gO := rR G8 l0 0 6 (t_120_0_3 K d G8 l1)
noncomputable def t_120_0_5 (K : gK) (d : Nat) (G13 : gH) (v17 : Int32) : Option gO := some (.inl (some (.int v17)), G13)
noncomputable def t_120_0_6 (K : gK) (d : Nat) (G13 : gH) (l1 : Int32) (a16 : Nat) : Option gO := xI G13 a16 0 l1 (t_120_0_5 K d G13)
noncomputable def t_120_0_7 (K : gK) (d : Nat) (G13 : gH) (l1 : Int32) (a15 : Nat) : Option gO := rR G13 a15 2 1 (t_120_0_6 K d G13 l1)
noncomputable def t_120_0_8 (K : gK) (d : Nat) (l0 : Nat) (l1 : Int32) (G13 : gH) : Option gO := rR G13 l0 0 6 (t_120_0_7 K d G13 l1)
noncomputable def t_120_0_9 (K : gK) (d : Nat) (G3 : gH) (l0 : Nat) (l1 : Int32) (v7 : Int32) : Option gO := if v7 = ((-1) : Int32) then (cV (gCa K d 151 [.int (0 : Int32)] G3) (t_120_0_4 K d l0 l1)) else (cV (gCa K d 151 [.int (1 : Int32)] G3) (t_120_0_8 K d l0 l1))
noncomputable def t_120_0_10 (K : gK) (d : Nat) (G3 : gH) (l1 : Int32) (l0 : Nat) (a6 : Nat) : Option gO := xI G3 a6 0 l1 (t_120_0_9 K d G3 l0 l1)
noncomputable def t_120_0_11 (K : gK) (d : Nat) (G3 : gH) (l1 : Int32) (l0 : Nat) (a5 : Nat) : Option gO := rR G3 a5 2 1 (t_120_0_10 K d G3 l1 l0)
noncomputable def t_120_0_12 (K : gK) (d : Nat) (l0 : Nat) (l1 : Int32) (G3 : gH) : Option gO := rR G3 l0 0 6 (t_120_0_11 K d G3 l1 l0)
noncomputable def t_120_0_13 (K : gK) (d : Nat) (l0 : Nat) (l1 : Int32) (v2 : Int32) (G1 : gH) : Option gO := cV (gCa K d 149 [.int v2] G1) (t_120_0_12 K d l0 l1)
noncomputable def t_120_0 (K : gK) (d : Nat) (l0 : Nat) (l1 : Int32) (G : gH) : Option gO := cI (gCa K d 148 [.int l1, .int (0 : Int32), .int (3 : Int32)] G) (t_120_0_13 K d l0 l1)
theorem e_120_0 {K : gK} {d : Nat} {l0 : Nat} {l1 : Int32} {G : gH} : gle (t_120_0 K d l0 l1 G) (gRn K d 120 0 [some (.ref l0), some (.int l1)] [] G) := by
  unfold t_120_0
  refine g_iload ((q_120 _).trans rfl) rfl ?_
  refine g_push ((q_120 _).trans rfl) ?_
  refine g_push ((q_120 _).trans rfl) ?_
  refine g_callS (kk := 3) ((q_120 _).trans rfl) (gHn m_120) (by exact ⟨Nat.le_of_ble_eq_true rfl, Nat.le_of_ble_eq_true rfl, rfl⟩) rfl (fun w G1 => gm_I (fun v2 hw => ?_))
  subst hw
  refine g_callS (kk := 1) ((q_120 _).trans rfl) (gHn m_120) (by exact ⟨Nat.le_of_ble_eq_true rfl, Nat.le_of_ble_eq_true rfl, rfl⟩) rfl (fun w G3 => gm_V (fun hw => ?_))
  subst hw
  refine g_aload ((q_120 _).trans rfl) rfl ?_
  refine g_getR ((q_120 _).trans rfl) (fun a5 => ?_)
  refine g_getR ((q_120 _).trans rfl) (fun a6 => ?_)
  refine g_iload ((q_120 _).trans rfl) rfl ?_
  refine g_iald ((q_120 _).trans rfl) (fun v7 => ?_)
  refine g_push ((q_120 _).trans rfl) ?_
  refine g_cmpeq ((q_120 _).trans rfl) (fun _ => ?_) (fun _ => ?_)
  · refine g_push ((q_120 _).trans rfl) ?_
    refine g_callS (kk := 1) ((q_120 _).trans rfl) (gHn m_120) (by exact ⟨Nat.le_of_ble_eq_true rfl, Nat.le_of_ble_eq_true rfl, rfl⟩) rfl (fun w G8 => gm_V (fun hw => ?_))
    subst hw
    refine g_aload ((q_120 _).trans rfl) rfl ?_
    refine g_getR ((q_120 _).trans rfl) (fun a10 => ?_)
    refine g_getR ((q_120 _).trans rfl) (fun a11 => ?_)
    refine g_iload ((q_120 _).trans rfl) rfl ?_
    refine g_iald ((q_120 _).trans rfl) (fun v12 => ?_)
    exact g_iret ((q_120 _).trans rfl)
  · refine g_push ((q_120 _).trans rfl) ?_
    refine g_goto ((q_120 _).trans rfl) ?_
    refine g_callS (kk := 1) ((q_120 _).trans rfl) (gHn m_120) (by exact ⟨Nat.le_of_ble_eq_true rfl, Nat.le_of_ble_eq_true rfl, rfl⟩) rfl (fun w G13 => gm_V (fun hw => ?_))
    subst hw
    refine g_aload ((q_120 _).trans rfl) rfl ?_
    refine g_getR ((q_120 _).trans rfl) (fun a15 => ?_)
    refine g_getR ((q_120 _).trans rfl) (fun a16 => ?_)
    refine g_iload ((q_120 _).trans rfl) rfl ?_
    refine g_iald ((q_120 _).trans rfl) (fun v17 => ?_)
    exact g_iret ((q_120 _).trans rfl)
theorem c_120 {K : gK} {d : Nat} {l0 : Nat} {l1 : Int32} {G : gH} : gle (t_120_0 K d l0 l1 G) (gCa K (d + 1) 120 [.ref l0, .int l1] G) := by
  have h : gent (gMx 120) [.ref l0, .int l1] = [some (.ref l0), some (.int l1)] := by
    show gent (gT 120).2.2.2.1 _ = _
    rw [m_120]; rfl
  exact fun r e => (congrArg (fun q => gRn K d 120 0 q [] G) h).trans (e_120_0 r e)
theorem q_121 {K : gK} (pc : Nat) : gP K 121 pc = ((gL_121 K).lookup pc).getD o_none := rfl
noncomputable def t_121_0_1 (K : gK) (d : Nat) (v13 : Int32) (G12 : gH) : Option gO := some (.inl (some (.int (v13 - (1 : Int32)))), G12)
noncomputable def t_121_0_2 (K : gK) (d : Nat) (G9 : gH) (a11 : Nat) : Option gO := if g_cls G9 a11 = some 12 then (cI (gCa K d 110 [.ref a11] G9) (t_121_0_1 K d)) else none
noncomputable def t_121_0_3 (K : gK) (d : Nat) (l0 : Nat) (v10 : Int32) (G9 : gH) : Option gO := rR G9 l0 0 1 (t_121_0_2 K d G9)
noncomputable def t_121_0_4 (K : gK) (d : Nat) (a6 : Nat) (G4 : gH) (l0 : Nat) (G7 : gH) : Option gO := if g_cls G7 a6 = some 12 then (cI (gCa K d 156 [.ref a6, .ref (G4.2.1)] G7) (t_121_0_3 K d l0)) else none
noncomputable def t_121_0_5 (K : gK) (d : Nat) (G4 : gH) (l0 : Nat) (a6 : Nat) : Option gO := cV (gCa K d 180 [.ref (G4.2.1)] (gnew G4 (.inr (8, [.null, .int 0])) 2)) (t_121_0_4 K d a6 G4 l0)
noncomputable def t_121_0_6 (K : gK) (d : Nat) (l0 : Nat) (G4 : gH) : Option gO := rR G4 l0 0 1 (t_121_0_5 K d G4 l0)
noncomputable def t_121_0_7 (K : gK) (d : Nat) (v23 : Int32) (G22 : gH) : Option gO := some (.inl (some (.int (v23 - (1 : Int32)))), G22)
noncomputable def t_121_0_8 (K : gK) (d : Nat) (G19 : gH) (a21 : Nat) : Option gO := if g_cls G19 a21 = some 12 then (cI (gCa K d 110 [.ref a21] G19) (t_121_0_7 K d)) else none
noncomputable def t_121_0_9 (K : gK) (d : Nat) (l0 : Nat) (v20 : Int32) (G19 : gH) : Option gO := rR G19 l0 0 1 (t_121_0_8 K d G19)
noncomputable def t_121_0_10 (K : gK) (d : Nat) (a16 : Nat) (G14 : gH) (l0 : Nat) (G17 : gH) : Option gO := if g_cls G17 a16 = some 12 then (cI (gCa K d 156 [.ref a16, .ref (G14.2.1)] G17) (t_121_0_9 K d l0)) else none
noncomputable def t_121_0_11 (K : gK) (d : Nat) (G14 : gH) (l0 : Nat) (a16 : Nat) : Option gO := cV (gCa K d 180 [.ref (G14.2.1)] (gnew G14 (.inr (8, [.null, .int 0])) 2)) (t_121_0_10 K d a16 G14 l0)
noncomputable def t_121_0_12 (K : gK) (d : Nat) (l0 : Nat) (G14 : gH) : Option gO := rR G14 l0 0 1 (t_121_0_11 K d G14 l0)
noncomputable def t_121_0_13 (K : gK) (d : Nat) (l0 : Nat) (v3 : Int32) (G2 : gH) : Option gO := if (4 : Int32) ≤ v3 then (cV (gCa K d 151 [.int (0 : Int32)] G2) (t_121_0_6 K d l0)) else (cV (gCa K d 151 [.int (1 : Int32)] G2) (t_121_0_12 K d l0))
noncomputable def t_121_0_14 (K : gK) (d : Nat) (G : gH) (l0 : Nat) (a1 : Nat) : Option gO := if g_cls G a1 = some 12 then (cI (gCa K d 110 [.ref a1] G) (t_121_0_13 K d l0)) else none
noncomputable def t_121_0 (K : gK) (d : Nat) (l0 : Nat) (G : gH) : Option gO := rR G l0 0 1 (t_121_0_14 K d G l0)
theorem e_121_0 {K : gK} {d : Nat} {l0 : Nat} {G : gH} : gle (t_121_0 K d l0 G) (gRn K d 121 0 [some (.ref l0)] [] G) := by
  unfold t_121_0
  refine g_aload ((q_121 _).trans rfl) rfl ?_
  refine g_getR ((q_121 _).trans rfl) (fun a1 => ?_)
  refine g_callV (kk := 0) ((q_121 _).trans rfl) (gHn m_121) rfl (by exact ⟨Nat.le_of_ble_eq_true rfl, rfl⟩) rfl (fun w G2 => gm_I (fun v3 hw => ?_))
  subst hw
  refine g_push ((q_121 _).trans rfl) ?_
  refine g_cmpge ((q_121 _).trans rfl) (fun _ => ?_) (fun _ => ?_)
  · refine g_push ((q_121 _).trans rfl) ?_
    refine g_callS (kk := 1) ((q_121 _).trans rfl) (gHn m_121) (by exact ⟨Nat.le_of_ble_eq_true rfl, Nat.le_of_ble_eq_true rfl, rfl⟩) rfl (fun w G4 => gm_V (fun hw => ?_))
    subst hw
    refine g_aload ((q_121 _).trans rfl) rfl ?_
    refine g_getR ((q_121 _).trans rfl) (fun a6 => ?_)
    refine g_new ((q_121 _).trans rfl) ?_
    refine g_dup_ref ((q_121 _).trans rfl) ?_
    refine g_callI (kk := 0) ((q_121 _).trans rfl) (gHn m_121) rfl (by exact ⟨Nat.le_of_ble_eq_true rfl, rfl⟩) rfl (fun w G7 => gm_V (fun hw => ?_))
    subst hw
    refine g_callV (kk := 1) ((q_121 _).trans rfl) (gHn m_121) rfl (by exact ⟨Nat.le_of_ble_eq_true rfl, rfl⟩) rfl (fun w G9 => gm_I (fun v10 hw => ?_))
    subst hw
    refine g_pop_int ((q_121 _).trans rfl) ?_
    refine g_aload ((q_121 _).trans rfl) rfl ?_
    refine g_getR ((q_121 _).trans rfl) (fun a11 => ?_)
    refine g_callV (kk := 0) ((q_121 _).trans rfl) (gHn m_121) rfl (by exact ⟨Nat.le_of_ble_eq_true rfl, rfl⟩) rfl (fun w G12 => gm_I (fun v13 hw => ?_))
    subst hw
    refine g_push ((q_121 _).trans rfl) ?_
    refine g_isub ((q_121 _).trans rfl) ?_
    exact g_iret ((q_121 _).trans rfl)
  · refine g_push ((q_121 _).trans rfl) ?_
    refine g_goto ((q_121 _).trans rfl) ?_
    refine g_callS (kk := 1) ((q_121 _).trans rfl) (gHn m_121) (by exact ⟨Nat.le_of_ble_eq_true rfl, Nat.le_of_ble_eq_true rfl, rfl⟩) rfl (fun w G14 => gm_V (fun hw => ?_))
    subst hw
    refine g_aload ((q_121 _).trans rfl) rfl ?_
    refine g_getR ((q_121 _).trans rfl) (fun a16 => ?_)
    refine g_new ((q_121 _).trans rfl) ?_
    refine g_dup_ref ((q_121 _).trans rfl) ?_
    refine g_callI (kk := 0) ((q_121 _).trans rfl) (gHn m_121) rfl (by exact ⟨Nat.le_of_ble_eq_true rfl, rfl⟩) rfl (fun w G17 => gm_V (fun hw => ?_))
    subst hw
    refine g_callV (kk := 1) ((q_121 _).trans rfl) (gHn m_121) rfl (by exact ⟨Nat.le_of_ble_eq_true rfl, rfl⟩) rfl (fun w G19 => gm_I (fun v20 hw => ?_))
    subst hw
    refine g_pop_int ((q_121 _).trans rfl) ?_
    refine g_aload ((q_121 _).trans rfl) rfl ?_
    refine g_getR ((q_121 _).trans rfl) (fun a21 => ?_)
    refine g_callV (kk := 0) ((q_121 _).trans rfl) (gHn m_121) rfl (by exact ⟨Nat.le_of_ble_eq_true rfl, rfl⟩) rfl (fun w G22 => gm_I (fun v23 hw => ?_))
    subst hw
    refine g_push ((q_121 _).trans rfl) ?_
    refine g_isub ((q_121 _).trans rfl) ?_
    exact g_iret ((q_121 _).trans rfl)
theorem c_121 {K : gK} {d : Nat} {l0 : Nat} {G : gH} : gle (t_121_0 K d l0 G) (gCa K (d + 1) 121 [.ref l0] G) := by
  have h : gent (gMx 121) [.ref l0] = [some (.ref l0)] := by
    show gent (gT 121).2.2.2.1 _ = _
    rw [m_121]; rfl
  exact fun r e => (congrArg (fun q => gRn K d 121 0 q [] G) h).trans (e_121_0 r e)
theorem q_122 {K : gK} (pc : Nat) : gP K 122 pc = ((gL_122 K).lookup pc).getD o_none := rfl
noncomputable def t_122_0_1 (K : gK) (d : Nat) (v20 : Int32) (G19 : gH) : Option gO := some (.inl (some (.int v20)), G19)
noncomputable def t_122_0_2 (K : gK) (d : Nat) (a2 : Nat) (v18 : Int32) (G17 : gH) : Option gO := if g_cls G17 a2 = some 8 then (cI (gCa K d 184 [.ref a2] G17) (t_122_0_1 K d)) else none
noncomputable def t_122_0_3 (K : gK) (d : Nat) (a14 : Nat) (G12 : gH) (a2 : Nat) (G15 : gH) : Option gO := if g_cls G15 a14 = some 12 then (cI (gCa K d 156 [.ref a14, .ref (G12.2.1)] G15) (t_122_0_2 K d a2)) else none
noncomputable def t_122_0_4 (K : gK) (d : Nat) (G12 : gH) (a4 : Nat) (l3 : Int32) (a2 : Nat) (a14 : Nat) : Option gO := cV (gCa K d 183 [.ref (G12.2.1), .ref a4, .int l3] (gnew G12 (.inr (9, [.null, .int 0])) 2)) (t_122_0_3 K d a14 G12 a2)
noncomputable def t_122_0_5 (K : gK) (d : Nat) (a2 : Nat) (a4 : Nat) (l3 : Int32) (G12 : gH) : Option gO := rR G12 a2 8 0 (t_122_0_4 K d G12 a4 l3 a2)
noncomputable def t_122_0_6 (K : gK) (d : Nat) (v29 : Int32) (G28 : gH) : Option gO := some (.inl (some (.int v29)), G28)
noncomputable def t_122_0_7 (K : gK) (d : Nat) (a2 : Nat) (v27 : Int32) (G26 : gH) : Option gO := if g_cls G26 a2 = some 8 then (cI (gCa K d 184 [.ref a2] G26) (t_122_0_6 K d)) else none
noncomputable def t_122_0_8 (K : gK) (d : Nat) (a23 : Nat) (G21 : gH) (a2 : Nat) (G24 : gH) : Option gO := if g_cls G24 a23 = some 12 then (cI (gCa K d 156 [.ref a23, .ref (G21.2.1)] G24) (t_122_0_7 K d a2)) else none
noncomputable def t_122_0_9 (K : gK) (d : Nat) (G21 : gH) (a4 : Nat) (l3 : Int32) (a2 : Nat) (a23 : Nat) : Option gO := cV (gCa K d 183 [.ref (G21.2.1), .ref a4, .int l3] (gnew G21 (.inr (9, [.null, .int 0])) 2)) (t_122_0_8 K d a23 G21 a2)
noncomputable def t_122_0_10 (K : gK) (d : Nat) (a2 : Nat) (a4 : Nat) (l3 : Int32) (G21 : gH) : Option gO := rR G21 a2 8 0 (t_122_0_9 K d G21 a4 l3 a2)
noncomputable def t_122_0_11 (K : gK) (d : Nat) (G9 : gH) (a2 : Nat) (a4 : Nat) (l3 : Int32) (v11 : Int32) : Option gO := if v11 = 0 then (cV (gCa K d 153 [.int (1 : Int32)] G9) (t_122_0_5 K d a2 a4 l3)) else (cV (gCa K d 153 [.int (0 : Int32)] G9) (t_122_0_10 K d a2 a4 l3))
noncomputable def t_122_0_12 (K : gK) (d : Nat) (v38 : Int32) (G37 : gH) : Option gO := some (.inl (some (.int v38)), G37)
noncomputable def t_122_0_13 (K : gK) (d : Nat) (a2 : Nat) (v36 : Int32) (G35 : gH) : Option gO := if g_cls G35 a2 = some 8 then (cI (gCa K d 184 [.ref a2] G35) (t_122_0_12 K d)) else none
noncomputable def t_122_0_14 (K : gK) (d : Nat) (a32 : Nat) (G30 : gH) (a2 : Nat) (G33 : gH) : Option gO := if g_cls G33 a32 = some 12 then (cI (gCa K d 156 [.ref a32, .ref (G30.2.1)] G33) (t_122_0_13 K d a2)) else none
noncomputable def t_122_0_15 (K : gK) (d : Nat) (G30 : gH) (a4 : Nat) (l3 : Int32) (a2 : Nat) (a32 : Nat) : Option gO := cV (gCa K d 183 [.ref (G30.2.1), .ref a4, .int l3] (gnew G30 (.inr (9, [.null, .int 0])) 2)) (t_122_0_14 K d a32 G30 a2)
noncomputable def t_122_0_16 (K : gK) (d : Nat) (a2 : Nat) (a4 : Nat) (l3 : Int32) (G30 : gH) : Option gO := rR G30 a2 8 0 (t_122_0_15 K d G30 a4 l3 a2)
noncomputable def t_122_0_17 (K : gK) (d : Nat) (a2 : Nat) (a4 : Nat) (l3 : Int32) (v10 : Int32) (G9 : gH) : Option gO := if v10 = 0 then (rI G9 a2 8 1 (t_122_0_11 K d G9 a2 a4 l3)) else (cV (gCa K d 153 [.int (0 : Int32)] G9) (t_122_0_16 K d a2 a4 l3))
noncomputable def t_122_0_18 (K : gK) (d : Nat) (a2 : Nat) (a4 : Nat) (l3 : Int32) (G7 : gH) : Option gO := if g_cls G7 a2 = some 8 then (cI (gCa K d 182 [.ref a2, .ref a4] G7) (t_122_0_17 K d a2 a4 l3)) else none
noncomputable def t_122_0_19 (K : gK) (d : Nat) (a2 : Nat) (a4 : Nat) (l3 : Int32) (v6 : Int32) (G5 : gH) : Option gO := cV (gCa K d 149 [.int v6] G5) (t_122_0_18 K d a2 a4 l3)
noncomputable def t_122_0_20 (K : gK) (d : Nat) (l3 : Int32) (a2 : Nat) (a4 : Nat) (G3 : gH) : Option gO := cI (gCa K d 148 [.int l3, .int (1 : Int32), .int (4 : Int32)] G3) (t_122_0_19 K d a2 a4 l3)
noncomputable def t_122_0_21 (K : gK) (d : Nat) (l0 : Nat) (l2 : Int32) (l3 : Int32) (a2 : Nat) (G1 : gH) : Option gO := if g_cls G1 l0 = some 0 then (cR (gCa K d 157 [.ref l0, .int l2] G1) (t_122_0_20 K d l3 a2)) else none
noncomputable def t_122_0 (K : gK) (d : Nat) (l0 : Nat) (l1 : Int32) (l2 : Int32) (l3 : Int32) (G : gH) : Option gO := if g_cls G l0 = some 0 then (cR (gCa K d 181 [.ref l0, .int l1] G) (t_122_0_21 K d l0 l2 l3)) else none
theorem e_122_0 {K : gK} {d : Nat} {l0 : Nat} {l1 : Int32} {l2 : Int32} {l3 : Int32} {G : gH} : gle (t_122_0 K d l0 l1 l2 l3 G) (gRn K d 122 0 [some (.ref l0), some (.int l1), some (.int l2), some (.int l3), none, none] [] G) := by
  unfold t_122_0
  refine g_aload ((q_122 _).trans rfl) rfl ?_
  refine g_iload ((q_122 _).trans rfl) rfl ?_
  refine g_callV (kk := 1) ((q_122 _).trans rfl) (gHn m_122) rfl (by exact ⟨Nat.le_of_ble_eq_true rfl, rfl⟩) rfl (fun w G1 => gm_R (fun a2 hw => ?_))
  subst hw
  refine g_astore ((q_122 _).trans rfl) ?_
  refine g_aload ((q_122 _).trans rfl) rfl ?_
  refine g_iload ((q_122 _).trans rfl) rfl ?_
  refine g_callV (kk := 1) ((q_122 _).trans rfl) (gHn m_122) rfl (by exact ⟨Nat.le_of_ble_eq_true rfl, rfl⟩) rfl (fun w G3 => gm_R (fun a4 hw => ?_))
  subst hw
  refine g_astore ((q_122 _).trans rfl) ?_
  refine g_iload ((q_122 _).trans rfl) rfl ?_
  refine g_push ((q_122 _).trans rfl) ?_
  refine g_push ((q_122 _).trans rfl) ?_
  refine g_callS (kk := 3) ((q_122 _).trans rfl) (gHn m_122) (by exact ⟨Nat.le_of_ble_eq_true rfl, Nat.le_of_ble_eq_true rfl, rfl⟩) rfl (fun w G5 => gm_I (fun v6 hw => ?_))
  subst hw
  refine g_callS (kk := 1) ((q_122 _).trans rfl) (gHn m_122) (by exact ⟨Nat.le_of_ble_eq_true rfl, Nat.le_of_ble_eq_true rfl, rfl⟩) rfl (fun w G7 => gm_V (fun hw => ?_))
  subst hw
  refine g_aload ((q_122 _).trans rfl) rfl ?_
  refine g_aload ((q_122 _).trans rfl) rfl ?_
  refine g_callV (kk := 1) ((q_122 _).trans rfl) (gHn m_122) rfl (by exact ⟨Nat.le_of_ble_eq_true rfl, rfl⟩) rfl (fun w G9 => gm_I (fun v10 hw => ?_))
  subst hw
  refine g_ifne ((q_122 _).trans rfl) (fun _ => ?_) (fun _ => ?_)
  · refine g_aload ((q_122 _).trans rfl) rfl ?_
    refine g_getI ((q_122 _).trans rfl) (fun v11 => ?_)
    refine g_ifne ((q_122 _).trans rfl) (fun _ => ?_) (fun _ => ?_)
    · refine g_push ((q_122 _).trans rfl) ?_
      refine g_goto ((q_122 _).trans rfl) ?_
      refine g_callS (kk := 1) ((q_122 _).trans rfl) (gHn m_122) (by exact ⟨Nat.le_of_ble_eq_true rfl, Nat.le_of_ble_eq_true rfl, rfl⟩) rfl (fun w G12 => gm_V (fun hw => ?_))
      subst hw
      refine g_aload ((q_122 _).trans rfl) rfl ?_
      refine g_getR ((q_122 _).trans rfl) (fun a14 => ?_)
      refine g_new ((q_122 _).trans rfl) ?_
      refine g_dup_ref ((q_122 _).trans rfl) ?_
      refine g_aload ((q_122 _).trans rfl) rfl ?_
      refine g_iload ((q_122 _).trans rfl) rfl ?_
      refine g_callI (kk := 2) ((q_122 _).trans rfl) (gHn m_122) rfl (by exact ⟨Nat.le_of_ble_eq_true rfl, rfl⟩) rfl (fun w G15 => gm_V (fun hw => ?_))
      subst hw
      refine g_callV (kk := 1) ((q_122 _).trans rfl) (gHn m_122) rfl (by exact ⟨Nat.le_of_ble_eq_true rfl, rfl⟩) rfl (fun w G17 => gm_I (fun v18 hw => ?_))
      subst hw
      refine g_pop_int ((q_122 _).trans rfl) ?_
      refine g_aload ((q_122 _).trans rfl) rfl ?_
      refine g_callV (kk := 0) ((q_122 _).trans rfl) (gHn m_122) rfl (by exact ⟨Nat.le_of_ble_eq_true rfl, rfl⟩) rfl (fun w G19 => gm_I (fun v20 hw => ?_))
      subst hw
      exact g_iret ((q_122 _).trans rfl)
    · refine g_push ((q_122 _).trans rfl) ?_
      refine g_callS (kk := 1) ((q_122 _).trans rfl) (gHn m_122) (by exact ⟨Nat.le_of_ble_eq_true rfl, Nat.le_of_ble_eq_true rfl, rfl⟩) rfl (fun w G21 => gm_V (fun hw => ?_))
      subst hw
      refine g_aload ((q_122 _).trans rfl) rfl ?_
      refine g_getR ((q_122 _).trans rfl) (fun a23 => ?_)
      refine g_new ((q_122 _).trans rfl) ?_
      refine g_dup_ref ((q_122 _).trans rfl) ?_
      refine g_aload ((q_122 _).trans rfl) rfl ?_
      refine g_iload ((q_122 _).trans rfl) rfl ?_
      refine g_callI (kk := 2) ((q_122 _).trans rfl) (gHn m_122) rfl (by exact ⟨Nat.le_of_ble_eq_true rfl, rfl⟩) rfl (fun w G24 => gm_V (fun hw => ?_))
      subst hw
      refine g_callV (kk := 1) ((q_122 _).trans rfl) (gHn m_122) rfl (by exact ⟨Nat.le_of_ble_eq_true rfl, rfl⟩) rfl (fun w G26 => gm_I (fun v27 hw => ?_))
      subst hw
      refine g_pop_int ((q_122 _).trans rfl) ?_
      refine g_aload ((q_122 _).trans rfl) rfl ?_
      refine g_callV (kk := 0) ((q_122 _).trans rfl) (gHn m_122) rfl (by exact ⟨Nat.le_of_ble_eq_true rfl, rfl⟩) rfl (fun w G28 => gm_I (fun v29 hw => ?_))
      subst hw
      exact g_iret ((q_122 _).trans rfl)
  · refine g_push ((q_122 _).trans rfl) ?_
    refine g_callS (kk := 1) ((q_122 _).trans rfl) (gHn m_122) (by exact ⟨Nat.le_of_ble_eq_true rfl, Nat.le_of_ble_eq_true rfl, rfl⟩) rfl (fun w G30 => gm_V (fun hw => ?_))
    subst hw
    refine g_aload ((q_122 _).trans rfl) rfl ?_
    refine g_getR ((q_122 _).trans rfl) (fun a32 => ?_)
    refine g_new ((q_122 _).trans rfl) ?_
    refine g_dup_ref ((q_122 _).trans rfl) ?_
    refine g_aload ((q_122 _).trans rfl) rfl ?_
    refine g_iload ((q_122 _).trans rfl) rfl ?_
    refine g_callI (kk := 2) ((q_122 _).trans rfl) (gHn m_122) rfl (by exact ⟨Nat.le_of_ble_eq_true rfl, rfl⟩) rfl (fun w G33 => gm_V (fun hw => ?_))
    subst hw
    refine g_callV (kk := 1) ((q_122 _).trans rfl) (gHn m_122) rfl (by exact ⟨Nat.le_of_ble_eq_true rfl, rfl⟩) rfl (fun w G35 => gm_I (fun v36 hw => ?_))
    subst hw
    refine g_pop_int ((q_122 _).trans rfl) ?_
    refine g_aload ((q_122 _).trans rfl) rfl ?_
    refine g_callV (kk := 0) ((q_122 _).trans rfl) (gHn m_122) rfl (by exact ⟨Nat.le_of_ble_eq_true rfl, rfl⟩) rfl (fun w G37 => gm_I (fun v38 hw => ?_))
    subst hw
    exact g_iret ((q_122 _).trans rfl)
theorem c_122 {K : gK} {d : Nat} {l0 : Nat} {l1 : Int32} {l2 : Int32} {l3 : Int32} {G : gH} : gle (t_122_0 K d l0 l1 l2 l3 G) (gCa K (d + 1) 122 [.ref l0, .int l1, .int l2, .int l3] G) := by
  have h : gent (gMx 122) [.ref l0, .int l1, .int l2, .int l3] = [some (.ref l0), some (.int l1), some (.int l2), some (.int l3), none, none] := by
    show gent (gT 122).2.2.2.1 _ = _
    rw [m_122]; rfl
  exact fun r e => (congrArg (fun q => gRn K d 122 0 q [] G) h).trans (e_122_0 r e)
theorem q_123 {K : gK} (pc : Nat) : gP K 123 pc = ((gL_123 K).lookup pc).getD o_none := rfl
noncomputable def t_123_0_1 (K : gK) (d : Nat) (v3 : Int32) (G2 : gH) : Option gO := if narrow .boolean (.int v3) = .int v3 then some (.inl (some (.int v3)), G2) else none
noncomputable def t_123_0_2 (K : gK) (d : Nat) (l1 : Int32) (G : gH) (v1 : Int32) : Option gO := cI (gCa K d 89 [.int l1, .int (0 : Int32), .int (v1 - (1 : Int32))] G) (t_123_0_1 K d)
noncomputable def t_123_0 (K : gK) (d : Nat) (l0 : Nat) (l1 : Int32) (G : gH) : Option gO := rI G l0 3 28 (t_123_0_2 K d l1 G)
theorem e_123_0 {K : gK} {d : Nat} {l0 : Nat} {l1 : Int32} {G : gH} : gle (t_123_0 K d l0 l1 G) (gRn K d 123 0 [some (.ref l0), some (.int l1)] [] G) := by
  unfold t_123_0
  refine g_iload ((q_123 _).trans rfl) rfl ?_
  refine g_push ((q_123 _).trans rfl) ?_
  refine g_aload ((q_123 _).trans rfl) rfl ?_
  refine g_getI ((q_123 _).trans rfl) (fun v1 => ?_)
  refine g_push ((q_123 _).trans rfl) ?_
  refine g_isub ((q_123 _).trans rfl) ?_
  refine g_callS (kk := 3) ((q_123 _).trans rfl) (gHn m_123) (by exact ⟨Nat.le_of_ble_eq_true rfl, Nat.le_of_ble_eq_true rfl, rfl⟩) rfl (fun w G2 => gm_I (fun v3 hw => ?_))
  subst hw
  exact g_zret ((q_123 _).trans rfl)
theorem c_123 {K : gK} {d : Nat} {l0 : Nat} {l1 : Int32} {G : gH} : gle (t_123_0 K d l0 l1 G) (gCa K (d + 1) 123 [.ref l0, .int l1] G) := by
  have h : gent (gMx 123) [.ref l0, .int l1] = [some (.ref l0), some (.int l1)] := by
    show gent (gT 123).2.2.2.1 _ = _
    rw [m_123]; rfl
  exact fun r e => (congrArg (fun q => gRn K d 123 0 q [] G) h).trans (e_123_0 r e)
theorem q_124 {K : gK} (pc : Nat) : gP K 124 pc = ((gL_124 K).lookup pc).getD o_none := rfl
noncomputable def t_124_0 (K : gK) (d : Nat) (l0 : Nat) (l1 : Int32) (G : gH) : Option gO := gRn K d 124 4 [some (.ref l0), some (.int l1), some (.int (0 : Int32)), some (.int (0 : Int32))] [] G
theorem e_124_0 {K : gK} {d : Nat} {l0 : Nat} {l1 : Int32} {G : gH} : gle (t_124_0 K d l0 l1 G) (gRn K d 124 0 [some (.ref l0), some (.int l1), none, none] [] G) := by
  unfold t_124_0
  refine g_push ((q_124 _).trans rfl) ?_
  refine g_istore ((q_124 _).trans rfl) ?_
  refine g_push ((q_124 _).trans rfl) ?_
  refine g_istore ((q_124 _).trans rfl) ?_
  exact gle.rf _
theorem c_124 {K : gK} {d : Nat} {l0 : Nat} {l1 : Int32} {G : gH} : gle (t_124_0 K d l0 l1 G) (gCa K (d + 1) 124 [.ref l0, .int l1] G) := by
  have h : gent (gMx 124) [.ref l0, .int l1] = [some (.ref l0), some (.int l1), none, none] := by
    show gent (gT 124).2.2.2.1 _ = _
    rw [m_124]; rfl
  exact fun r e => (congrArg (fun q => gRn K d 124 0 q [] G) h).trans (e_124_0 r e)
noncomputable def t_124_4_1 (K : gK) (d : Nat) (l0 : Nat) (l1 : Int32) (l2 : Int32) (v3 : Int32) (l3 : Int32) (G : gH) (v5 : Int32) : Option gO := if v5 = 0 then (gRn K d 124 4 [some (.ref l0), some (.int l1), some (.int (l2 + (v3 * (1 : Int32)))), some (.int (l3 + 1))] [] G) else (gRn K d 124 4 [some (.ref l0), some (.int l1), some (.int (l2 + (v3 * (2 : Int32)))), some (.int (l3 + 1))] [] G)
noncomputable def t_124_4_2 (K : gK) (d : Nat) (G : gH) (l3 : Int32) (l0 : Nat) (l1 : Int32) (l2 : Int32) (v3 : Int32) (a4 : Nat) : Option gO := xI G a4 1 l3 (t_124_4_1 K d l0 l1 l2 v3 l3 G)
noncomputable def t_124_4_3 (K : gK) (d : Nat) (G : gH) (l0 : Nat) (l3 : Int32) (l1 : Int32) (l2 : Int32) (v3 : Int32) : Option gO := rR G l0 3 9 (t_124_4_2 K d G l3 l0 l1 l2 v3)
noncomputable def t_124_4_4 (K : gK) (d : Nat) (G : gH) (l1 : Int32) (l3 : Int32) (l0 : Nat) (l2 : Int32) (a2 : Nat) : Option gO := xI G a2 0 (((8 : Int32) * l1) + l3) (t_124_4_3 K d G l0 l3 l1 l2)
noncomputable def t_124_4_5 (K : gK) (d : Nat) (l3 : Int32) (l2 : Int32) (G : gH) (l0 : Nat) (l1 : Int32) (v1 : Int32) : Option gO := if v1 ≤ l3 then (some (.inl (some (.int l2)), G)) else (rR G l0 3 29 (t_124_4_4 K d G l1 l3 l0 l2))
noncomputable def t_124_4 (K : gK) (d : Nat) (l0 : Nat) (l1 : Int32) (l2 : Int32) (l3 : Int32) (G : gH) : Option gO := rI G l0 3 7 (t_124_4_5 K d l3 l2 G l0 l1)
theorem e_124_4 {K : gK} {d : Nat} {l0 : Nat} {l1 : Int32} {l2 : Int32} {l3 : Int32} {G : gH} : gle (t_124_4 K d l0 l1 l2 l3 G) (gRn K d 124 4 [some (.ref l0), some (.int l1), some (.int l2), some (.int l3)] [] G) := by
  unfold t_124_4
  refine g_iload ((q_124 _).trans rfl) rfl ?_
  refine g_aload ((q_124 _).trans rfl) rfl ?_
  refine g_getI ((q_124 _).trans rfl) (fun v1 => ?_)
  refine g_cmpge ((q_124 _).trans rfl) (fun _ => ?_) (fun _ => ?_)
  · refine g_iload ((q_124 _).trans rfl) rfl ?_
    exact g_iret ((q_124 _).trans rfl)
  · refine g_iload ((q_124 _).trans rfl) rfl ?_
    refine g_aload ((q_124 _).trans rfl) rfl ?_
    refine g_getR ((q_124 _).trans rfl) (fun a2 => ?_)
    refine g_push ((q_124 _).trans rfl) ?_
    refine g_iload ((q_124 _).trans rfl) rfl ?_
    refine g_imul ((q_124 _).trans rfl) ?_
    refine g_iload ((q_124 _).trans rfl) rfl ?_
    refine g_iadd ((q_124 _).trans rfl) ?_
    refine g_iald ((q_124 _).trans rfl) (fun v3 => ?_)
    refine g_aload ((q_124 _).trans rfl) rfl ?_
    refine g_getR ((q_124 _).trans rfl) (fun a4 => ?_)
    refine g_iload ((q_124 _).trans rfl) rfl ?_
    refine g_iald ((q_124 _).trans rfl) (fun v5 => ?_)
    refine g_ifeq ((q_124 _).trans rfl) (fun _ => ?_) (fun _ => ?_)
    · refine g_push ((q_124 _).trans rfl) ?_
      refine g_imul ((q_124 _).trans rfl) ?_
      refine g_iadd ((q_124 _).trans rfl) ?_
      refine g_istore ((q_124 _).trans rfl) ?_
      refine g_iinc ((q_124 _).trans rfl) rfl ?_
      refine g_goto ((q_124 _).trans rfl) ?_
      exact gle.rf _
    · refine g_push ((q_124 _).trans rfl) ?_
      refine g_goto ((q_124 _).trans rfl) ?_
      refine g_imul ((q_124 _).trans rfl) ?_
      refine g_iadd ((q_124 _).trans rfl) ?_
      refine g_istore ((q_124 _).trans rfl) ?_
      refine g_iinc ((q_124 _).trans rfl) rfl ?_
      refine g_goto ((q_124 _).trans rfl) ?_
      exact gle.rf _
theorem q_125 {K : gK} (pc : Nat) : gP K 125 pc = ((gL_125 K).lookup pc).getD o_none := rfl
noncomputable def t_125_0_1 (K : gK) (d : Nat) (v4 : Int32) (G3 : gH) : Option gO := some (.inl (some (.int v4)), G3)
noncomputable def t_125_0_2 (K : gK) (d : Nat) (a2 : Nat) (G1 : gH) : Option gO := if g_cls G1 a2 = some 8 then (cI (gCa K d 184 [.ref a2] G1) (t_125_0_1 K d)) else none
noncomputable def t_125_0 (K : gK) (d : Nat) (l0 : Nat) (l1 : Int32) (G : gH) : Option gO := if g_cls G l0 = some 0 then (cR (gCa K d 181 [.ref l0, .int l1] G) (t_125_0_2 K d)) else none
theorem e_125_0 {K : gK} {d : Nat} {l0 : Nat} {l1 : Int32} {G : gH} : gle (t_125_0 K d l0 l1 G) (gRn K d 125 0 [some (.ref l0), some (.int l1)] [] G) := by
  unfold t_125_0
  refine g_aload ((q_125 _).trans rfl) rfl ?_
  refine g_iload ((q_125 _).trans rfl) rfl ?_
  refine g_callV (kk := 1) ((q_125 _).trans rfl) (gHn m_125) rfl (by exact ⟨Nat.le_of_ble_eq_true rfl, rfl⟩) rfl (fun w G1 => gm_R (fun a2 hw => ?_))
  subst hw
  refine g_callV (kk := 0) ((q_125 _).trans rfl) (gHn m_125) rfl (by exact ⟨Nat.le_of_ble_eq_true rfl, rfl⟩) rfl (fun w G3 => gm_I (fun v4 hw => ?_))
  subst hw
  exact g_iret ((q_125 _).trans rfl)
theorem c_125 {K : gK} {d : Nat} {l0 : Nat} {l1 : Int32} {G : gH} : gle (t_125_0 K d l0 l1 G) (gCa K (d + 1) 125 [.ref l0, .int l1] G) := by
  have h : gent (gMx 125) [.ref l0, .int l1] = [some (.ref l0), some (.int l1)] := by
    show gent (gT 125).2.2.2.1 _ = _
    rw [m_125]; rfl
  exact fun r e => (congrArg (fun q => gRn K d 125 0 q [] G) h).trans (e_125_0 r e)
theorem q_126 {K : gK} (pc : Nat) : gP K 126 pc = ((gL_126 K).lookup pc).getD o_none := rfl
noncomputable def t_126_0_1 (K : gK) (d : Nat) (v2 : Int32) (G1 : gH) : Option gO := some (.inl (some (.int v2)), G1)
noncomputable def t_126_0 (K : gK) (d : Nat) (l0 : Nat) (l1 : Int32) (G : gH) : Option gO := if g_cls G l0 = some 0 then (cI (gCa K d 185 [.ref l0, .int l1, .int (1 : Int32)] G) (t_126_0_1 K d)) else none
theorem e_126_0 {K : gK} {d : Nat} {l0 : Nat} {l1 : Int32} {G : gH} : gle (t_126_0 K d l0 l1 G) (gRn K d 126 0 [some (.ref l0), some (.int l1)] [] G) := by
  unfold t_126_0
  refine g_aload ((q_126 _).trans rfl) rfl ?_
  refine g_iload ((q_126 _).trans rfl) rfl ?_
  refine g_push ((q_126 _).trans rfl) ?_
  refine g_callV (kk := 2) ((q_126 _).trans rfl) (gHn m_126) rfl (by exact ⟨Nat.le_of_ble_eq_true rfl, rfl⟩) rfl (fun w G1 => gm_I (fun v2 hw => ?_))
  subst hw
  exact g_iret ((q_126 _).trans rfl)
theorem c_126 {K : gK} {d : Nat} {l0 : Nat} {l1 : Int32} {G : gH} : gle (t_126_0 K d l0 l1 G) (gCa K (d + 1) 126 [.ref l0, .int l1] G) := by
  have h : gent (gMx 126) [.ref l0, .int l1] = [some (.ref l0), some (.int l1)] := by
    show gent (gT 126).2.2.2.1 _ = _
    rw [m_126]; rfl
  exact fun r e => (congrArg (fun q => gRn K d 126 0 q [] G) h).trans (e_126_0 r e)
theorem q_127 {K : gK} (pc : Nat) : gP K 127 pc = ((gL_127 K).lookup pc).getD o_none := rfl
noncomputable def t_127_0_1 (K : gK) (d : Nat) (l0 : Nat) (l1 : Int32) (G1 : gH) : Option gO := gRn K d 127 9 [some (.ref l0), some (.int l1), some (.int (1 : Int32)), some (.int (0 : Int32)), none, none, none, none] [] G1
noncomputable def t_127_0 (K : gK) (d : Nat) (l0 : Nat) (l1 : Int32) (G : gH) : Option gO := if narrow .int (.int (0 : Int32)) = .int (0 : Int32) ∧ fits .int (.int (0 : Int32)) = true then wF G l0 3 41 (.int (0 : Int32)) (t_127_0_1 K d l0 l1) else none
theorem e_127_0 {K : gK} {d : Nat} {l0 : Nat} {l1 : Int32} {G : gH} : gle (t_127_0 K d l0 l1 G) (gRn K d 127 0 [some (.ref l0), some (.int l1), none, none, none, none, none, none] [] G) := by
  unfold t_127_0
  refine g_aload ((q_127 _).trans rfl) rfl ?_
  refine g_push ((q_127 _).trans rfl) ?_
  refine g_putf ((q_127 _).trans rfl) (fun G1 => ?_)
  refine g_push ((q_127 _).trans rfl) ?_
  refine g_istore ((q_127 _).trans rfl) ?_
  refine g_push ((q_127 _).trans rfl) ?_
  refine g_istore ((q_127 _).trans rfl) ?_
  exact gle.rf _
theorem c_127 {K : gK} {d : Nat} {l0 : Nat} {l1 : Int32} {G : gH} : gle (t_127_0 K d l0 l1 G) (gCa K (d + 1) 127 [.ref l0, .int l1] G) := by
  have h : gent (gMx 127) [.ref l0, .int l1] = [some (.ref l0), some (.int l1), none, none, none, none, none, none] := by
    show gent (gT 127).2.2.2.1 _ = _
    rw [m_127]; rfl
  exact fun r e => (congrArg (fun q => gRn K d 127 0 q [] G) h).trans (e_127_0 r e)
noncomputable def t_127_9_1 (K : gK) (d : Nat) (G : gH) (v2 : Int32) : Option gO := if v2 ≤ 0 then (if narrow .boolean (.int (0 : Int32)) = .int (0 : Int32) then some (.inl (some (.int (0 : Int32))), G) else none) else (if narrow .boolean (.int (1 : Int32)) = .int (1 : Int32) then some (.inl (some (.int (1 : Int32))), G) else none)
noncomputable def t_127_9_2 (K : gK) (d : Nat) (l0 : Nat) (l1 : Int32) (l2 : Int32) (l3 : Int32) (v4 : Int32) (G : gH) (v8 : Int32) : Option gO := if v8 = 0 then (gRn K d 127 86 [some (.ref l0), some (.int l1), some (.int l2), some (.int l3), some (.int v4), some (.int v4), some (.int v4), some (.int (0 : Int32))] [] G) else (gRn K d 127 86 [some (.ref l0), some (.int l1), some (.int l2), some (.int l3), some (.int v4), some (.int v4), some (.int (0 : Int32)), some (.int (0 : Int32))] [] G)
noncomputable def t_127_9_3 (K : gK) (d : Nat) (l0 : Nat) (l1 : Int32) (l2 : Int32) (l3 : Int32) (v4 : Int32) (G : gH) (v7 : Int32) : Option gO := if v7 = 0 then (gRn K d 127 86 [some (.ref l0), some (.int l1), some (.int l2), some (.int l3), some (.int v4), some (.int v4), some (.int (0 : Int32)), some (.int (0 : Int32))] [] G) else (rI G l0 3 3 (t_127_9_2 K d l0 l1 l2 l3 v4 G))
noncomputable def t_127_9_4 (K : gK) (d : Nat) (G : gH) (l3 : Int32) (l0 : Nat) (l1 : Int32) (l2 : Int32) (v4 : Int32) (a6 : Nat) : Option gO := xI G a6 1 l3 (t_127_9_3 K d l0 l1 l2 l3 v4 G)
noncomputable def t_127_9_5 (K : gK) (d : Nat) (l0 : Nat) (l1 : Int32) (l2 : Int32) (l3 : Int32) (v4 : Int32) (G : gH) (v13 : Int32) : Option gO := if v13 = 0 then (gRn K d 127 86 [some (.ref l0), some (.int l1), some (.int l2), some (.int l3), some (.int v4), some (.int ((v4 + (1 : Int32)) / (2 : Int32))), some (.int v4), some (.int (0 : Int32))] [] G) else (gRn K d 127 86 [some (.ref l0), some (.int l1), some (.int l2), some (.int l3), some (.int v4), some (.int ((v4 + (1 : Int32)) / (2 : Int32))), some (.int (0 : Int32)), some (.int (0 : Int32))] [] G)
noncomputable def t_127_9_6 (K : gK) (d : Nat) (l0 : Nat) (l1 : Int32) (l2 : Int32) (l3 : Int32) (v4 : Int32) (G : gH) (v12 : Int32) : Option gO := if v12 = 0 then (gRn K d 127 86 [some (.ref l0), some (.int l1), some (.int l2), some (.int l3), some (.int v4), some (.int ((v4 + (1 : Int32)) / (2 : Int32))), some (.int (0 : Int32)), some (.int (0 : Int32))] [] G) else (rI G l0 3 3 (t_127_9_5 K d l0 l1 l2 l3 v4 G))
noncomputable def t_127_9_7 (K : gK) (d : Nat) (G : gH) (l3 : Int32) (l0 : Nat) (l1 : Int32) (l2 : Int32) (v4 : Int32) (a11 : Nat) : Option gO := xI G a11 1 l3 (t_127_9_6 K d l0 l1 l2 l3 v4 G)
noncomputable def t_127_9_8 (K : gK) (d : Nat) (l0 : Nat) (l1 : Int32) (l2 : Int32) (l3 : Int32) (v4 : Int32) (G : gH) (v16 : Int32) : Option gO := if v16 = 0 then (gRn K d 127 86 [some (.ref l0), some (.int l1), some (.int l2), some (.int l3), some (.int v4), some (.int v4), some (.int v4), some (.int (0 : Int32))] [] G) else (gRn K d 127 86 [some (.ref l0), some (.int l1), some (.int l2), some (.int l3), some (.int v4), some (.int v4), some (.int (0 : Int32)), some (.int (0 : Int32))] [] G)
noncomputable def t_127_9_9 (K : gK) (d : Nat) (l0 : Nat) (l1 : Int32) (l2 : Int32) (l3 : Int32) (v4 : Int32) (G : gH) (v15 : Int32) : Option gO := if v15 = 0 then (gRn K d 127 86 [some (.ref l0), some (.int l1), some (.int l2), some (.int l3), some (.int v4), some (.int v4), some (.int (0 : Int32)), some (.int (0 : Int32))] [] G) else (rI G l0 3 3 (t_127_9_8 K d l0 l1 l2 l3 v4 G))
noncomputable def t_127_9_10 (K : gK) (d : Nat) (G : gH) (l3 : Int32) (l0 : Nat) (l1 : Int32) (l2 : Int32) (v4 : Int32) (a14 : Nat) : Option gO := xI G a14 1 l3 (t_127_9_9 K d l0 l1 l2 l3 v4 G)
noncomputable def t_127_9_11 (K : gK) (d : Nat) (G : gH) (l0 : Nat) (l3 : Int32) (l1 : Int32) (l2 : Int32) (v4 : Int32) (v10 : Int32) : Option gO := if v10 = 0 then (if (2 : Int32) = 0 then none else (rR G l0 3 9 (t_127_9_7 K d G l3 l0 l1 l2 v4))) else (rR G l0 3 9 (t_127_9_10 K d G l3 l0 l1 l2 v4))
noncomputable def t_127_9_12 (K : gK) (d : Nat) (G : gH) (l3 : Int32) (l0 : Nat) (l1 : Int32) (l2 : Int32) (v4 : Int32) (a9 : Nat) : Option gO := xI G a9 1 l3 (t_127_9_11 K d G l0 l3 l1 l2 v4)
noncomputable def t_127_9_13 (K : gK) (d : Nat) (G : gH) (l0 : Nat) (l3 : Int32) (l1 : Int32) (l2 : Int32) (v4 : Int32) (v5 : Int32) : Option gO := if v5 = 0 then (rR G l0 3 9 (t_127_9_4 K d G l3 l0 l1 l2 v4)) else (rR G l0 3 9 (t_127_9_12 K d G l3 l0 l1 l2 v4))
noncomputable def t_127_9_14 (K : gK) (d : Nat) (G : gH) (l0 : Nat) (l3 : Int32) (l1 : Int32) (l2 : Int32) (v4 : Int32) : Option gO := rI G l0 3 3 (t_127_9_13 K d G l0 l3 l1 l2 v4)
noncomputable def t_127_9_15 (K : gK) (d : Nat) (G : gH) (l1 : Int32) (l3 : Int32) (l0 : Nat) (l2 : Int32) (a3 : Nat) : Option gO := xI G a3 0 (((8 : Int32) * l1) + l3) (t_127_9_14 K d G l0 l3 l1 l2)
noncomputable def t_127_9_16 (K : gK) (d : Nat) (l3 : Int32) (l2 : Int32) (G : gH) (l0 : Nat) (l1 : Int32) (v1 : Int32) : Option gO := if v1 ≤ l3 then (if l2 = 0 then (if narrow .boolean (.int (0 : Int32)) = .int (0 : Int32) then some (.inl (some (.int (0 : Int32))), G) else none) else (rI G l0 3 41 (t_127_9_1 K d G))) else (rR G l0 3 29 (t_127_9_15 K d G l1 l3 l0 l2))
noncomputable def t_127_9 (K : gK) (d : Nat) (l0 : Nat) (l1 : Int32) (l2 : Int32) (l3 : Int32) (o4 : Option Value) (o5 : Option Value) (o6 : Option Value) (o7 : Option Value) (G : gH) : Option gO := rI G l0 3 7 (t_127_9_16 K d l3 l2 G l0 l1)
theorem e_127_9 {K : gK} {d : Nat} {l0 : Nat} {l1 : Int32} {l2 : Int32} {l3 : Int32} {o4 : Option Value} {o5 : Option Value} {o6 : Option Value} {o7 : Option Value} {G : gH} : gle (t_127_9 K d l0 l1 l2 l3 o4 o5 o6 o7 G) (gRn K d 127 9 [some (.ref l0), some (.int l1), some (.int l2), some (.int l3), o4, o5, o6, o7] [] G) := by
  unfold t_127_9
  refine g_iload ((q_127 _).trans rfl) rfl ?_
  refine g_aload ((q_127 _).trans rfl) rfl ?_
  refine g_getI ((q_127 _).trans rfl) (fun v1 => ?_)
  refine g_cmpge ((q_127 _).trans rfl) (fun _ => ?_) (fun _ => ?_)
  · refine g_iload ((q_127 _).trans rfl) rfl ?_
    refine g_ifeq ((q_127 _).trans rfl) (fun _ => ?_) (fun _ => ?_)
    · refine g_push ((q_127 _).trans rfl) ?_
      exact g_zret ((q_127 _).trans rfl)
    · refine g_aload ((q_127 _).trans rfl) rfl ?_
      refine g_getI ((q_127 _).trans rfl) (fun v2 => ?_)
      refine g_ifle ((q_127 _).trans rfl) (fun _ => ?_) (fun _ => ?_)
      · refine g_push ((q_127 _).trans rfl) ?_
        exact g_zret ((q_127 _).trans rfl)
      · refine g_push ((q_127 _).trans rfl) ?_
        refine g_goto ((q_127 _).trans rfl) ?_
        exact g_zret ((q_127 _).trans rfl)
  · refine g_aload ((q_127 _).trans rfl) rfl ?_
    refine g_getR ((q_127 _).trans rfl) (fun a3 => ?_)
    refine g_push ((q_127 _).trans rfl) ?_
    refine g_iload ((q_127 _).trans rfl) rfl ?_
    refine g_imul ((q_127 _).trans rfl) ?_
    refine g_iload ((q_127 _).trans rfl) rfl ?_
    refine g_iadd ((q_127 _).trans rfl) ?_
    refine g_iald ((q_127 _).trans rfl) (fun v4 => ?_)
    refine g_istore ((q_127 _).trans rfl) ?_
    refine g_aload ((q_127 _).trans rfl) rfl ?_
    refine g_getI ((q_127 _).trans rfl) (fun v5 => ?_)
    refine g_ifeq ((q_127 _).trans rfl) (fun _ => ?_) (fun _ => ?_)
    · refine g_iload ((q_127 _).trans rfl) rfl ?_
      refine g_istore ((q_127 _).trans rfl) ?_
      refine g_aload ((q_127 _).trans rfl) rfl ?_
      refine g_getR ((q_127 _).trans rfl) (fun a6 => ?_)
      refine g_iload ((q_127 _).trans rfl) rfl ?_
      refine g_iald ((q_127 _).trans rfl) (fun v7 => ?_)
      refine g_ifeq ((q_127 _).trans rfl) (fun _ => ?_) (fun _ => ?_)
      · refine g_push ((q_127 _).trans rfl) ?_
        refine g_istore ((q_127 _).trans rfl) ?_
        refine g_push ((q_127 _).trans rfl) ?_
        refine g_istore ((q_127 _).trans rfl) ?_
        exact gle.rf _
      · refine g_aload ((q_127 _).trans rfl) rfl ?_
        refine g_getI ((q_127 _).trans rfl) (fun v8 => ?_)
        refine g_ifne ((q_127 _).trans rfl) (fun _ => ?_) (fun _ => ?_)
        · refine g_iload ((q_127 _).trans rfl) rfl ?_
          refine g_goto ((q_127 _).trans rfl) ?_
          refine g_istore ((q_127 _).trans rfl) ?_
          refine g_push ((q_127 _).trans rfl) ?_
          refine g_istore ((q_127 _).trans rfl) ?_
          exact gle.rf _
        · refine g_push ((q_127 _).trans rfl) ?_
          refine g_istore ((q_127 _).trans rfl) ?_
          refine g_push ((q_127 _).trans rfl) ?_
          refine g_istore ((q_127 _).trans rfl) ?_
          exact gle.rf _
    · refine g_aload ((q_127 _).trans rfl) rfl ?_
      refine g_getR ((q_127 _).trans rfl) (fun a9 => ?_)
      refine g_iload ((q_127 _).trans rfl) rfl ?_
      refine g_iald ((q_127 _).trans rfl) (fun v10 => ?_)
      refine g_ifne ((q_127 _).trans rfl) (fun _ => ?_) (fun _ => ?_)
      · refine g_iload ((q_127 _).trans rfl) rfl ?_
        refine g_push ((q_127 _).trans rfl) ?_
        refine g_iadd ((q_127 _).trans rfl) ?_
        refine g_push ((q_127 _).trans rfl) ?_
        refine g_idiv ((q_127 _).trans rfl) (fun _ => ?_)
        refine g_goto ((q_127 _).trans rfl) ?_
        refine g_istore ((q_127 _).trans rfl) ?_
        refine g_aload ((q_127 _).trans rfl) rfl ?_
        refine g_getR ((q_127 _).trans rfl) (fun a11 => ?_)
        refine g_iload ((q_127 _).trans rfl) rfl ?_
        refine g_iald ((q_127 _).trans rfl) (fun v12 => ?_)
        refine g_ifeq ((q_127 _).trans rfl) (fun _ => ?_) (fun _ => ?_)
        · refine g_push ((q_127 _).trans rfl) ?_
          refine g_istore ((q_127 _).trans rfl) ?_
          refine g_push ((q_127 _).trans rfl) ?_
          refine g_istore ((q_127 _).trans rfl) ?_
          exact gle.rf _
        · refine g_aload ((q_127 _).trans rfl) rfl ?_
          refine g_getI ((q_127 _).trans rfl) (fun v13 => ?_)
          refine g_ifne ((q_127 _).trans rfl) (fun _ => ?_) (fun _ => ?_)
          · refine g_iload ((q_127 _).trans rfl) rfl ?_
            refine g_goto ((q_127 _).trans rfl) ?_
            refine g_istore ((q_127 _).trans rfl) ?_
            refine g_push ((q_127 _).trans rfl) ?_
            refine g_istore ((q_127 _).trans rfl) ?_
            exact gle.rf _
          · refine g_push ((q_127 _).trans rfl) ?_
            refine g_istore ((q_127 _).trans rfl) ?_
            refine g_push ((q_127 _).trans rfl) ?_
            refine g_istore ((q_127 _).trans rfl) ?_
            exact gle.rf _
      · refine g_iload ((q_127 _).trans rfl) rfl ?_
        refine g_istore ((q_127 _).trans rfl) ?_
        refine g_aload ((q_127 _).trans rfl) rfl ?_
        refine g_getR ((q_127 _).trans rfl) (fun a14 => ?_)
        refine g_iload ((q_127 _).trans rfl) rfl ?_
        refine g_iald ((q_127 _).trans rfl) (fun v15 => ?_)
        refine g_ifeq ((q_127 _).trans rfl) (fun _ => ?_) (fun _ => ?_)
        · refine g_push ((q_127 _).trans rfl) ?_
          refine g_istore ((q_127 _).trans rfl) ?_
          refine g_push ((q_127 _).trans rfl) ?_
          refine g_istore ((q_127 _).trans rfl) ?_
          exact gle.rf _
        · refine g_aload ((q_127 _).trans rfl) rfl ?_
          refine g_getI ((q_127 _).trans rfl) (fun v16 => ?_)
          refine g_ifne ((q_127 _).trans rfl) (fun _ => ?_) (fun _ => ?_)
          · refine g_iload ((q_127 _).trans rfl) rfl ?_
            refine g_goto ((q_127 _).trans rfl) ?_
            refine g_istore ((q_127 _).trans rfl) ?_
            refine g_push ((q_127 _).trans rfl) ?_
            refine g_istore ((q_127 _).trans rfl) ?_
            exact gle.rf _
          · refine g_push ((q_127 _).trans rfl) ?_
            refine g_istore ((q_127 _).trans rfl) ?_
            refine g_push ((q_127 _).trans rfl) ?_
            refine g_istore ((q_127 _).trans rfl) ?_
            exact gle.rf _
noncomputable def t_127_86_1 (K : gK) (d : Nat) (l0 : Nat) (l1 : Int32) (l3 : Int32) (l4 : Int32) (l5 : Int32) (l6 : Int32) (l7 : Int32) (G5 : gH) : Option gO := gRn K d 127 86 [some (.ref l0), some (.int l1), some (.int (0 : Int32)), some (.int l3), some (.int l4), some (.int l5), some (.int l6), some (.int (l7 + 1))] [] G5
noncomputable def t_127_86_2 (K : gK) (d : Nat) (G3 : gH) (l0 : Nat) (l1 : Int32) (l3 : Int32) (l4 : Int32) (l5 : Int32) (l6 : Int32) (l7 : Int32) (v4 : Int32) : Option gO := if narrow .int (.int (v4 + (1 : Int32))) = .int (v4 + (1 : Int32)) ∧ fits .int (.int (v4 + (1 : Int32))) = true then wF G3 l0 3 41 (.int (v4 + (1 : Int32))) (t_127_86_1 K d l0 l1 l3 l4 l5 l6 l7) else none
noncomputable def t_127_86_3 (K : gK) (d : Nat) (l0 : Nat) (l1 : Int32) (l3 : Int32) (l4 : Int32) (l5 : Int32) (l6 : Int32) (l7 : Int32) (G3 : gH) : Option gO := rI G3 l0 3 41 (t_127_86_2 K d G3 l0 l1 l3 l4 l5 l6 l7)
noncomputable def t_127_86_4 (K : gK) (d : Nat) (l0 : Nat) (l1 : Int32) (l3 : Int32) (l4 : Int32) (l5 : Int32) (l6 : Int32) (l7 : Int32) (G8 : gH) : Option gO := gRn K d 127 86 [some (.ref l0), some (.int l1), some (.int (0 : Int32)), some (.int l3), some (.int l4), some (.int l5), some (.int l6), some (.int (l7 + 1))] [] G8
noncomputable def t_127_86_5 (K : gK) (d : Nat) (G6 : gH) (l0 : Nat) (l1 : Int32) (l3 : Int32) (l4 : Int32) (l5 : Int32) (l6 : Int32) (l7 : Int32) (v7 : Int32) : Option gO := if narrow .int (.int (v7 + (1 : Int32))) = .int (v7 + (1 : Int32)) ∧ fits .int (.int (v7 + (1 : Int32))) = true then wF G6 l0 3 41 (.int (v7 + (1 : Int32))) (t_127_86_4 K d l0 l1 l3 l4 l5 l6 l7) else none
noncomputable def t_127_86_6 (K : gK) (d : Nat) (l0 : Nat) (l1 : Int32) (l3 : Int32) (l4 : Int32) (l5 : Int32) (l6 : Int32) (l7 : Int32) (G6 : gH) : Option gO := rI G6 l0 3 41 (t_127_86_5 K d G6 l0 l1 l3 l4 l5 l6 l7)
noncomputable def t_127_86_7 (K : gK) (d : Nat) (l5 : Int32) (l7 : Int32) (G : gH) (a1 : Nat) (l3 : Int32) (l0 : Nat) (l1 : Int32) (l4 : Int32) (l6 : Int32) (v2 : Int32) : Option gO := if l5 ≤ l7 then (yI G a1 0 v2 (l3 + (8 : Int32)) (t_127_86_3 K d l0 l1 l3 l4 l5 l6 l7)) else (yI G a1 0 v2 l3 (t_127_86_6 K d l0 l1 l3 l4 l5 l6 l7))
noncomputable def t_127_86_8 (K : gK) (d : Nat) (G : gH) (l0 : Nat) (l5 : Int32) (l7 : Int32) (l3 : Int32) (l1 : Int32) (l4 : Int32) (l6 : Int32) (a1 : Nat) : Option gO := rI G l0 3 41 (t_127_86_7 K d l5 l7 G a1 l3 l0 l1 l4 l6)
noncomputable def t_127_86_9 (K : gK) (d : Nat) (l0 : Nat) (l1 : Int32) (l3 : Int32) (l4 : Int32) (l5 : Int32) (l6 : Int32) (l7 : Int32) (G14 : gH) : Option gO := gRn K d 127 86 [some (.ref l0), some (.int l1), some (.int (0 : Int32)), some (.int l3), some (.int l4), some (.int l5), some (.int l6), some (.int (l7 + 1))] [] G14
noncomputable def t_127_86_10 (K : gK) (d : Nat) (G12 : gH) (l0 : Nat) (l1 : Int32) (l3 : Int32) (l4 : Int32) (l5 : Int32) (l6 : Int32) (l7 : Int32) (v13 : Int32) : Option gO := if narrow .int (.int (v13 + (1 : Int32))) = .int (v13 + (1 : Int32)) ∧ fits .int (.int (v13 + (1 : Int32))) = true then wF G12 l0 3 41 (.int (v13 + (1 : Int32))) (t_127_86_9 K d l0 l1 l3 l4 l5 l6 l7) else none
noncomputable def t_127_86_11 (K : gK) (d : Nat) (l0 : Nat) (l1 : Int32) (l3 : Int32) (l4 : Int32) (l5 : Int32) (l6 : Int32) (l7 : Int32) (G12 : gH) : Option gO := rI G12 l0 3 41 (t_127_86_10 K d G12 l0 l1 l3 l4 l5 l6 l7)
noncomputable def t_127_86_12 (K : gK) (d : Nat) (l0 : Nat) (l1 : Int32) (l3 : Int32) (l4 : Int32) (l5 : Int32) (l6 : Int32) (l7 : Int32) (G17 : gH) : Option gO := gRn K d 127 86 [some (.ref l0), some (.int l1), some (.int (0 : Int32)), some (.int l3), some (.int l4), some (.int l5), some (.int l6), some (.int (l7 + 1))] [] G17
noncomputable def t_127_86_13 (K : gK) (d : Nat) (G15 : gH) (l0 : Nat) (l1 : Int32) (l3 : Int32) (l4 : Int32) (l5 : Int32) (l6 : Int32) (l7 : Int32) (v16 : Int32) : Option gO := if narrow .int (.int (v16 + (1 : Int32))) = .int (v16 + (1 : Int32)) ∧ fits .int (.int (v16 + (1 : Int32))) = true then wF G15 l0 3 41 (.int (v16 + (1 : Int32))) (t_127_86_12 K d l0 l1 l3 l4 l5 l6 l7) else none
noncomputable def t_127_86_14 (K : gK) (d : Nat) (l0 : Nat) (l1 : Int32) (l3 : Int32) (l4 : Int32) (l5 : Int32) (l6 : Int32) (l7 : Int32) (G15 : gH) : Option gO := rI G15 l0 3 41 (t_127_86_13 K d G15 l0 l1 l3 l4 l5 l6 l7)
noncomputable def t_127_86_15 (K : gK) (d : Nat) (l5 : Int32) (l7 : Int32) (G : gH) (a10 : Nat) (l3 : Int32) (l0 : Nat) (l1 : Int32) (l4 : Int32) (l6 : Int32) (v11 : Int32) : Option gO := if l5 ≤ l7 then (yI G a10 0 v11 (l3 + (8 : Int32)) (t_127_86_11 K d l0 l1 l3 l4 l5 l6 l7)) else (yI G a10 0 v11 l3 (t_127_86_14 K d l0 l1 l3 l4 l5 l6 l7))
noncomputable def t_127_86_16 (K : gK) (d : Nat) (G : gH) (l0 : Nat) (l5 : Int32) (l7 : Int32) (l3 : Int32) (l1 : Int32) (l4 : Int32) (l6 : Int32) (a10 : Nat) : Option gO := rI G l0 3 41 (t_127_86_15 K d l5 l7 G a10 l3 l0 l1 l4 l6)
noncomputable def t_127_86_17 (K : gK) (d : Nat) (l0 : Nat) (l1 : Int32) (l3 : Int32) (l4 : Int32) (l5 : Int32) (l6 : Int32) (l7 : Int32) (G22 : gH) : Option gO := gRn K d 127 86 [some (.ref l0), some (.int l1), some (.int (1 : Int32)), some (.int l3), some (.int l4), some (.int l5), some (.int l6), some (.int (l7 + 1))] [] G22
noncomputable def t_127_86_18 (K : gK) (d : Nat) (G20 : gH) (l0 : Nat) (l1 : Int32) (l3 : Int32) (l4 : Int32) (l5 : Int32) (l6 : Int32) (l7 : Int32) (v21 : Int32) : Option gO := if narrow .int (.int (v21 + (1 : Int32))) = .int (v21 + (1 : Int32)) ∧ fits .int (.int (v21 + (1 : Int32))) = true then wF G20 l0 3 41 (.int (v21 + (1 : Int32))) (t_127_86_17 K d l0 l1 l3 l4 l5 l6 l7) else none
noncomputable def t_127_86_19 (K : gK) (d : Nat) (l0 : Nat) (l1 : Int32) (l3 : Int32) (l4 : Int32) (l5 : Int32) (l6 : Int32) (l7 : Int32) (G20 : gH) : Option gO := rI G20 l0 3 41 (t_127_86_18 K d G20 l0 l1 l3 l4 l5 l6 l7)
noncomputable def t_127_86_20 (K : gK) (d : Nat) (l0 : Nat) (l1 : Int32) (l3 : Int32) (l4 : Int32) (l5 : Int32) (l6 : Int32) (l7 : Int32) (G25 : gH) : Option gO := gRn K d 127 86 [some (.ref l0), some (.int l1), some (.int (1 : Int32)), some (.int l3), some (.int l4), some (.int l5), some (.int l6), some (.int (l7 + 1))] [] G25
noncomputable def t_127_86_21 (K : gK) (d : Nat) (G23 : gH) (l0 : Nat) (l1 : Int32) (l3 : Int32) (l4 : Int32) (l5 : Int32) (l6 : Int32) (l7 : Int32) (v24 : Int32) : Option gO := if narrow .int (.int (v24 + (1 : Int32))) = .int (v24 + (1 : Int32)) ∧ fits .int (.int (v24 + (1 : Int32))) = true then wF G23 l0 3 41 (.int (v24 + (1 : Int32))) (t_127_86_20 K d l0 l1 l3 l4 l5 l6 l7) else none
noncomputable def t_127_86_22 (K : gK) (d : Nat) (l0 : Nat) (l1 : Int32) (l3 : Int32) (l4 : Int32) (l5 : Int32) (l6 : Int32) (l7 : Int32) (G23 : gH) : Option gO := rI G23 l0 3 41 (t_127_86_21 K d G23 l0 l1 l3 l4 l5 l6 l7)
noncomputable def t_127_86_23 (K : gK) (d : Nat) (l5 : Int32) (l7 : Int32) (G : gH) (a18 : Nat) (l3 : Int32) (l0 : Nat) (l1 : Int32) (l4 : Int32) (l6 : Int32) (v19 : Int32) : Option gO := if l5 ≤ l7 then (yI G a18 0 v19 (l3 + (8 : Int32)) (t_127_86_19 K d l0 l1 l3 l4 l5 l6 l7)) else (yI G a18 0 v19 l3 (t_127_86_22 K d l0 l1 l3 l4 l5 l6 l7))
noncomputable def t_127_86_24 (K : gK) (d : Nat) (G : gH) (l0 : Nat) (l5 : Int32) (l7 : Int32) (l3 : Int32) (l1 : Int32) (l4 : Int32) (l6 : Int32) (a18 : Nat) : Option gO := rI G l0 3 41 (t_127_86_23 K d l5 l7 G a18 l3 l0 l1 l4 l6)
noncomputable def t_127_86_25 (K : gK) (d : Nat) (l0 : Nat) (l1 : Int32) (l3 : Int32) (l4 : Int32) (l5 : Int32) (l6 : Int32) (l7 : Int32) (G : gH) (v9 : Int32) : Option gO := if (4 : Int32) ≤ v9 then (if (0 : Int32) = 0 then (gRn K d 127 86 [some (.ref l0), some (.int l1), some (.int (0 : Int32)), some (.int l3), some (.int l4), some (.int l5), some (.int l6), some (.int (l7 + 1))] [] G) else (rR G l0 3 40 (t_127_86_16 K d G l0 l5 l7 l3 l1 l4 l6))) else (if (1 : Int32) = 0 then (gRn K d 127 86 [some (.ref l0), some (.int l1), some (.int (1 : Int32)), some (.int l3), some (.int l4), some (.int l5), some (.int l6), some (.int (l7 + 1))] [] G) else (rR G l0 3 40 (t_127_86_24 K d G l0 l5 l7 l3 l1 l4 l6)))
noncomputable def t_127_86 (K : gK) (d : Nat) (l0 : Nat) (l1 : Int32) (l2 : Int32) (l3 : Int32) (l4 : Int32) (l5 : Int32) (l6 : Int32) (l7 : Int32) (G : gH) : Option gO := if (l5 + l6) ≤ l7 then (gRn K d 127 9 [some (.ref l0), some (.int l1), some (.int l2), some (.int (l3 + 1)), some (.int l4), some (.int l5), some (.int l6), some (.int l7)] [] G) else (if l2 = 0 then (if (0 : Int32) = 0 then (gRn K d 127 86 [some (.ref l0), some (.int l1), some (.int (0 : Int32)), some (.int l3), some (.int l4), some (.int l5), some (.int l6), some (.int (l7 + 1))] [] G) else (rR G l0 3 40 (t_127_86_8 K d G l0 l5 l7 l3 l1 l4 l6))) else (rI G l0 3 41 (t_127_86_25 K d l0 l1 l3 l4 l5 l6 l7 G)))
theorem e_127_86 {K : gK} {d : Nat} {l0 : Nat} {l1 : Int32} {l2 : Int32} {l3 : Int32} {l4 : Int32} {l5 : Int32} {l6 : Int32} {l7 : Int32} {G : gH} : gle (t_127_86 K d l0 l1 l2 l3 l4 l5 l6 l7 G) (gRn K d 127 86 [some (.ref l0), some (.int l1), some (.int l2), some (.int l3), some (.int l4), some (.int l5), some (.int l6), some (.int l7)] [] G) := by
  unfold t_127_86
  refine g_iload ((q_127 _).trans rfl) rfl ?_
  refine g_iload ((q_127 _).trans rfl) rfl ?_
  refine g_iload ((q_127 _).trans rfl) rfl ?_
  refine g_iadd ((q_127 _).trans rfl) ?_
  refine g_cmpge ((q_127 _).trans rfl) (fun _ => ?_) (fun _ => ?_)
  · refine g_iinc ((q_127 _).trans rfl) rfl ?_
    refine g_goto ((q_127 _).trans rfl) ?_
    exact gle.rf _
  · refine g_iload ((q_127 _).trans rfl) rfl ?_
    refine g_ifeq ((q_127 _).trans rfl) (fun _ => ?_) (fun _ => ?_)
    · refine g_push ((q_127 _).trans rfl) ?_
      refine g_istore ((q_127 _).trans rfl) ?_
      refine g_iload ((q_127 _).trans rfl) rfl ?_
      refine g_ifeq ((q_127 _).trans rfl) (fun _ => ?_) (fun _ => ?_)
      · refine g_iinc ((q_127 _).trans rfl) rfl ?_
        refine g_goto ((q_127 _).trans rfl) ?_
        exact gle.rf _
      · refine g_aload ((q_127 _).trans rfl) rfl ?_
        refine g_getR ((q_127 _).trans rfl) (fun a1 => ?_)
        refine g_aload ((q_127 _).trans rfl) rfl ?_
        refine g_getI ((q_127 _).trans rfl) (fun v2 => ?_)
        refine g_iload ((q_127 _).trans rfl) rfl ?_
        refine g_iload ((q_127 _).trans rfl) rfl ?_
        refine g_cmpge ((q_127 _).trans rfl) (fun _ => ?_) (fun _ => ?_)
        · refine g_iload ((q_127 _).trans rfl) rfl ?_
          refine g_push ((q_127 _).trans rfl) ?_
          refine g_iadd ((q_127 _).trans rfl) ?_
          refine g_iast ((q_127 _).trans rfl) (fun G3 => ?_)
          refine g_aload ((q_127 _).trans rfl) rfl ?_
          refine g_dup_ref ((q_127 _).trans rfl) ?_
          refine g_getI ((q_127 _).trans rfl) (fun v4 => ?_)
          refine g_push ((q_127 _).trans rfl) ?_
          refine g_iadd ((q_127 _).trans rfl) ?_
          refine g_putf ((q_127 _).trans rfl) (fun G5 => ?_)
          refine g_iinc ((q_127 _).trans rfl) rfl ?_
          refine g_goto ((q_127 _).trans rfl) ?_
          exact gle.rf _
        · refine g_iload ((q_127 _).trans rfl) rfl ?_
          refine g_goto ((q_127 _).trans rfl) ?_
          refine g_iast ((q_127 _).trans rfl) (fun G6 => ?_)
          refine g_aload ((q_127 _).trans rfl) rfl ?_
          refine g_dup_ref ((q_127 _).trans rfl) ?_
          refine g_getI ((q_127 _).trans rfl) (fun v7 => ?_)
          refine g_push ((q_127 _).trans rfl) ?_
          refine g_iadd ((q_127 _).trans rfl) ?_
          refine g_putf ((q_127 _).trans rfl) (fun G8 => ?_)
          refine g_iinc ((q_127 _).trans rfl) rfl ?_
          refine g_goto ((q_127 _).trans rfl) ?_
          exact gle.rf _
    · refine g_aload ((q_127 _).trans rfl) rfl ?_
      refine g_getI ((q_127 _).trans rfl) (fun v9 => ?_)
      refine g_push ((q_127 _).trans rfl) ?_
      refine g_cmpge ((q_127 _).trans rfl) (fun _ => ?_) (fun _ => ?_)
      · refine g_push ((q_127 _).trans rfl) ?_
        refine g_istore ((q_127 _).trans rfl) ?_
        refine g_iload ((q_127 _).trans rfl) rfl ?_
        refine g_ifeq ((q_127 _).trans rfl) (fun _ => ?_) (fun _ => ?_)
        · refine g_iinc ((q_127 _).trans rfl) rfl ?_
          refine g_goto ((q_127 _).trans rfl) ?_
          exact gle.rf _
        · refine g_aload ((q_127 _).trans rfl) rfl ?_
          refine g_getR ((q_127 _).trans rfl) (fun a10 => ?_)
          refine g_aload ((q_127 _).trans rfl) rfl ?_
          refine g_getI ((q_127 _).trans rfl) (fun v11 => ?_)
          refine g_iload ((q_127 _).trans rfl) rfl ?_
          refine g_iload ((q_127 _).trans rfl) rfl ?_
          refine g_cmpge ((q_127 _).trans rfl) (fun _ => ?_) (fun _ => ?_)
          · refine g_iload ((q_127 _).trans rfl) rfl ?_
            refine g_push ((q_127 _).trans rfl) ?_
            refine g_iadd ((q_127 _).trans rfl) ?_
            refine g_iast ((q_127 _).trans rfl) (fun G12 => ?_)
            refine g_aload ((q_127 _).trans rfl) rfl ?_
            refine g_dup_ref ((q_127 _).trans rfl) ?_
            refine g_getI ((q_127 _).trans rfl) (fun v13 => ?_)
            refine g_push ((q_127 _).trans rfl) ?_
            refine g_iadd ((q_127 _).trans rfl) ?_
            refine g_putf ((q_127 _).trans rfl) (fun G14 => ?_)
            refine g_iinc ((q_127 _).trans rfl) rfl ?_
            refine g_goto ((q_127 _).trans rfl) ?_
            exact gle.rf _
          · refine g_iload ((q_127 _).trans rfl) rfl ?_
            refine g_goto ((q_127 _).trans rfl) ?_
            refine g_iast ((q_127 _).trans rfl) (fun G15 => ?_)
            refine g_aload ((q_127 _).trans rfl) rfl ?_
            refine g_dup_ref ((q_127 _).trans rfl) ?_
            refine g_getI ((q_127 _).trans rfl) (fun v16 => ?_)
            refine g_push ((q_127 _).trans rfl) ?_
            refine g_iadd ((q_127 _).trans rfl) ?_
            refine g_putf ((q_127 _).trans rfl) (fun G17 => ?_)
            refine g_iinc ((q_127 _).trans rfl) rfl ?_
            refine g_goto ((q_127 _).trans rfl) ?_
            exact gle.rf _
      · refine g_push ((q_127 _).trans rfl) ?_
        refine g_goto ((q_127 _).trans rfl) ?_
        refine g_istore ((q_127 _).trans rfl) ?_
        refine g_iload ((q_127 _).trans rfl) rfl ?_
        refine g_ifeq ((q_127 _).trans rfl) (fun _ => ?_) (fun _ => ?_)
        · refine g_iinc ((q_127 _).trans rfl) rfl ?_
          refine g_goto ((q_127 _).trans rfl) ?_
          exact gle.rf _
        · refine g_aload ((q_127 _).trans rfl) rfl ?_
          refine g_getR ((q_127 _).trans rfl) (fun a18 => ?_)
          refine g_aload ((q_127 _).trans rfl) rfl ?_
          refine g_getI ((q_127 _).trans rfl) (fun v19 => ?_)
          refine g_iload ((q_127 _).trans rfl) rfl ?_
          refine g_iload ((q_127 _).trans rfl) rfl ?_
          refine g_cmpge ((q_127 _).trans rfl) (fun _ => ?_) (fun _ => ?_)
          · refine g_iload ((q_127 _).trans rfl) rfl ?_
            refine g_push ((q_127 _).trans rfl) ?_
            refine g_iadd ((q_127 _).trans rfl) ?_
            refine g_iast ((q_127 _).trans rfl) (fun G20 => ?_)
            refine g_aload ((q_127 _).trans rfl) rfl ?_
            refine g_dup_ref ((q_127 _).trans rfl) ?_
            refine g_getI ((q_127 _).trans rfl) (fun v21 => ?_)
            refine g_push ((q_127 _).trans rfl) ?_
            refine g_iadd ((q_127 _).trans rfl) ?_
            refine g_putf ((q_127 _).trans rfl) (fun G22 => ?_)
            refine g_iinc ((q_127 _).trans rfl) rfl ?_
            refine g_goto ((q_127 _).trans rfl) ?_
            exact gle.rf _
          · refine g_iload ((q_127 _).trans rfl) rfl ?_
            refine g_goto ((q_127 _).trans rfl) ?_
            refine g_iast ((q_127 _).trans rfl) (fun G23 => ?_)
            refine g_aload ((q_127 _).trans rfl) rfl ?_
            refine g_dup_ref ((q_127 _).trans rfl) ?_
            refine g_getI ((q_127 _).trans rfl) (fun v24 => ?_)
            refine g_push ((q_127 _).trans rfl) ?_
            refine g_iadd ((q_127 _).trans rfl) ?_
            refine g_putf ((q_127 _).trans rfl) (fun G25 => ?_)
            refine g_iinc ((q_127 _).trans rfl) rfl ?_
            refine g_goto ((q_127 _).trans rfl) ?_
            exact gle.rf _
theorem q_128 {K : gK} (pc : Nat) : gP K 128 pc = ((gL_128 K).lookup pc).getD o_none := rfl
noncomputable def t_128_0_1 (K : gK) (d : Nat) (l0 : Nat) (v1 : Int32) (G : gH) (v2 : Int32) : Option gO := gRn K d 128 12 [some (.ref l0), some (.int v1), some (.int v2), some (.int (0 : Int32)), none] [] G
noncomputable def t_128_0_2 (K : gK) (d : Nat) (G : gH) (l0 : Nat) (v1 : Int32) : Option gO := rI G l0 3 18 (t_128_0_1 K d l0 v1 G)
noncomputable def t_128_0 (K : gK) (d : Nat) (l0 : Nat) (G : gH) : Option gO := rI G l0 3 17 (t_128_0_2 K d G l0)
theorem e_128_0 {K : gK} {d : Nat} {l0 : Nat} {G : gH} : gle (t_128_0 K d l0 G) (gRn K d 128 0 [some (.ref l0), none, none, none, none] [] G) := by
  unfold t_128_0
  refine g_aload ((q_128 _).trans rfl) rfl ?_
  refine g_getI ((q_128 _).trans rfl) (fun v1 => ?_)
  refine g_istore ((q_128 _).trans rfl) ?_
  refine g_aload ((q_128 _).trans rfl) rfl ?_
  refine g_getI ((q_128 _).trans rfl) (fun v2 => ?_)
  refine g_istore ((q_128 _).trans rfl) ?_
  refine g_push ((q_128 _).trans rfl) ?_
  refine g_istore ((q_128 _).trans rfl) ?_
  exact gle.rf _
theorem c_128 {K : gK} {d : Nat} {l0 : Nat} {G : gH} : gle (t_128_0 K d l0 G) (gCa K (d + 1) 128 [.ref l0] G) := by
  have h : gent (gMx 128) [.ref l0] = [some (.ref l0), none, none, none, none] := by
    show gent (gT 128).2.2.2.1 _ = _
    rw [m_128]; rfl
  exact fun r e => (congrArg (fun q => gRn K d 128 0 q [] G) h).trans (e_128_0 r e)
noncomputable def t_128_12_1 (K : gK) (d : Nat) (l0 : Nat) (l1 : Int32) (l2 : Int32) (o4 : Option Value) (G7 : gH) : Option gO := gRn K d 128 123 [some (.ref l0), some (.int l1), some (.int l2), some (.int (0 : Int32)), o4] [] G7
noncomputable def t_128_12_2 (K : gK) (d : Nat) (l0 : Nat) (l1 : Int32) (l2 : Int32) (o4 : Option Value) (G5 : gH) : Option gO := if g_cls G5 l0 = some 3 then (cV (gCa K d 87 [.ref l0] G5) (t_128_12_1 K d l0 l1 l2 o4)) else none
noncomputable def t_128_12_3 (K : gK) (d : Nat) (G3 : gH) (l0 : Nat) (l1 : Int32) (l2 : Int32) (o4 : Option Value) (v4 : Int32) : Option gO := if g_cls G3 l0 = some 3 then (cV (gCa K d 186 [.ref l0, .int (((1 : Int32) <<< (v4 &&& 31)) - (1 : Int32))] G3) (t_128_12_2 K d l0 l1 l2 o4)) else none
noncomputable def t_128_12_4 (K : gK) (d : Nat) (l0 : Nat) (l1 : Int32) (l2 : Int32) (o4 : Option Value) (G3 : gH) : Option gO := rI G3 l0 3 41 (t_128_12_3 K d G3 l0 l1 l2 o4)
noncomputable def t_128_12_5 (K : gK) (d : Nat) (l0 : Nat) (l1 : Int32) (l2 : Int32) (o4 : Option Value) (G1 : gH) : Option gO := if narrow .int (.int (61 : Int32)) = .int (61 : Int32) ∧ fits .int (.int (61 : Int32)) = true then wF G1 l0 3 48 (.int (61 : Int32)) (t_128_12_4 K d l0 l1 l2 o4) else none
noncomputable def t_128_12_6 (K : gK) (d : Nat) (l0 : Nat) (l1 : Int32) (l2 : Int32) (l3 : Int32) (o4 : Option Value) (G32 : gH) : Option gO := gRn K d 128 12 [some (.ref l0), some (.int l1), some (.int l2), some (.int (l3 + 1)), o4] [] G32
noncomputable def t_128_12_7 (K : gK) (d : Nat) (G28 : gH) (a29 : Nat) (l3 : Int32) (l0 : Nat) (l1 : Int32) (l2 : Int32) (o4 : Option Value) (v31 : Int32) : Option gO := yI G28 a29 1 l3 (vp_nar .boolean v31) (t_128_12_6 K d l0 l1 l2 l3 o4)
noncomputable def t_128_12_8 (K : gK) (d : Nat) (G28 : gH) (l3 : Int32) (a29 : Nat) (l0 : Nat) (l1 : Int32) (l2 : Int32) (o4 : Option Value) (a30 : Nat) : Option gO := xI G28 a30 1 l3 (t_128_12_7 K d G28 a29 l3 l0 l1 l2 o4)
noncomputable def t_128_12_9 (K : gK) (d : Nat) (G28 : gH) (l0 : Nat) (l3 : Int32) (l1 : Int32) (l2 : Int32) (o4 : Option Value) (a29 : Nat) : Option gO := rR G28 l0 3 24 (t_128_12_8 K d G28 l3 a29 l0 l1 l2 o4)
noncomputable def t_128_12_10 (K : gK) (d : Nat) (l0 : Nat) (l3 : Int32) (l1 : Int32) (l2 : Int32) (o4 : Option Value) (G28 : gH) : Option gO := rR G28 l0 3 47 (t_128_12_9 K d G28 l0 l3 l1 l2 o4)
noncomputable def t_128_12_11 (K : gK) (d : Nat) (G24 : gH) (a25 : Nat) (l3 : Int32) (l0 : Nat) (l1 : Int32) (l2 : Int32) (o4 : Option Value) (v27 : Int32) : Option gO := yI G24 a25 0 l3 v27 (t_128_12_10 K d l0 l3 l1 l2 o4)
noncomputable def t_128_12_12 (K : gK) (d : Nat) (G24 : gH) (l3 : Int32) (a25 : Nat) (l0 : Nat) (l1 : Int32) (l2 : Int32) (o4 : Option Value) (a26 : Nat) : Option gO := xI G24 a26 0 l3 (t_128_12_11 K d G24 a25 l3 l0 l1 l2 o4)
noncomputable def t_128_12_13 (K : gK) (d : Nat) (G24 : gH) (l0 : Nat) (l3 : Int32) (l1 : Int32) (l2 : Int32) (o4 : Option Value) (a25 : Nat) : Option gO := rR G24 l0 3 23 (t_128_12_12 K d G24 l3 a25 l0 l1 l2 o4)
noncomputable def t_128_12_14 (K : gK) (d : Nat) (l0 : Nat) (l3 : Int32) (l1 : Int32) (l2 : Int32) (o4 : Option Value) (G24 : gH) : Option gO := rR G24 l0 3 46 (t_128_12_13 K d G24 l0 l3 l1 l2 o4)
noncomputable def t_128_12_15 (K : gK) (d : Nat) (G20 : gH) (a21 : Nat) (l3 : Int32) (l0 : Nat) (l1 : Int32) (l2 : Int32) (o4 : Option Value) (v23 : Int32) : Option gO := yI G20 a21 0 l3 v23 (t_128_12_14 K d l0 l3 l1 l2 o4)
noncomputable def t_128_12_16 (K : gK) (d : Nat) (G20 : gH) (l3 : Int32) (a21 : Nat) (l0 : Nat) (l1 : Int32) (l2 : Int32) (o4 : Option Value) (a22 : Nat) : Option gO := xI G20 a22 0 l3 (t_128_12_15 K d G20 a21 l3 l0 l1 l2 o4)
noncomputable def t_128_12_17 (K : gK) (d : Nat) (G20 : gH) (l0 : Nat) (l3 : Int32) (l1 : Int32) (l2 : Int32) (o4 : Option Value) (a21 : Nat) : Option gO := rR G20 l0 3 22 (t_128_12_16 K d G20 l3 a21 l0 l1 l2 o4)
noncomputable def t_128_12_18 (K : gK) (d : Nat) (l0 : Nat) (l3 : Int32) (l1 : Int32) (l2 : Int32) (o4 : Option Value) (G20 : gH) : Option gO := rR G20 l0 3 45 (t_128_12_17 K d G20 l0 l3 l1 l2 o4)
noncomputable def t_128_12_19 (K : gK) (d : Nat) (G16 : gH) (a17 : Nat) (l3 : Int32) (l0 : Nat) (l1 : Int32) (l2 : Int32) (o4 : Option Value) (v19 : Int32) : Option gO := yI G16 a17 0 l3 v19 (t_128_12_18 K d l0 l3 l1 l2 o4)
noncomputable def t_128_12_20 (K : gK) (d : Nat) (G16 : gH) (l3 : Int32) (a17 : Nat) (l0 : Nat) (l1 : Int32) (l2 : Int32) (o4 : Option Value) (a18 : Nat) : Option gO := xI G16 a18 0 l3 (t_128_12_19 K d G16 a17 l3 l0 l1 l2 o4)
noncomputable def t_128_12_21 (K : gK) (d : Nat) (G16 : gH) (l0 : Nat) (l3 : Int32) (l1 : Int32) (l2 : Int32) (o4 : Option Value) (a17 : Nat) : Option gO := rR G16 l0 3 21 (t_128_12_20 K d G16 l3 a17 l0 l1 l2 o4)
noncomputable def t_128_12_22 (K : gK) (d : Nat) (l0 : Nat) (l3 : Int32) (l1 : Int32) (l2 : Int32) (o4 : Option Value) (G16 : gH) : Option gO := rR G16 l0 3 44 (t_128_12_21 K d G16 l0 l3 l1 l2 o4)
noncomputable def t_128_12_23 (K : gK) (d : Nat) (G12 : gH) (a13 : Nat) (l3 : Int32) (l0 : Nat) (l1 : Int32) (l2 : Int32) (o4 : Option Value) (v15 : Int32) : Option gO := yI G12 a13 0 l3 v15 (t_128_12_22 K d l0 l3 l1 l2 o4)
noncomputable def t_128_12_24 (K : gK) (d : Nat) (G12 : gH) (l3 : Int32) (a13 : Nat) (l0 : Nat) (l1 : Int32) (l2 : Int32) (o4 : Option Value) (a14 : Nat) : Option gO := xI G12 a14 0 l3 (t_128_12_23 K d G12 a13 l3 l0 l1 l2 o4)
noncomputable def t_128_12_25 (K : gK) (d : Nat) (G12 : gH) (l0 : Nat) (l3 : Int32) (l1 : Int32) (l2 : Int32) (o4 : Option Value) (a13 : Nat) : Option gO := rR G12 l0 3 20 (t_128_12_24 K d G12 l3 a13 l0 l1 l2 o4)
noncomputable def t_128_12_26 (K : gK) (d : Nat) (l0 : Nat) (l3 : Int32) (l1 : Int32) (l2 : Int32) (o4 : Option Value) (G12 : gH) : Option gO := rR G12 l0 3 43 (t_128_12_25 K d G12 l0 l3 l1 l2 o4)
noncomputable def t_128_12_27 (K : gK) (d : Nat) (G : gH) (a9 : Nat) (l3 : Int32) (l0 : Nat) (l1 : Int32) (l2 : Int32) (o4 : Option Value) (v11 : Int32) : Option gO := yI G a9 0 l3 v11 (t_128_12_26 K d l0 l3 l1 l2 o4)
noncomputable def t_128_12_28 (K : gK) (d : Nat) (G : gH) (l3 : Int32) (a9 : Nat) (l0 : Nat) (l1 : Int32) (l2 : Int32) (o4 : Option Value) (a10 : Nat) : Option gO := xI G a10 0 l3 (t_128_12_27 K d G a9 l3 l0 l1 l2 o4)
noncomputable def t_128_12_29 (K : gK) (d : Nat) (G : gH) (l0 : Nat) (l3 : Int32) (l1 : Int32) (l2 : Int32) (o4 : Option Value) (a9 : Nat) : Option gO := rR G l0 3 19 (t_128_12_28 K d G l3 a9 l0 l1 l2 o4)
noncomputable def t_128_12 (K : gK) (d : Nat) (l0 : Nat) (l1 : Int32) (l2 : Int32) (l3 : Int32) (o4 : Option Value) (G : gH) : Option gO := if l1 ≤ l3 then (if g_cls G l0 = some 3 then (cV (gCa K d 87 [.ref l0] G) (t_128_12_5 K d l0 l1 l2 o4)) else none) else (rR G l0 3 42 (t_128_12_29 K d G l0 l3 l1 l2 o4))
theorem e_128_12 {K : gK} {d : Nat} {l0 : Nat} {l1 : Int32} {l2 : Int32} {l3 : Int32} {o4 : Option Value} {G : gH} : gle (t_128_12 K d l0 l1 l2 l3 o4 G) (gRn K d 128 12 [some (.ref l0), some (.int l1), some (.int l2), some (.int l3), o4] [] G) := by
  unfold t_128_12
  refine g_iload ((q_128 _).trans rfl) rfl ?_
  refine g_iload ((q_128 _).trans rfl) rfl ?_
  refine g_cmpge ((q_128 _).trans rfl) (fun _ => ?_) (fun _ => ?_)
  · refine g_aload ((q_128 _).trans rfl) rfl ?_
    refine g_callV (kk := 0) ((q_128 _).trans rfl) (gHn m_128) rfl (by exact ⟨Nat.le_of_ble_eq_true rfl, rfl⟩) rfl (fun w G1 => gm_V (fun hw => ?_))
    subst hw
    refine g_aload ((q_128 _).trans rfl) rfl ?_
    refine g_push ((q_128 _).trans rfl) ?_
    refine g_putf ((q_128 _).trans rfl) (fun G3 => ?_)
    refine g_aload ((q_128 _).trans rfl) rfl ?_
    refine g_push ((q_128 _).trans rfl) ?_
    refine g_aload ((q_128 _).trans rfl) rfl ?_
    refine g_getI ((q_128 _).trans rfl) (fun v4 => ?_)
    refine g_ishl ((q_128 _).trans rfl) ?_
    refine g_push ((q_128 _).trans rfl) ?_
    refine g_isub ((q_128 _).trans rfl) ?_
    refine g_callV (kk := 1) ((q_128 _).trans rfl) (gHn m_128) rfl (by exact ⟨Nat.le_of_ble_eq_true rfl, rfl⟩) rfl (fun w G5 => gm_V (fun hw => ?_))
    subst hw
    refine g_aload ((q_128 _).trans rfl) rfl ?_
    refine g_callV (kk := 0) ((q_128 _).trans rfl) (gHn m_128) rfl (by exact ⟨Nat.le_of_ble_eq_true rfl, rfl⟩) rfl (fun w G7 => gm_V (fun hw => ?_))
    subst hw
    refine g_push ((q_128 _).trans rfl) ?_
    refine g_istore ((q_128 _).trans rfl) ?_
    exact gle.rf _
  · refine g_aload ((q_128 _).trans rfl) rfl ?_
    refine g_getR ((q_128 _).trans rfl) (fun a9 => ?_)
    refine g_iload ((q_128 _).trans rfl) rfl ?_
    refine g_aload ((q_128 _).trans rfl) rfl ?_
    refine g_getR ((q_128 _).trans rfl) (fun a10 => ?_)
    refine g_iload ((q_128 _).trans rfl) rfl ?_
    refine g_iald ((q_128 _).trans rfl) (fun v11 => ?_)
    refine g_iast ((q_128 _).trans rfl) (fun G12 => ?_)
    refine g_aload ((q_128 _).trans rfl) rfl ?_
    refine g_getR ((q_128 _).trans rfl) (fun a13 => ?_)
    refine g_iload ((q_128 _).trans rfl) rfl ?_
    refine g_aload ((q_128 _).trans rfl) rfl ?_
    refine g_getR ((q_128 _).trans rfl) (fun a14 => ?_)
    refine g_iload ((q_128 _).trans rfl) rfl ?_
    refine g_iald ((q_128 _).trans rfl) (fun v15 => ?_)
    refine g_iast ((q_128 _).trans rfl) (fun G16 => ?_)
    refine g_aload ((q_128 _).trans rfl) rfl ?_
    refine g_getR ((q_128 _).trans rfl) (fun a17 => ?_)
    refine g_iload ((q_128 _).trans rfl) rfl ?_
    refine g_aload ((q_128 _).trans rfl) rfl ?_
    refine g_getR ((q_128 _).trans rfl) (fun a18 => ?_)
    refine g_iload ((q_128 _).trans rfl) rfl ?_
    refine g_iald ((q_128 _).trans rfl) (fun v19 => ?_)
    refine g_iast ((q_128 _).trans rfl) (fun G20 => ?_)
    refine g_aload ((q_128 _).trans rfl) rfl ?_
    refine g_getR ((q_128 _).trans rfl) (fun a21 => ?_)
    refine g_iload ((q_128 _).trans rfl) rfl ?_
    refine g_aload ((q_128 _).trans rfl) rfl ?_
    refine g_getR ((q_128 _).trans rfl) (fun a22 => ?_)
    refine g_iload ((q_128 _).trans rfl) rfl ?_
    refine g_iald ((q_128 _).trans rfl) (fun v23 => ?_)
    refine g_iast ((q_128 _).trans rfl) (fun G24 => ?_)
    refine g_aload ((q_128 _).trans rfl) rfl ?_
    refine g_getR ((q_128 _).trans rfl) (fun a25 => ?_)
    refine g_iload ((q_128 _).trans rfl) rfl ?_
    refine g_aload ((q_128 _).trans rfl) rfl ?_
    refine g_getR ((q_128 _).trans rfl) (fun a26 => ?_)
    refine g_iload ((q_128 _).trans rfl) rfl ?_
    refine g_iald ((q_128 _).trans rfl) (fun v27 => ?_)
    refine g_iast ((q_128 _).trans rfl) (fun G28 => ?_)
    refine g_aload ((q_128 _).trans rfl) rfl ?_
    refine g_getR ((q_128 _).trans rfl) (fun a29 => ?_)
    refine g_iload ((q_128 _).trans rfl) rfl ?_
    refine g_aload ((q_128 _).trans rfl) rfl ?_
    refine g_getR ((q_128 _).trans rfl) (fun a30 => ?_)
    refine g_iload ((q_128 _).trans rfl) rfl ?_
    refine g_iald ((q_128 _).trans rfl) (fun v31 => ?_)
    refine g_zast ((q_128 _).trans rfl) (fun G32 => ?_)
    refine g_iinc ((q_128 _).trans rfl) rfl ?_
    refine g_goto ((q_128 _).trans rfl) ?_
    exact gle.rf _
noncomputable def t_128_123_1 (K : gK) (d : Nat) (G1 : gH) (v2 : Int32) : Option gO := some (.inl (some (.int v2)), G1)
noncomputable def t_128_123_2 (K : gK) (d : Nat) (l0 : Nat) (G1 : gH) : Option gO := rI G1 l0 3 48 (t_128_123_1 K d G1)
noncomputable def t_128_123_3 (K : gK) (d : Nat) (l0 : Nat) (l1 : Int32) (l2 : Int32) (l3 : Int32) (v25 : Int32) (G24 : gH) : Option gO := gRn K d 128 123 [some (.ref l0), some (.int l1), some (.int l2), some (.int (l3 + 1)), some (.int v25)] [] G24
noncomputable def t_128_123_4 (K : gK) (d : Nat) (G12 : gH) (l0 : Nat) (v15 : Int32) (v17 : Int32) (v19 : Int32) (v21 : Int32) (l1 : Int32) (l2 : Int32) (l3 : Int32) (v23 : Int32) : Option gO := if g_cls G12 l0 = some 3 then (cI (gCa K d 102 [.ref l0, .int v15, .int v17, .int v19, .int v21, .int v23] G12) (t_128_123_3 K d l0 l1 l2 l3)) else none
noncomputable def t_128_123_5 (K : gK) (d : Nat) (G12 : gH) (l3 : Int32) (l0 : Nat) (v15 : Int32) (v17 : Int32) (v19 : Int32) (v21 : Int32) (l1 : Int32) (l2 : Int32) (a22 : Nat) : Option gO := xI G12 a22 1 l3 (t_128_123_4 K d G12 l0 v15 v17 v19 v21 l1 l2 l3)
noncomputable def t_128_123_6 (K : gK) (d : Nat) (G12 : gH) (l0 : Nat) (l3 : Int32) (v15 : Int32) (v17 : Int32) (v19 : Int32) (l1 : Int32) (l2 : Int32) (v21 : Int32) : Option gO := rR G12 l0 3 47 (t_128_123_5 K d G12 l3 l0 v15 v17 v19 v21 l1 l2)
noncomputable def t_128_123_7 (K : gK) (d : Nat) (G12 : gH) (l3 : Int32) (l0 : Nat) (v15 : Int32) (v17 : Int32) (v19 : Int32) (l1 : Int32) (l2 : Int32) (a20 : Nat) : Option gO := xI G12 a20 0 l3 (t_128_123_6 K d G12 l0 l3 v15 v17 v19 l1 l2)
noncomputable def t_128_123_8 (K : gK) (d : Nat) (G12 : gH) (l0 : Nat) (l3 : Int32) (v15 : Int32) (v17 : Int32) (l1 : Int32) (l2 : Int32) (v19 : Int32) : Option gO := rR G12 l0 3 45 (t_128_123_7 K d G12 l3 l0 v15 v17 v19 l1 l2)
noncomputable def t_128_123_9 (K : gK) (d : Nat) (G12 : gH) (l3 : Int32) (l0 : Nat) (v15 : Int32) (v17 : Int32) (l1 : Int32) (l2 : Int32) (a18 : Nat) : Option gO := xI G12 a18 0 l3 (t_128_123_8 K d G12 l0 l3 v15 v17 l1 l2)
noncomputable def t_128_123_10 (K : gK) (d : Nat) (G12 : gH) (l0 : Nat) (l3 : Int32) (v15 : Int32) (l1 : Int32) (l2 : Int32) (v17 : Int32) : Option gO := rR G12 l0 3 44 (t_128_123_9 K d G12 l3 l0 v15 v17 l1 l2)
noncomputable def t_128_123_11 (K : gK) (d : Nat) (G12 : gH) (l3 : Int32) (l0 : Nat) (v15 : Int32) (l1 : Int32) (l2 : Int32) (a16 : Nat) : Option gO := xI G12 a16 0 l3 (t_128_123_10 K d G12 l0 l3 v15 l1 l2)
noncomputable def t_128_123_12 (K : gK) (d : Nat) (G12 : gH) (l0 : Nat) (l3 : Int32) (l1 : Int32) (l2 : Int32) (v15 : Int32) : Option gO := rR G12 l0 3 46 (t_128_123_11 K d G12 l3 l0 v15 l1 l2)
noncomputable def t_128_123_13 (K : gK) (d : Nat) (G12 : gH) (l3 : Int32) (l0 : Nat) (l1 : Int32) (l2 : Int32) (a14 : Nat) : Option gO := xI G12 a14 0 l3 (t_128_123_12 K d G12 l0 l3 l1 l2)
noncomputable def t_128_123_14 (K : gK) (d : Nat) (l0 : Nat) (l3 : Int32) (l1 : Int32) (l2 : Int32) (G12 : gH) : Option gO := rR G12 l0 3 43 (t_128_123_13 K d G12 l3 l0 l1 l2)
noncomputable def t_128_123_15 (K : gK) (d : Nat) (G5 : gH) (l0 : Nat) (v7 : Int32) (v9 : Int32) (l3 : Int32) (l1 : Int32) (l2 : Int32) (v11 : Int32) : Option gO := if g_cls G5 l0 = some 3 then (cV (gCa K d 169 [.ref l0, .int v7, .int v9, .int v11] G5) (t_128_123_14 K d l0 l3 l1 l2)) else none
noncomputable def t_128_123_16 (K : gK) (d : Nat) (G5 : gH) (l3 : Int32) (l0 : Nat) (v7 : Int32) (v9 : Int32) (l1 : Int32) (l2 : Int32) (a10 : Nat) : Option gO := xI G5 a10 1 l3 (t_128_123_15 K d G5 l0 v7 v9 l3 l1 l2)
noncomputable def t_128_123_17 (K : gK) (d : Nat) (G5 : gH) (l0 : Nat) (l3 : Int32) (v7 : Int32) (l1 : Int32) (l2 : Int32) (v9 : Int32) : Option gO := rR G5 l0 3 47 (t_128_123_16 K d G5 l3 l0 v7 v9 l1 l2)
noncomputable def t_128_123_18 (K : gK) (d : Nat) (G5 : gH) (l3 : Int32) (l0 : Nat) (v7 : Int32) (l1 : Int32) (l2 : Int32) (a8 : Nat) : Option gO := xI G5 a8 0 l3 (t_128_123_17 K d G5 l0 l3 v7 l1 l2)
noncomputable def t_128_123_19 (K : gK) (d : Nat) (G5 : gH) (l0 : Nat) (l3 : Int32) (l1 : Int32) (l2 : Int32) (v7 : Int32) : Option gO := rR G5 l0 3 46 (t_128_123_18 K d G5 l3 l0 v7 l1 l2)
noncomputable def t_128_123_20 (K : gK) (d : Nat) (G5 : gH) (l3 : Int32) (l0 : Nat) (l1 : Int32) (l2 : Int32) (a6 : Nat) : Option gO := xI G5 a6 0 l3 (t_128_123_19 K d G5 l0 l3 l1 l2)
noncomputable def t_128_123_21 (K : gK) (d : Nat) (l0 : Nat) (l3 : Int32) (l1 : Int32) (l2 : Int32) (G5 : gH) : Option gO := rR G5 l0 3 43 (t_128_123_20 K d G5 l3 l0 l1 l2)
noncomputable def t_128_123_22 (K : gK) (d : Nat) (G : gH) (l0 : Nat) (l3 : Int32) (l1 : Int32) (l2 : Int32) (v4 : Int32) : Option gO := if narrow .int (.int v4) = .int v4 ∧ fits .int (.int v4) = true then wF G l0 3 18 (.int v4) (t_128_123_21 K d l0 l3 l1 l2) else none
noncomputable def t_128_123_23 (K : gK) (d : Nat) (G : gH) (l3 : Int32) (l0 : Nat) (l1 : Int32) (l2 : Int32) (a3 : Nat) : Option gO := xI G a3 0 l3 (t_128_123_22 K d G l0 l3 l1 l2)
noncomputable def t_128_123 (K : gK) (d : Nat) (l0 : Nat) (l1 : Int32) (l2 : Int32) (l3 : Int32) (o4 : Option Value) (G : gH) : Option gO := if l1 ≤ l3 then (if narrow .int (.int l2) = .int l2 ∧ fits .int (.int l2) = true then wF G l0 3 18 (.int l2) (t_128_123_2 K d l0) else none) else (rR G l0 3 42 (t_128_123_23 K d G l3 l0 l1 l2))
theorem e_128_123 {K : gK} {d : Nat} {l0 : Nat} {l1 : Int32} {l2 : Int32} {l3 : Int32} {o4 : Option Value} {G : gH} : gle (t_128_123 K d l0 l1 l2 l3 o4 G) (gRn K d 128 123 [some (.ref l0), some (.int l1), some (.int l2), some (.int l3), o4] [] G) := by
  unfold t_128_123
  refine g_iload ((q_128 _).trans rfl) rfl ?_
  refine g_iload ((q_128 _).trans rfl) rfl ?_
  refine g_cmpge ((q_128 _).trans rfl) (fun _ => ?_) (fun _ => ?_)
  · refine g_aload ((q_128 _).trans rfl) rfl ?_
    refine g_iload ((q_128 _).trans rfl) rfl ?_
    refine g_putf ((q_128 _).trans rfl) (fun G1 => ?_)
    refine g_aload ((q_128 _).trans rfl) rfl ?_
    refine g_getI ((q_128 _).trans rfl) (fun v2 => ?_)
    exact g_iret ((q_128 _).trans rfl)
  · refine g_aload ((q_128 _).trans rfl) rfl ?_
    refine g_aload ((q_128 _).trans rfl) rfl ?_
    refine g_getR ((q_128 _).trans rfl) (fun a3 => ?_)
    refine g_iload ((q_128 _).trans rfl) rfl ?_
    refine g_iald ((q_128 _).trans rfl) (fun v4 => ?_)
    refine g_putf ((q_128 _).trans rfl) (fun G5 => ?_)
    refine g_aload ((q_128 _).trans rfl) rfl ?_
    refine g_aload ((q_128 _).trans rfl) rfl ?_
    refine g_getR ((q_128 _).trans rfl) (fun a6 => ?_)
    refine g_iload ((q_128 _).trans rfl) rfl ?_
    refine g_iald ((q_128 _).trans rfl) (fun v7 => ?_)
    refine g_aload ((q_128 _).trans rfl) rfl ?_
    refine g_getR ((q_128 _).trans rfl) (fun a8 => ?_)
    refine g_iload ((q_128 _).trans rfl) rfl ?_
    refine g_iald ((q_128 _).trans rfl) (fun v9 => ?_)
    refine g_aload ((q_128 _).trans rfl) rfl ?_
    refine g_getR ((q_128 _).trans rfl) (fun a10 => ?_)
    refine g_iload ((q_128 _).trans rfl) rfl ?_
    refine g_iald ((q_128 _).trans rfl) (fun v11 => ?_)
    refine g_callV (kk := 3) ((q_128 _).trans rfl) (gHn m_128) rfl (by exact ⟨Nat.le_of_ble_eq_true rfl, rfl⟩) rfl (fun w G12 => gm_V (fun hw => ?_))
    subst hw
    refine g_aload ((q_128 _).trans rfl) rfl ?_
    refine g_aload ((q_128 _).trans rfl) rfl ?_
    refine g_getR ((q_128 _).trans rfl) (fun a14 => ?_)
    refine g_iload ((q_128 _).trans rfl) rfl ?_
    refine g_iald ((q_128 _).trans rfl) (fun v15 => ?_)
    refine g_aload ((q_128 _).trans rfl) rfl ?_
    refine g_getR ((q_128 _).trans rfl) (fun a16 => ?_)
    refine g_iload ((q_128 _).trans rfl) rfl ?_
    refine g_iald ((q_128 _).trans rfl) (fun v17 => ?_)
    refine g_aload ((q_128 _).trans rfl) rfl ?_
    refine g_getR ((q_128 _).trans rfl) (fun a18 => ?_)
    refine g_iload ((q_128 _).trans rfl) rfl ?_
    refine g_iald ((q_128 _).trans rfl) (fun v19 => ?_)
    refine g_aload ((q_128 _).trans rfl) rfl ?_
    refine g_getR ((q_128 _).trans rfl) (fun a20 => ?_)
    refine g_iload ((q_128 _).trans rfl) rfl ?_
    refine g_iald ((q_128 _).trans rfl) (fun v21 => ?_)
    refine g_aload ((q_128 _).trans rfl) rfl ?_
    refine g_getR ((q_128 _).trans rfl) (fun a22 => ?_)
    refine g_iload ((q_128 _).trans rfl) rfl ?_
    refine g_iald ((q_128 _).trans rfl) (fun v23 => ?_)
    refine g_callV (kk := 5) ((q_128 _).trans rfl) (gHn m_128) rfl (by exact ⟨Nat.le_of_ble_eq_true rfl, rfl⟩) rfl (fun w G24 => gm_I (fun v25 hw => ?_))
    subst hw
    refine g_istore ((q_128 _).trans rfl) ?_
    refine g_iinc ((q_128 _).trans rfl) rfl ?_
    refine g_goto ((q_128 _).trans rfl) ?_
    exact gle.rf _
theorem q_129 {K : gK} (pc : Nat) : gP K 129 pc = ((gL_129 K).lookup pc).getD o_none := rfl
noncomputable def t_129_0_1 (K : gK) (d : Nat) (v2 : Int32) (G1 : gH) : Option gO := some (.inl (some (.int v2)), G1)
noncomputable def t_129_0 (K : gK) (d : Nat) (l0 : Nat) (l1 : Int32) (G : gH) : Option gO := if g_cls G l0 = some 0 then (cI (gCa K d 185 [.ref l0, .int l1, .int (0 : Int32)] G) (t_129_0_1 K d)) else none
theorem e_129_0 {K : gK} {d : Nat} {l0 : Nat} {l1 : Int32} {G : gH} : gle (t_129_0 K d l0 l1 G) (gRn K d 129 0 [some (.ref l0), some (.int l1)] [] G) := by
  unfold t_129_0
  refine g_aload ((q_129 _).trans rfl) rfl ?_
  refine g_iload ((q_129 _).trans rfl) rfl ?_
  refine g_push ((q_129 _).trans rfl) ?_
  refine g_callV (kk := 2) ((q_129 _).trans rfl) (gHn m_129) rfl (by exact ⟨Nat.le_of_ble_eq_true rfl, rfl⟩) rfl (fun w G1 => gm_I (fun v2 hw => ?_))
  subst hw
  exact g_iret ((q_129 _).trans rfl)
theorem c_129 {K : gK} {d : Nat} {l0 : Nat} {l1 : Int32} {G : gH} : gle (t_129_0 K d l0 l1 G) (gCa K (d + 1) 129 [.ref l0, .int l1] G) := by
  have h : gent (gMx 129) [.ref l0, .int l1] = [some (.ref l0), some (.int l1)] := by
    show gent (gT 129).2.2.2.1 _ = _
    rw [m_129]; rfl
  exact fun r e => (congrArg (fun q => gRn K d 129 0 q [] G) h).trans (e_129_0 r e)
theorem q_130 {K : gK} (pc : Nat) : gP K 130 pc = ((gL_130 K).lookup pc).getD o_none := rfl
noncomputable def t_130_0_1 (K : gK) (d : Nat) (G6 : gH) (v7 : Int32) : Option gO := some (.inl (some (.int v7)), G6)
noncomputable def t_130_0_2 (K : gK) (d : Nat) (l0 : Nat) (G6 : gH) : Option gO := rI G6 l0 0 14 (t_130_0_1 K d G6)
noncomputable def t_130_0_3 (K : gK) (d : Nat) (l1 : Int32) (G3 : gH) (l0 : Nat) (v5 : Int32) : Option gO := if narrow .int (.int (v5 + l1)) = .int (v5 + l1) ∧ fits .int (.int (v5 + l1)) = true then wF G3 l0 0 14 (.int (v5 + l1)) (t_130_0_2 K d l0) else none
noncomputable def t_130_0_4 (K : gK) (d : Nat) (l0 : Nat) (l1 : Int32) (G3 : gH) : Option gO := rI G3 l0 0 14 (t_130_0_3 K d l1 G3 l0)
noncomputable def t_130_0_5 (K : gK) (d : Nat) (G12 : gH) (v13 : Int32) : Option gO := some (.inl (some (.int v13)), G12)
noncomputable def t_130_0_6 (K : gK) (d : Nat) (l0 : Nat) (G12 : gH) : Option gO := rI G12 l0 0 14 (t_130_0_5 K d G12)
noncomputable def t_130_0_7 (K : gK) (d : Nat) (l1 : Int32) (G9 : gH) (l0 : Nat) (v11 : Int32) : Option gO := if narrow .int (.int (v11 + l1)) = .int (v11 + l1) ∧ fits .int (.int (v11 + l1)) = true then wF G9 l0 0 14 (.int (v11 + l1)) (t_130_0_6 K d l0) else none
noncomputable def t_130_0_8 (K : gK) (d : Nat) (l0 : Nat) (l1 : Int32) (G9 : gH) : Option gO := rI G9 l0 0 14 (t_130_0_7 K d l1 G9 l0)
noncomputable def t_130_0_9 (K : gK) (d : Nat) (G17 : gH) (v18 : Int32) : Option gO := some (.inl (some (.int v18)), G17)
noncomputable def t_130_0_10 (K : gK) (d : Nat) (l0 : Nat) (G17 : gH) : Option gO := rI G17 l0 0 14 (t_130_0_9 K d G17)
noncomputable def t_130_0_11 (K : gK) (d : Nat) (l1 : Int32) (G14 : gH) (l0 : Nat) (v16 : Int32) : Option gO := if narrow .int (.int (v16 + l1)) = .int (v16 + l1) ∧ fits .int (.int (v16 + l1)) = true then wF G14 l0 0 14 (.int (v16 + l1)) (t_130_0_10 K d l0) else none
noncomputable def t_130_0_12 (K : gK) (d : Nat) (l0 : Nat) (l1 : Int32) (G14 : gH) : Option gO := rI G14 l0 0 14 (t_130_0_11 K d l1 G14 l0)
noncomputable def t_130_0_13 (K : gK) (d : Nat) (l1 : Int32) (G1 : gH) (l0 : Nat) (v8 : Int32) : Option gO := if (999999 : Int32) < (v8 + l1) then (cV (gCa K d 149 [.int (0 : Int32)] G1) (t_130_0_8 K d l0 l1)) else (cV (gCa K d 149 [.int (1 : Int32)] G1) (t_130_0_12 K d l0 l1))
noncomputable def t_130_0_14 (K : gK) (d : Nat) (l0 : Nat) (l1 : Int32) (v2 : Int32) (G1 : gH) : Option gO := if v2 = 0 then (cV (gCa K d 149 [.int (0 : Int32)] G1) (t_130_0_4 K d l0 l1)) else (rI G1 l0 0 14 (t_130_0_13 K d l1 G1 l0))
noncomputable def t_130_0 (K : gK) (d : Nat) (l0 : Nat) (l1 : Int32) (G : gH) : Option gO := cI (gCa K d 148 [.int l1, .int (1 : Int32), .int (9999 : Int32)] G) (t_130_0_14 K d l0 l1)
theorem e_130_0 {K : gK} {d : Nat} {l0 : Nat} {l1 : Int32} {G : gH} : gle (t_130_0 K d l0 l1 G) (gRn K d 130 0 [some (.ref l0), some (.int l1)] [] G) := by
  unfold t_130_0
  refine g_iload ((q_130 _).trans rfl) rfl ?_
  refine g_push ((q_130 _).trans rfl) ?_
  refine g_push ((q_130 _).trans rfl) ?_
  refine g_callS (kk := 3) ((q_130 _).trans rfl) (gHn m_130) (by exact ⟨Nat.le_of_ble_eq_true rfl, Nat.le_of_ble_eq_true rfl, rfl⟩) rfl (fun w G1 => gm_I (fun v2 hw => ?_))
  subst hw
  refine g_ifeq ((q_130 _).trans rfl) (fun _ => ?_) (fun _ => ?_)
  · refine g_push ((q_130 _).trans rfl) ?_
    refine g_callS (kk := 1) ((q_130 _).trans rfl) (gHn m_130) (by exact ⟨Nat.le_of_ble_eq_true rfl, Nat.le_of_ble_eq_true rfl, rfl⟩) rfl (fun w G3 => gm_V (fun hw => ?_))
    subst hw
    refine g_aload ((q_130 _).trans rfl) rfl ?_
    refine g_dup_ref ((q_130 _).trans rfl) ?_
    refine g_getI ((q_130 _).trans rfl) (fun v5 => ?_)
    refine g_iload ((q_130 _).trans rfl) rfl ?_
    refine g_iadd ((q_130 _).trans rfl) ?_
    refine g_putf ((q_130 _).trans rfl) (fun G6 => ?_)
    refine g_aload ((q_130 _).trans rfl) rfl ?_
    refine g_getI ((q_130 _).trans rfl) (fun v7 => ?_)
    exact g_iret ((q_130 _).trans rfl)
  · refine g_aload ((q_130 _).trans rfl) rfl ?_
    refine g_getI ((q_130 _).trans rfl) (fun v8 => ?_)
    refine g_iload ((q_130 _).trans rfl) rfl ?_
    refine g_iadd ((q_130 _).trans rfl) ?_
    refine g_push ((q_130 _).trans rfl) ?_
    refine g_cmpgt ((q_130 _).trans rfl) (fun _ => ?_) (fun _ => ?_)
    · refine g_push ((q_130 _).trans rfl) ?_
      refine g_callS (kk := 1) ((q_130 _).trans rfl) (gHn m_130) (by exact ⟨Nat.le_of_ble_eq_true rfl, Nat.le_of_ble_eq_true rfl, rfl⟩) rfl (fun w G9 => gm_V (fun hw => ?_))
      subst hw
      refine g_aload ((q_130 _).trans rfl) rfl ?_
      refine g_dup_ref ((q_130 _).trans rfl) ?_
      refine g_getI ((q_130 _).trans rfl) (fun v11 => ?_)
      refine g_iload ((q_130 _).trans rfl) rfl ?_
      refine g_iadd ((q_130 _).trans rfl) ?_
      refine g_putf ((q_130 _).trans rfl) (fun G12 => ?_)
      refine g_aload ((q_130 _).trans rfl) rfl ?_
      refine g_getI ((q_130 _).trans rfl) (fun v13 => ?_)
      exact g_iret ((q_130 _).trans rfl)
    · refine g_push ((q_130 _).trans rfl) ?_
      refine g_goto ((q_130 _).trans rfl) ?_
      refine g_callS (kk := 1) ((q_130 _).trans rfl) (gHn m_130) (by exact ⟨Nat.le_of_ble_eq_true rfl, Nat.le_of_ble_eq_true rfl, rfl⟩) rfl (fun w G14 => gm_V (fun hw => ?_))
      subst hw
      refine g_aload ((q_130 _).trans rfl) rfl ?_
      refine g_dup_ref ((q_130 _).trans rfl) ?_
      refine g_getI ((q_130 _).trans rfl) (fun v16 => ?_)
      refine g_iload ((q_130 _).trans rfl) rfl ?_
      refine g_iadd ((q_130 _).trans rfl) ?_
      refine g_putf ((q_130 _).trans rfl) (fun G17 => ?_)
      refine g_aload ((q_130 _).trans rfl) rfl ?_
      refine g_getI ((q_130 _).trans rfl) (fun v18 => ?_)
      exact g_iret ((q_130 _).trans rfl)
theorem c_130 {K : gK} {d : Nat} {l0 : Nat} {l1 : Int32} {G : gH} : gle (t_130_0 K d l0 l1 G) (gCa K (d + 1) 130 [.ref l0, .int l1] G) := by
  have h : gent (gMx 130) [.ref l0, .int l1] = [some (.ref l0), some (.int l1)] := by
    show gent (gT 130).2.2.2.1 _ = _
    rw [m_130]; rfl
  exact fun r e => (congrArg (fun q => gRn K d 130 0 q [] G) h).trans (e_130_0 r e)
theorem q_131 {K : gK} (pc : Nat) : gP K 131 pc = ((gL_131 K).lookup pc).getD o_none := rfl
noncomputable def t_131_0_1 (K : gK) (d : Nat) (l0 : Nat) (l1 : Int32) (v11 : Int32) (G17 : gH) : Option gO := gRn K d 131 89 [some (.ref l0), some (.int l1), some (.int ((l1 * v11) * (1 : Int32))), some (.int (0 : Int32)), none, none, none] [] G17
noncomputable def t_131_0_2 (K : gK) (d : Nat) (l1 : Int32) (v11 : Int32) (G14 : gH) (l0 : Nat) (v16 : Int32) : Option gO := if narrow .int (.int (v16 - ((l1 * v11) * (1 : Int32)))) = .int (v16 - ((l1 * v11) * (1 : Int32))) ∧ fits .int (.int (v16 - ((l1 * v11) * (1 : Int32)))) = true then wF G14 l0 0 14 (.int (v16 - ((l1 * v11) * (1 : Int32)))) (t_131_0_1 K d l0 l1 v11) else none
noncomputable def t_131_0_3 (K : gK) (d : Nat) (l0 : Nat) (l1 : Int32) (v11 : Int32) (G14 : gH) : Option gO := rI G14 l0 0 14 (t_131_0_2 K d l1 v11 G14 l0)
noncomputable def t_131_0_4 (K : gK) (d : Nat) (l0 : Nat) (l1 : Int32) (v11 : Int32) (G23 : gH) : Option gO := gRn K d 131 89 [some (.ref l0), some (.int l1), some (.int ((l1 * v11) * (1 : Int32))), some (.int (0 : Int32)), none, none, none] [] G23
noncomputable def t_131_0_5 (K : gK) (d : Nat) (l1 : Int32) (v11 : Int32) (G20 : gH) (l0 : Nat) (v22 : Int32) : Option gO := if narrow .int (.int (v22 - ((l1 * v11) * (1 : Int32)))) = .int (v22 - ((l1 * v11) * (1 : Int32))) ∧ fits .int (.int (v22 - ((l1 * v11) * (1 : Int32)))) = true then wF G20 l0 0 14 (.int (v22 - ((l1 * v11) * (1 : Int32)))) (t_131_0_4 K d l0 l1 v11) else none
noncomputable def t_131_0_6 (K : gK) (d : Nat) (l0 : Nat) (l1 : Int32) (v11 : Int32) (G20 : gH) : Option gO := rI G20 l0 0 14 (t_131_0_5 K d l1 v11 G20 l0)
noncomputable def t_131_0_7 (K : gK) (d : Nat) (l0 : Nat) (l1 : Int32) (v11 : Int32) (G27 : gH) : Option gO := gRn K d 131 89 [some (.ref l0), some (.int l1), some (.int ((l1 * v11) * (1 : Int32))), some (.int (0 : Int32)), none, none, none] [] G27
noncomputable def t_131_0_8 (K : gK) (d : Nat) (l1 : Int32) (v11 : Int32) (G24 : gH) (l0 : Nat) (v26 : Int32) : Option gO := if narrow .int (.int (v26 - ((l1 * v11) * (1 : Int32)))) = .int (v26 - ((l1 * v11) * (1 : Int32))) ∧ fits .int (.int (v26 - ((l1 * v11) * (1 : Int32)))) = true then wF G24 l0 0 14 (.int (v26 - ((l1 * v11) * (1 : Int32)))) (t_131_0_7 K d l0 l1 v11) else none
noncomputable def t_131_0_9 (K : gK) (d : Nat) (l0 : Nat) (l1 : Int32) (v11 : Int32) (G24 : gH) : Option gO := rI G24 l0 0 14 (t_131_0_8 K d l1 v11 G24 l0)
noncomputable def t_131_0_10 (K : gK) (d : Nat) (l0 : Nat) (l1 : Int32) (v11 : Int32) (v19 : Int32) (G18 : gH) : Option gO := if v19 = 0 then (cV (gCa K d 151 [.int (0 : Int32)] G18) (t_131_0_6 K d l0 l1 v11)) else (cV (gCa K d 151 [.int (1 : Int32)] G18) (t_131_0_9 K d l0 l1 v11))
noncomputable def t_131_0_11 (K : gK) (d : Nat) (l1 : Int32) (v11 : Int32) (G8 : gH) (l0 : Nat) (v13 : Int32) : Option gO := if v13 < ((l1 * v11) * (1 : Int32)) then (cV (gCa K d 151 [.int (0 : Int32)] G8) (t_131_0_3 K d l0 l1 v11)) else (if g_cls G8 l0 = some 0 then (cI (gCa K d 187 [.ref l0, .int l1] G8) (t_131_0_10 K d l0 l1 v11)) else none)
noncomputable def t_131_0_12 (K : gK) (d : Nat) (l0 : Nat) (l1 : Int32) (v11 : Int32) (G32 : gH) : Option gO := gRn K d 131 89 [some (.ref l0), some (.int l1), some (.int ((l1 * v11) * (2 : Int32))), some (.int (0 : Int32)), none, none, none] [] G32
noncomputable def t_131_0_13 (K : gK) (d : Nat) (l1 : Int32) (v11 : Int32) (G29 : gH) (l0 : Nat) (v31 : Int32) : Option gO := if narrow .int (.int (v31 - ((l1 * v11) * (2 : Int32)))) = .int (v31 - ((l1 * v11) * (2 : Int32))) ∧ fits .int (.int (v31 - ((l1 * v11) * (2 : Int32)))) = true then wF G29 l0 0 14 (.int (v31 - ((l1 * v11) * (2 : Int32)))) (t_131_0_12 K d l0 l1 v11) else none
noncomputable def t_131_0_14 (K : gK) (d : Nat) (l0 : Nat) (l1 : Int32) (v11 : Int32) (G29 : gH) : Option gO := rI G29 l0 0 14 (t_131_0_13 K d l1 v11 G29 l0)
noncomputable def t_131_0_15 (K : gK) (d : Nat) (l0 : Nat) (l1 : Int32) (v11 : Int32) (G38 : gH) : Option gO := gRn K d 131 89 [some (.ref l0), some (.int l1), some (.int ((l1 * v11) * (2 : Int32))), some (.int (0 : Int32)), none, none, none] [] G38
noncomputable def t_131_0_16 (K : gK) (d : Nat) (l1 : Int32) (v11 : Int32) (G35 : gH) (l0 : Nat) (v37 : Int32) : Option gO := if narrow .int (.int (v37 - ((l1 * v11) * (2 : Int32)))) = .int (v37 - ((l1 * v11) * (2 : Int32))) ∧ fits .int (.int (v37 - ((l1 * v11) * (2 : Int32)))) = true then wF G35 l0 0 14 (.int (v37 - ((l1 * v11) * (2 : Int32)))) (t_131_0_15 K d l0 l1 v11) else none
noncomputable def t_131_0_17 (K : gK) (d : Nat) (l0 : Nat) (l1 : Int32) (v11 : Int32) (G35 : gH) : Option gO := rI G35 l0 0 14 (t_131_0_16 K d l1 v11 G35 l0)
noncomputable def t_131_0_18 (K : gK) (d : Nat) (l0 : Nat) (l1 : Int32) (v11 : Int32) (G42 : gH) : Option gO := gRn K d 131 89 [some (.ref l0), some (.int l1), some (.int ((l1 * v11) * (2 : Int32))), some (.int (0 : Int32)), none, none, none] [] G42
noncomputable def t_131_0_19 (K : gK) (d : Nat) (l1 : Int32) (v11 : Int32) (G39 : gH) (l0 : Nat) (v41 : Int32) : Option gO := if narrow .int (.int (v41 - ((l1 * v11) * (2 : Int32)))) = .int (v41 - ((l1 * v11) * (2 : Int32))) ∧ fits .int (.int (v41 - ((l1 * v11) * (2 : Int32)))) = true then wF G39 l0 0 14 (.int (v41 - ((l1 * v11) * (2 : Int32)))) (t_131_0_18 K d l0 l1 v11) else none
noncomputable def t_131_0_20 (K : gK) (d : Nat) (l0 : Nat) (l1 : Int32) (v11 : Int32) (G39 : gH) : Option gO := rI G39 l0 0 14 (t_131_0_19 K d l1 v11 G39 l0)
noncomputable def t_131_0_21 (K : gK) (d : Nat) (l0 : Nat) (l1 : Int32) (v11 : Int32) (v34 : Int32) (G33 : gH) : Option gO := if v34 = 0 then (cV (gCa K d 151 [.int (0 : Int32)] G33) (t_131_0_17 K d l0 l1 v11)) else (cV (gCa K d 151 [.int (1 : Int32)] G33) (t_131_0_20 K d l0 l1 v11))
noncomputable def t_131_0_22 (K : gK) (d : Nat) (l1 : Int32) (v11 : Int32) (G8 : gH) (l0 : Nat) (v28 : Int32) : Option gO := if v28 < ((l1 * v11) * (2 : Int32)) then (cV (gCa K d 151 [.int (0 : Int32)] G8) (t_131_0_14 K d l0 l1 v11)) else (if g_cls G8 l0 = some 0 then (cI (gCa K d 187 [.ref l0, .int l1] G8) (t_131_0_21 K d l0 l1 v11)) else none)
noncomputable def t_131_0_23 (K : gK) (d : Nat) (G8 : gH) (l0 : Nat) (l1 : Int32) (v11 : Int32) (v12 : Int32) : Option gO := if v12 = 0 then (rI G8 l0 0 14 (t_131_0_11 K d l1 v11 G8 l0)) else (rI G8 l0 0 14 (t_131_0_22 K d l1 v11 G8 l0))
noncomputable def t_131_0_24 (K : gK) (d : Nat) (G8 : gH) (l0 : Nat) (l1 : Int32) (v11 : Int32) : Option gO := rI G8 l0 0 10 (t_131_0_23 K d G8 l0 l1 v11)
noncomputable def t_131_0_25 (K : gK) (d : Nat) (G8 : gH) (l0 : Nat) (l1 : Int32) (a10 : Nat) : Option gO := rI G8 a10 2 2 (t_131_0_24 K d G8 l0 l1)
noncomputable def t_131_0_26 (K : gK) (d : Nat) (l0 : Nat) (l1 : Int32) (G8 : gH) : Option gO := rR G8 l0 0 6 (t_131_0_25 K d G8 l0 l1)
noncomputable def t_131_0_27 (K : gK) (d : Nat) (l0 : Nat) (l1 : Int32) (v46 : Int32) (G52 : gH) : Option gO := gRn K d 131 89 [some (.ref l0), some (.int l1), some (.int ((l1 * v46) * (1 : Int32))), some (.int (0 : Int32)), none, none, none] [] G52
noncomputable def t_131_0_28 (K : gK) (d : Nat) (l1 : Int32) (v46 : Int32) (G49 : gH) (l0 : Nat) (v51 : Int32) : Option gO := if narrow .int (.int (v51 - ((l1 * v46) * (1 : Int32)))) = .int (v51 - ((l1 * v46) * (1 : Int32))) ∧ fits .int (.int (v51 - ((l1 * v46) * (1 : Int32)))) = true then wF G49 l0 0 14 (.int (v51 - ((l1 * v46) * (1 : Int32)))) (t_131_0_27 K d l0 l1 v46) else none
noncomputable def t_131_0_29 (K : gK) (d : Nat) (l0 : Nat) (l1 : Int32) (v46 : Int32) (G49 : gH) : Option gO := rI G49 l0 0 14 (t_131_0_28 K d l1 v46 G49 l0)
noncomputable def t_131_0_30 (K : gK) (d : Nat) (l0 : Nat) (l1 : Int32) (v46 : Int32) (G58 : gH) : Option gO := gRn K d 131 89 [some (.ref l0), some (.int l1), some (.int ((l1 * v46) * (1 : Int32))), some (.int (0 : Int32)), none, none, none] [] G58
noncomputable def t_131_0_31 (K : gK) (d : Nat) (l1 : Int32) (v46 : Int32) (G55 : gH) (l0 : Nat) (v57 : Int32) : Option gO := if narrow .int (.int (v57 - ((l1 * v46) * (1 : Int32)))) = .int (v57 - ((l1 * v46) * (1 : Int32))) ∧ fits .int (.int (v57 - ((l1 * v46) * (1 : Int32)))) = true then wF G55 l0 0 14 (.int (v57 - ((l1 * v46) * (1 : Int32)))) (t_131_0_30 K d l0 l1 v46) else none
noncomputable def t_131_0_32 (K : gK) (d : Nat) (l0 : Nat) (l1 : Int32) (v46 : Int32) (G55 : gH) : Option gO := rI G55 l0 0 14 (t_131_0_31 K d l1 v46 G55 l0)
noncomputable def t_131_0_33 (K : gK) (d : Nat) (l0 : Nat) (l1 : Int32) (v46 : Int32) (G62 : gH) : Option gO := gRn K d 131 89 [some (.ref l0), some (.int l1), some (.int ((l1 * v46) * (1 : Int32))), some (.int (0 : Int32)), none, none, none] [] G62
noncomputable def t_131_0_34 (K : gK) (d : Nat) (l1 : Int32) (v46 : Int32) (G59 : gH) (l0 : Nat) (v61 : Int32) : Option gO := if narrow .int (.int (v61 - ((l1 * v46) * (1 : Int32)))) = .int (v61 - ((l1 * v46) * (1 : Int32))) ∧ fits .int (.int (v61 - ((l1 * v46) * (1 : Int32)))) = true then wF G59 l0 0 14 (.int (v61 - ((l1 * v46) * (1 : Int32)))) (t_131_0_33 K d l0 l1 v46) else none
noncomputable def t_131_0_35 (K : gK) (d : Nat) (l0 : Nat) (l1 : Int32) (v46 : Int32) (G59 : gH) : Option gO := rI G59 l0 0 14 (t_131_0_34 K d l1 v46 G59 l0)
noncomputable def t_131_0_36 (K : gK) (d : Nat) (l0 : Nat) (l1 : Int32) (v46 : Int32) (v54 : Int32) (G53 : gH) : Option gO := if v54 = 0 then (cV (gCa K d 151 [.int (0 : Int32)] G53) (t_131_0_32 K d l0 l1 v46)) else (cV (gCa K d 151 [.int (1 : Int32)] G53) (t_131_0_35 K d l0 l1 v46))
noncomputable def t_131_0_37 (K : gK) (d : Nat) (l1 : Int32) (v46 : Int32) (G43 : gH) (l0 : Nat) (v48 : Int32) : Option gO := if v48 < ((l1 * v46) * (1 : Int32)) then (cV (gCa K d 151 [.int (0 : Int32)] G43) (t_131_0_29 K d l0 l1 v46)) else (if g_cls G43 l0 = some 0 then (cI (gCa K d 187 [.ref l0, .int l1] G43) (t_131_0_36 K d l0 l1 v46)) else none)
noncomputable def t_131_0_38 (K : gK) (d : Nat) (l0 : Nat) (l1 : Int32) (v46 : Int32) (G67 : gH) : Option gO := gRn K d 131 89 [some (.ref l0), some (.int l1), some (.int ((l1 * v46) * (2 : Int32))), some (.int (0 : Int32)), none, none, none] [] G67
noncomputable def t_131_0_39 (K : gK) (d : Nat) (l1 : Int32) (v46 : Int32) (G64 : gH) (l0 : Nat) (v66 : Int32) : Option gO := if narrow .int (.int (v66 - ((l1 * v46) * (2 : Int32)))) = .int (v66 - ((l1 * v46) * (2 : Int32))) ∧ fits .int (.int (v66 - ((l1 * v46) * (2 : Int32)))) = true then wF G64 l0 0 14 (.int (v66 - ((l1 * v46) * (2 : Int32)))) (t_131_0_38 K d l0 l1 v46) else none
noncomputable def t_131_0_40 (K : gK) (d : Nat) (l0 : Nat) (l1 : Int32) (v46 : Int32) (G64 : gH) : Option gO := rI G64 l0 0 14 (t_131_0_39 K d l1 v46 G64 l0)
noncomputable def t_131_0_41 (K : gK) (d : Nat) (l0 : Nat) (l1 : Int32) (v46 : Int32) (G73 : gH) : Option gO := gRn K d 131 89 [some (.ref l0), some (.int l1), some (.int ((l1 * v46) * (2 : Int32))), some (.int (0 : Int32)), none, none, none] [] G73
noncomputable def t_131_0_42 (K : gK) (d : Nat) (l1 : Int32) (v46 : Int32) (G70 : gH) (l0 : Nat) (v72 : Int32) : Option gO := if narrow .int (.int (v72 - ((l1 * v46) * (2 : Int32)))) = .int (v72 - ((l1 * v46) * (2 : Int32))) ∧ fits .int (.int (v72 - ((l1 * v46) * (2 : Int32)))) = true then wF G70 l0 0 14 (.int (v72 - ((l1 * v46) * (2 : Int32)))) (t_131_0_41 K d l0 l1 v46) else none
noncomputable def t_131_0_43 (K : gK) (d : Nat) (l0 : Nat) (l1 : Int32) (v46 : Int32) (G70 : gH) : Option gO := rI G70 l0 0 14 (t_131_0_42 K d l1 v46 G70 l0)
noncomputable def t_131_0_44 (K : gK) (d : Nat) (l0 : Nat) (l1 : Int32) (v46 : Int32) (G77 : gH) : Option gO := gRn K d 131 89 [some (.ref l0), some (.int l1), some (.int ((l1 * v46) * (2 : Int32))), some (.int (0 : Int32)), none, none, none] [] G77
noncomputable def t_131_0_45 (K : gK) (d : Nat) (l1 : Int32) (v46 : Int32) (G74 : gH) (l0 : Nat) (v76 : Int32) : Option gO := if narrow .int (.int (v76 - ((l1 * v46) * (2 : Int32)))) = .int (v76 - ((l1 * v46) * (2 : Int32))) ∧ fits .int (.int (v76 - ((l1 * v46) * (2 : Int32)))) = true then wF G74 l0 0 14 (.int (v76 - ((l1 * v46) * (2 : Int32)))) (t_131_0_44 K d l0 l1 v46) else none
noncomputable def t_131_0_46 (K : gK) (d : Nat) (l0 : Nat) (l1 : Int32) (v46 : Int32) (G74 : gH) : Option gO := rI G74 l0 0 14 (t_131_0_45 K d l1 v46 G74 l0)
noncomputable def t_131_0_47 (K : gK) (d : Nat) (l0 : Nat) (l1 : Int32) (v46 : Int32) (v69 : Int32) (G68 : gH) : Option gO := if v69 = 0 then (cV (gCa K d 151 [.int (0 : Int32)] G68) (t_131_0_43 K d l0 l1 v46)) else (cV (gCa K d 151 [.int (1 : Int32)] G68) (t_131_0_46 K d l0 l1 v46))
noncomputable def t_131_0_48 (K : gK) (d : Nat) (l1 : Int32) (v46 : Int32) (G43 : gH) (l0 : Nat) (v63 : Int32) : Option gO := if v63 < ((l1 * v46) * (2 : Int32)) then (cV (gCa K d 151 [.int (0 : Int32)] G43) (t_131_0_40 K d l0 l1 v46)) else (if g_cls G43 l0 = some 0 then (cI (gCa K d 187 [.ref l0, .int l1] G43) (t_131_0_47 K d l0 l1 v46)) else none)
noncomputable def t_131_0_49 (K : gK) (d : Nat) (G43 : gH) (l0 : Nat) (l1 : Int32) (v46 : Int32) (v47 : Int32) : Option gO := if v47 = 0 then (rI G43 l0 0 14 (t_131_0_37 K d l1 v46 G43 l0)) else (rI G43 l0 0 14 (t_131_0_48 K d l1 v46 G43 l0))
noncomputable def t_131_0_50 (K : gK) (d : Nat) (G43 : gH) (l0 : Nat) (l1 : Int32) (v46 : Int32) : Option gO := rI G43 l0 0 10 (t_131_0_49 K d G43 l0 l1 v46)
noncomputable def t_131_0_51 (K : gK) (d : Nat) (G43 : gH) (l0 : Nat) (l1 : Int32) (a45 : Nat) : Option gO := rI G43 a45 2 2 (t_131_0_50 K d G43 l0 l1)
noncomputable def t_131_0_52 (K : gK) (d : Nat) (l0 : Nat) (l1 : Int32) (G43 : gH) : Option gO := rR G43 l0 0 6 (t_131_0_51 K d G43 l0 l1)
noncomputable def t_131_0_53 (K : gK) (d : Nat) (l0 : Nat) (l1 : Int32) (v7 : Int32) (G6 : gH) : Option gO := if v7 = 0 then (cV (gCa K d 153 [.int (1 : Int32)] G6) (t_131_0_26 K d l0 l1)) else (cV (gCa K d 153 [.int (0 : Int32)] G6) (t_131_0_52 K d l0 l1))
noncomputable def t_131_0_54 (K : gK) (d : Nat) (G3 : gH) (l0 : Nat) (l1 : Int32) (a5 : Nat) : Option gO := if g_cls G3 a5 = some 12 then (cI (gCa K d 150 [.ref a5] G3) (t_131_0_53 K d l0 l1)) else none
noncomputable def t_131_0_55 (K : gK) (d : Nat) (l0 : Nat) (l1 : Int32) (G3 : gH) : Option gO := rR G3 l0 0 2 (t_131_0_54 K d G3 l0 l1)
noncomputable def t_131_0_56 (K : gK) (d : Nat) (l0 : Nat) (l1 : Int32) (v2 : Int32) (G1 : gH) : Option gO := cV (gCa K d 149 [.int v2] G1) (t_131_0_55 K d l0 l1)
noncomputable def t_131_0 (K : gK) (d : Nat) (l0 : Nat) (l1 : Int32) (G : gH) : Option gO := cI (gCa K d 148 [.int l1, .int (1 : Int32), .int (50 : Int32)] G) (t_131_0_56 K d l0 l1)
theorem e_131_0 {K : gK} {d : Nat} {l0 : Nat} {l1 : Int32} {G : gH} : gle (t_131_0 K d l0 l1 G) (gRn K d 131 0 [some (.ref l0), some (.int l1), none, none, none, none, none] [] G) := by
  unfold t_131_0
  refine g_iload ((q_131 _).trans rfl) rfl ?_
  refine g_push ((q_131 _).trans rfl) ?_
  refine g_push ((q_131 _).trans rfl) ?_
  refine g_callS (kk := 3) ((q_131 _).trans rfl) (gHn m_131) (by exact ⟨Nat.le_of_ble_eq_true rfl, Nat.le_of_ble_eq_true rfl, rfl⟩) rfl (fun w G1 => gm_I (fun v2 hw => ?_))
  subst hw
  refine g_callS (kk := 1) ((q_131 _).trans rfl) (gHn m_131) (by exact ⟨Nat.le_of_ble_eq_true rfl, Nat.le_of_ble_eq_true rfl, rfl⟩) rfl (fun w G3 => gm_V (fun hw => ?_))
  subst hw
  refine g_aload ((q_131 _).trans rfl) rfl ?_
  refine g_getR ((q_131 _).trans rfl) (fun a5 => ?_)
  refine g_callV (kk := 0) ((q_131 _).trans rfl) (gHn m_131) rfl (by exact ⟨Nat.le_of_ble_eq_true rfl, rfl⟩) rfl (fun w G6 => gm_I (fun v7 hw => ?_))
  subst hw
  refine g_ifne ((q_131 _).trans rfl) (fun _ => ?_) (fun _ => ?_)
  · refine g_push ((q_131 _).trans rfl) ?_
    refine g_goto ((q_131 _).trans rfl) ?_
    refine g_callS (kk := 1) ((q_131 _).trans rfl) (gHn m_131) (by exact ⟨Nat.le_of_ble_eq_true rfl, Nat.le_of_ble_eq_true rfl, rfl⟩) rfl (fun w G8 => gm_V (fun hw => ?_))
    subst hw
    refine g_iload ((q_131 _).trans rfl) rfl ?_
    refine g_aload ((q_131 _).trans rfl) rfl ?_
    refine g_getR ((q_131 _).trans rfl) (fun a10 => ?_)
    refine g_getI ((q_131 _).trans rfl) (fun v11 => ?_)
    refine g_imul ((q_131 _).trans rfl) ?_
    refine g_aload ((q_131 _).trans rfl) rfl ?_
    refine g_getI ((q_131 _).trans rfl) (fun v12 => ?_)
    refine g_ifeq ((q_131 _).trans rfl) (fun _ => ?_) (fun _ => ?_)
    · refine g_push ((q_131 _).trans rfl) ?_
      refine g_imul ((q_131 _).trans rfl) ?_
      refine g_istore ((q_131 _).trans rfl) ?_
      refine g_iload ((q_131 _).trans rfl) rfl ?_
      refine g_aload ((q_131 _).trans rfl) rfl ?_
      refine g_getI ((q_131 _).trans rfl) (fun v13 => ?_)
      refine g_cmpgt ((q_131 _).trans rfl) (fun _ => ?_) (fun _ => ?_)
      · refine g_push ((q_131 _).trans rfl) ?_
        refine g_callS (kk := 1) ((q_131 _).trans rfl) (gHn m_131) (by exact ⟨Nat.le_of_ble_eq_true rfl, Nat.le_of_ble_eq_true rfl, rfl⟩) rfl (fun w G14 => gm_V (fun hw => ?_))
        subst hw
        refine g_aload ((q_131 _).trans rfl) rfl ?_
        refine g_dup_ref ((q_131 _).trans rfl) ?_
        refine g_getI ((q_131 _).trans rfl) (fun v16 => ?_)
        refine g_iload ((q_131 _).trans rfl) rfl ?_
        refine g_isub ((q_131 _).trans rfl) ?_
        refine g_putf ((q_131 _).trans rfl) (fun G17 => ?_)
        refine g_push ((q_131 _).trans rfl) ?_
        refine g_istore ((q_131 _).trans rfl) ?_
        exact gle.rf _
      · refine g_aload ((q_131 _).trans rfl) rfl ?_
        refine g_iload ((q_131 _).trans rfl) rfl ?_
        refine g_callV (kk := 1) ((q_131 _).trans rfl) (gHn m_131) rfl (by exact ⟨Nat.le_of_ble_eq_true rfl, rfl⟩) rfl (fun w G18 => gm_I (fun v19 hw => ?_))
        subst hw
        refine g_ifeq ((q_131 _).trans rfl) (fun _ => ?_) (fun _ => ?_)
        · refine g_push ((q_131 _).trans rfl) ?_
          refine g_callS (kk := 1) ((q_131 _).trans rfl) (gHn m_131) (by exact ⟨Nat.le_of_ble_eq_true rfl, Nat.le_of_ble_eq_true rfl, rfl⟩) rfl (fun w G20 => gm_V (fun hw => ?_))
          subst hw
          refine g_aload ((q_131 _).trans rfl) rfl ?_
          refine g_dup_ref ((q_131 _).trans rfl) ?_
          refine g_getI ((q_131 _).trans rfl) (fun v22 => ?_)
          refine g_iload ((q_131 _).trans rfl) rfl ?_
          refine g_isub ((q_131 _).trans rfl) ?_
          refine g_putf ((q_131 _).trans rfl) (fun G23 => ?_)
          refine g_push ((q_131 _).trans rfl) ?_
          refine g_istore ((q_131 _).trans rfl) ?_
          exact gle.rf _
        · refine g_push ((q_131 _).trans rfl) ?_
          refine g_goto ((q_131 _).trans rfl) ?_
          refine g_callS (kk := 1) ((q_131 _).trans rfl) (gHn m_131) (by exact ⟨Nat.le_of_ble_eq_true rfl, Nat.le_of_ble_eq_true rfl, rfl⟩) rfl (fun w G24 => gm_V (fun hw => ?_))
          subst hw
          refine g_aload ((q_131 _).trans rfl) rfl ?_
          refine g_dup_ref ((q_131 _).trans rfl) ?_
          refine g_getI ((q_131 _).trans rfl) (fun v26 => ?_)
          refine g_iload ((q_131 _).trans rfl) rfl ?_
          refine g_isub ((q_131 _).trans rfl) ?_
          refine g_putf ((q_131 _).trans rfl) (fun G27 => ?_)
          refine g_push ((q_131 _).trans rfl) ?_
          refine g_istore ((q_131 _).trans rfl) ?_
          exact gle.rf _
    · refine g_push ((q_131 _).trans rfl) ?_
      refine g_goto ((q_131 _).trans rfl) ?_
      refine g_imul ((q_131 _).trans rfl) ?_
      refine g_istore ((q_131 _).trans rfl) ?_
      refine g_iload ((q_131 _).trans rfl) rfl ?_
      refine g_aload ((q_131 _).trans rfl) rfl ?_
      refine g_getI ((q_131 _).trans rfl) (fun v28 => ?_)
      refine g_cmpgt ((q_131 _).trans rfl) (fun _ => ?_) (fun _ => ?_)
      · refine g_push ((q_131 _).trans rfl) ?_
        refine g_callS (kk := 1) ((q_131 _).trans rfl) (gHn m_131) (by exact ⟨Nat.le_of_ble_eq_true rfl, Nat.le_of_ble_eq_true rfl, rfl⟩) rfl (fun w G29 => gm_V (fun hw => ?_))
        subst hw
        refine g_aload ((q_131 _).trans rfl) rfl ?_
        refine g_dup_ref ((q_131 _).trans rfl) ?_
        refine g_getI ((q_131 _).trans rfl) (fun v31 => ?_)
        refine g_iload ((q_131 _).trans rfl) rfl ?_
        refine g_isub ((q_131 _).trans rfl) ?_
        refine g_putf ((q_131 _).trans rfl) (fun G32 => ?_)
        refine g_push ((q_131 _).trans rfl) ?_
        refine g_istore ((q_131 _).trans rfl) ?_
        exact gle.rf _
      · refine g_aload ((q_131 _).trans rfl) rfl ?_
        refine g_iload ((q_131 _).trans rfl) rfl ?_
        refine g_callV (kk := 1) ((q_131 _).trans rfl) (gHn m_131) rfl (by exact ⟨Nat.le_of_ble_eq_true rfl, rfl⟩) rfl (fun w G33 => gm_I (fun v34 hw => ?_))
        subst hw
        refine g_ifeq ((q_131 _).trans rfl) (fun _ => ?_) (fun _ => ?_)
        · refine g_push ((q_131 _).trans rfl) ?_
          refine g_callS (kk := 1) ((q_131 _).trans rfl) (gHn m_131) (by exact ⟨Nat.le_of_ble_eq_true rfl, Nat.le_of_ble_eq_true rfl, rfl⟩) rfl (fun w G35 => gm_V (fun hw => ?_))
          subst hw
          refine g_aload ((q_131 _).trans rfl) rfl ?_
          refine g_dup_ref ((q_131 _).trans rfl) ?_
          refine g_getI ((q_131 _).trans rfl) (fun v37 => ?_)
          refine g_iload ((q_131 _).trans rfl) rfl ?_
          refine g_isub ((q_131 _).trans rfl) ?_
          refine g_putf ((q_131 _).trans rfl) (fun G38 => ?_)
          refine g_push ((q_131 _).trans rfl) ?_
          refine g_istore ((q_131 _).trans rfl) ?_
          exact gle.rf _
        · refine g_push ((q_131 _).trans rfl) ?_
          refine g_goto ((q_131 _).trans rfl) ?_
          refine g_callS (kk := 1) ((q_131 _).trans rfl) (gHn m_131) (by exact ⟨Nat.le_of_ble_eq_true rfl, Nat.le_of_ble_eq_true rfl, rfl⟩) rfl (fun w G39 => gm_V (fun hw => ?_))
          subst hw
          refine g_aload ((q_131 _).trans rfl) rfl ?_
          refine g_dup_ref ((q_131 _).trans rfl) ?_
          refine g_getI ((q_131 _).trans rfl) (fun v41 => ?_)
          refine g_iload ((q_131 _).trans rfl) rfl ?_
          refine g_isub ((q_131 _).trans rfl) ?_
          refine g_putf ((q_131 _).trans rfl) (fun G42 => ?_)
          refine g_push ((q_131 _).trans rfl) ?_
          refine g_istore ((q_131 _).trans rfl) ?_
          exact gle.rf _
  · refine g_push ((q_131 _).trans rfl) ?_
    refine g_callS (kk := 1) ((q_131 _).trans rfl) (gHn m_131) (by exact ⟨Nat.le_of_ble_eq_true rfl, Nat.le_of_ble_eq_true rfl, rfl⟩) rfl (fun w G43 => gm_V (fun hw => ?_))
    subst hw
    refine g_iload ((q_131 _).trans rfl) rfl ?_
    refine g_aload ((q_131 _).trans rfl) rfl ?_
    refine g_getR ((q_131 _).trans rfl) (fun a45 => ?_)
    refine g_getI ((q_131 _).trans rfl) (fun v46 => ?_)
    refine g_imul ((q_131 _).trans rfl) ?_
    refine g_aload ((q_131 _).trans rfl) rfl ?_
    refine g_getI ((q_131 _).trans rfl) (fun v47 => ?_)
    refine g_ifeq ((q_131 _).trans rfl) (fun _ => ?_) (fun _ => ?_)
    · refine g_push ((q_131 _).trans rfl) ?_
      refine g_imul ((q_131 _).trans rfl) ?_
      refine g_istore ((q_131 _).trans rfl) ?_
      refine g_iload ((q_131 _).trans rfl) rfl ?_
      refine g_aload ((q_131 _).trans rfl) rfl ?_
      refine g_getI ((q_131 _).trans rfl) (fun v48 => ?_)
      refine g_cmpgt ((q_131 _).trans rfl) (fun _ => ?_) (fun _ => ?_)
      · refine g_push ((q_131 _).trans rfl) ?_
        refine g_callS (kk := 1) ((q_131 _).trans rfl) (gHn m_131) (by exact ⟨Nat.le_of_ble_eq_true rfl, Nat.le_of_ble_eq_true rfl, rfl⟩) rfl (fun w G49 => gm_V (fun hw => ?_))
        subst hw
        refine g_aload ((q_131 _).trans rfl) rfl ?_
        refine g_dup_ref ((q_131 _).trans rfl) ?_
        refine g_getI ((q_131 _).trans rfl) (fun v51 => ?_)
        refine g_iload ((q_131 _).trans rfl) rfl ?_
        refine g_isub ((q_131 _).trans rfl) ?_
        refine g_putf ((q_131 _).trans rfl) (fun G52 => ?_)
        refine g_push ((q_131 _).trans rfl) ?_
        refine g_istore ((q_131 _).trans rfl) ?_
        exact gle.rf _
      · refine g_aload ((q_131 _).trans rfl) rfl ?_
        refine g_iload ((q_131 _).trans rfl) rfl ?_
        refine g_callV (kk := 1) ((q_131 _).trans rfl) (gHn m_131) rfl (by exact ⟨Nat.le_of_ble_eq_true rfl, rfl⟩) rfl (fun w G53 => gm_I (fun v54 hw => ?_))
        subst hw
        refine g_ifeq ((q_131 _).trans rfl) (fun _ => ?_) (fun _ => ?_)
        · refine g_push ((q_131 _).trans rfl) ?_
          refine g_callS (kk := 1) ((q_131 _).trans rfl) (gHn m_131) (by exact ⟨Nat.le_of_ble_eq_true rfl, Nat.le_of_ble_eq_true rfl, rfl⟩) rfl (fun w G55 => gm_V (fun hw => ?_))
          subst hw
          refine g_aload ((q_131 _).trans rfl) rfl ?_
          refine g_dup_ref ((q_131 _).trans rfl) ?_
          refine g_getI ((q_131 _).trans rfl) (fun v57 => ?_)
          refine g_iload ((q_131 _).trans rfl) rfl ?_
          refine g_isub ((q_131 _).trans rfl) ?_
          refine g_putf ((q_131 _).trans rfl) (fun G58 => ?_)
          refine g_push ((q_131 _).trans rfl) ?_
          refine g_istore ((q_131 _).trans rfl) ?_
          exact gle.rf _
        · refine g_push ((q_131 _).trans rfl) ?_
          refine g_goto ((q_131 _).trans rfl) ?_
          refine g_callS (kk := 1) ((q_131 _).trans rfl) (gHn m_131) (by exact ⟨Nat.le_of_ble_eq_true rfl, Nat.le_of_ble_eq_true rfl, rfl⟩) rfl (fun w G59 => gm_V (fun hw => ?_))
          subst hw
          refine g_aload ((q_131 _).trans rfl) rfl ?_
          refine g_dup_ref ((q_131 _).trans rfl) ?_
          refine g_getI ((q_131 _).trans rfl) (fun v61 => ?_)
          refine g_iload ((q_131 _).trans rfl) rfl ?_
          refine g_isub ((q_131 _).trans rfl) ?_
          refine g_putf ((q_131 _).trans rfl) (fun G62 => ?_)
          refine g_push ((q_131 _).trans rfl) ?_
          refine g_istore ((q_131 _).trans rfl) ?_
          exact gle.rf _
    · refine g_push ((q_131 _).trans rfl) ?_
      refine g_goto ((q_131 _).trans rfl) ?_
      refine g_imul ((q_131 _).trans rfl) ?_
      refine g_istore ((q_131 _).trans rfl) ?_
      refine g_iload ((q_131 _).trans rfl) rfl ?_
      refine g_aload ((q_131 _).trans rfl) rfl ?_
      refine g_getI ((q_131 _).trans rfl) (fun v63 => ?_)
      refine g_cmpgt ((q_131 _).trans rfl) (fun _ => ?_) (fun _ => ?_)
      · refine g_push ((q_131 _).trans rfl) ?_
        refine g_callS (kk := 1) ((q_131 _).trans rfl) (gHn m_131) (by exact ⟨Nat.le_of_ble_eq_true rfl, Nat.le_of_ble_eq_true rfl, rfl⟩) rfl (fun w G64 => gm_V (fun hw => ?_))
        subst hw
        refine g_aload ((q_131 _).trans rfl) rfl ?_
        refine g_dup_ref ((q_131 _).trans rfl) ?_
        refine g_getI ((q_131 _).trans rfl) (fun v66 => ?_)
        refine g_iload ((q_131 _).trans rfl) rfl ?_
        refine g_isub ((q_131 _).trans rfl) ?_
        refine g_putf ((q_131 _).trans rfl) (fun G67 => ?_)
        refine g_push ((q_131 _).trans rfl) ?_
        refine g_istore ((q_131 _).trans rfl) ?_
        exact gle.rf _
      · refine g_aload ((q_131 _).trans rfl) rfl ?_
        refine g_iload ((q_131 _).trans rfl) rfl ?_
        refine g_callV (kk := 1) ((q_131 _).trans rfl) (gHn m_131) rfl (by exact ⟨Nat.le_of_ble_eq_true rfl, rfl⟩) rfl (fun w G68 => gm_I (fun v69 hw => ?_))
        subst hw
        refine g_ifeq ((q_131 _).trans rfl) (fun _ => ?_) (fun _ => ?_)
        · refine g_push ((q_131 _).trans rfl) ?_
          refine g_callS (kk := 1) ((q_131 _).trans rfl) (gHn m_131) (by exact ⟨Nat.le_of_ble_eq_true rfl, Nat.le_of_ble_eq_true rfl, rfl⟩) rfl (fun w G70 => gm_V (fun hw => ?_))
          subst hw
          refine g_aload ((q_131 _).trans rfl) rfl ?_
          refine g_dup_ref ((q_131 _).trans rfl) ?_
          refine g_getI ((q_131 _).trans rfl) (fun v72 => ?_)
          refine g_iload ((q_131 _).trans rfl) rfl ?_
          refine g_isub ((q_131 _).trans rfl) ?_
          refine g_putf ((q_131 _).trans rfl) (fun G73 => ?_)
          refine g_push ((q_131 _).trans rfl) ?_
          refine g_istore ((q_131 _).trans rfl) ?_
          exact gle.rf _
        · refine g_push ((q_131 _).trans rfl) ?_
          refine g_goto ((q_131 _).trans rfl) ?_
          refine g_callS (kk := 1) ((q_131 _).trans rfl) (gHn m_131) (by exact ⟨Nat.le_of_ble_eq_true rfl, Nat.le_of_ble_eq_true rfl, rfl⟩) rfl (fun w G74 => gm_V (fun hw => ?_))
          subst hw
          refine g_aload ((q_131 _).trans rfl) rfl ?_
          refine g_dup_ref ((q_131 _).trans rfl) ?_
          refine g_getI ((q_131 _).trans rfl) (fun v76 => ?_)
          refine g_iload ((q_131 _).trans rfl) rfl ?_
          refine g_isub ((q_131 _).trans rfl) ?_
          refine g_putf ((q_131 _).trans rfl) (fun G77 => ?_)
          refine g_push ((q_131 _).trans rfl) ?_
          refine g_istore ((q_131 _).trans rfl) ?_
          exact gle.rf _
theorem c_131 {K : gK} {d : Nat} {l0 : Nat} {l1 : Int32} {G : gH} : gle (t_131_0 K d l0 l1 G) (gCa K (d + 1) 131 [.ref l0, .int l1] G) := by
  have h : gent (gMx 131) [.ref l0, .int l1] = [some (.ref l0), some (.int l1), none, none, none, none, none] := by
    show gent (gT 131).2.2.2.1 _ = _
    rw [m_131]; rfl
  exact fun r e => (congrArg (fun q => gRn K d 131 0 q [] G) h).trans (e_131_0 r e)
noncomputable def t_131_89_1 (K : gK) (d : Nat) (G2 : gH) (v4 : Int32) : Option gO := some (.inl (some (.int v4)), G2)
noncomputable def t_131_89_2 (K : gK) (d : Nat) (l0 : Nat) (l1 : Int32) (l2 : Int32) (l3 : Int32) (a7 : Nat) (v9 : Int32) (v11 : Int32) (G19 : gH) : Option gO := gRn K d 131 89 [some (.ref l0), some (.int l1), some (.int l2), some (.int (l3 + 1)), some (.ref a7), some (.int (l1 * v9)), some (.int (l1 * v11))] [] G19
noncomputable def t_131_89_3 (K : gK) (d : Nat) (l1 : Int32) (v9 : Int32) (v11 : Int32) (G17 : gH) (l0 : Nat) (l2 : Int32) (l3 : Int32) (a7 : Nat) (j18 : Int64) : Option gO := if narrow .long (.long (j18 + (((l1 * v9) + (l1 * v11))).toInt64)) = .long (j18 + (((l1 * v9) + (l1 * v11))).toInt64) ∧ fits .long (.long (j18 + (((l1 * v9) + (l1 * v11))).toInt64)) = true then wF G17 l0 0 15 (.long (j18 + (((l1 * v9) + (l1 * v11))).toInt64)) (t_131_89_2 K d l0 l1 l2 l3 a7 v9 v11) else none
noncomputable def t_131_89_4 (K : gK) (d : Nat) (l0 : Nat) (l1 : Int32) (v9 : Int32) (v11 : Int32) (l2 : Int32) (l3 : Int32) (a7 : Nat) (G17 : gH) : Option gO := rJ G17 l0 0 15 (t_131_89_3 K d l1 v9 v11 G17 l0 l2 l3 a7)
noncomputable def t_131_89_5 (K : gK) (d : Nat) (l0 : Nat) (l1 : Int32) (l2 : Int32) (l3 : Int32) (a7 : Nat) (v9 : Int32) (v11 : Int32) (G22 : gH) : Option gO := gRn K d 131 89 [some (.ref l0), some (.int l1), some (.int l2), some (.int (l3 + 1)), some (.ref a7), some (.int (l1 * v9)), some (.int (l1 * v11))] [] G22
noncomputable def t_131_89_6 (K : gK) (d : Nat) (l1 : Int32) (v9 : Int32) (v11 : Int32) (G20 : gH) (l0 : Nat) (l2 : Int32) (l3 : Int32) (a7 : Nat) (j21 : Int64) : Option gO := if narrow .long (.long (j21 + (((l1 * v9) + (l1 * v11))).toInt64)) = .long (j21 + (((l1 * v9) + (l1 * v11))).toInt64) ∧ fits .long (.long (j21 + (((l1 * v9) + (l1 * v11))).toInt64)) = true then wF G20 l0 0 15 (.long (j21 + (((l1 * v9) + (l1 * v11))).toInt64)) (t_131_89_5 K d l0 l1 l2 l3 a7 v9 v11) else none
noncomputable def t_131_89_7 (K : gK) (d : Nat) (l0 : Nat) (l1 : Int32) (v9 : Int32) (v11 : Int32) (l2 : Int32) (l3 : Int32) (a7 : Nat) (G20 : gH) : Option gO := rJ G20 l0 0 15 (t_131_89_6 K d l1 v9 v11 G20 l0 l2 l3 a7)
noncomputable def t_131_89_8 (K : gK) (d : Nat) (l1 : Int32) (v9 : Int32) (v11 : Int32) (G15 : gH) (a7 : Nat) (l0 : Nat) (l2 : Int32) (l3 : Int32) (v16 : Int32) : Option gO := if ((l1 * v9) + (l1 * v11)) ≤ 0 then (if narrow .boolean (.int (v16 ||| (0 : Int32))) = .int (v16 ||| (0 : Int32)) ∧ fits .boolean (.int (v16 ||| (0 : Int32))) = true then wF G15 a7 4 7 (.int (v16 ||| (0 : Int32))) (t_131_89_4 K d l0 l1 v9 v11 l2 l3 a7) else none) else (if narrow .boolean (.int (v16 ||| (1 : Int32))) = .int (v16 ||| (1 : Int32)) ∧ fits .boolean (.int (v16 ||| (1 : Int32))) = true then wF G15 a7 4 7 (.int (v16 ||| (1 : Int32))) (t_131_89_7 K d l0 l1 v9 v11 l2 l3 a7) else none)
noncomputable def t_131_89_9 (K : gK) (d : Nat) (a7 : Nat) (l1 : Int32) (v9 : Int32) (v11 : Int32) (l0 : Nat) (l2 : Int32) (l3 : Int32) (G15 : gH) : Option gO := rI G15 a7 4 7 (t_131_89_8 K d l1 v9 v11 G15 a7 l0 l2 l3)
noncomputable def t_131_89_10 (K : gK) (d : Nat) (l1 : Int32) (v11 : Int32) (G13 : gH) (a7 : Nat) (v9 : Int32) (l0 : Nat) (l2 : Int32) (l3 : Int32) (v14 : Int32) : Option gO := if narrow .int (.int (v14 + (l1 * v11))) = .int (v14 + (l1 * v11)) ∧ fits .int (.int (v14 + (l1 * v11))) = true then wF G13 a7 4 6 (.int (v14 + (l1 * v11))) (t_131_89_9 K d a7 l1 v9 v11 l0 l2 l3) else none
noncomputable def t_131_89_11 (K : gK) (d : Nat) (a7 : Nat) (l1 : Int32) (v11 : Int32) (v9 : Int32) (l0 : Nat) (l2 : Int32) (l3 : Int32) (G13 : gH) : Option gO := rI G13 a7 4 6 (t_131_89_10 K d l1 v11 G13 a7 v9 l0 l2 l3)
noncomputable def t_131_89_12 (K : gK) (d : Nat) (l1 : Int32) (v9 : Int32) (G10 : gH) (a7 : Nat) (v11 : Int32) (l0 : Nat) (l2 : Int32) (l3 : Int32) (v12 : Int32) : Option gO := if narrow .int (.int (v12 + (l1 * v9))) = .int (v12 + (l1 * v9)) ∧ fits .int (.int (v12 + (l1 * v9))) = true then wF G10 a7 4 5 (.int (v12 + (l1 * v9))) (t_131_89_11 K d a7 l1 v11 v9 l0 l2 l3) else none
noncomputable def t_131_89_13 (K : gK) (d : Nat) (a7 : Nat) (l1 : Int32) (v9 : Int32) (l0 : Nat) (l2 : Int32) (l3 : Int32) (v11 : Int32) (G10 : gH) : Option gO := rI G10 a7 4 5 (t_131_89_12 K d l1 v9 G10 a7 v11 l0 l2 l3)
noncomputable def t_131_89_14 (K : gK) (d : Nat) (l0 : Nat) (a7 : Nat) (l1 : Int32) (l2 : Int32) (l3 : Int32) (v9 : Int32) (G8 : gH) : Option gO := if g_cls G8 l0 = some 0 then (cI (gCa K d 188 [.ref l0, .ref a7, .int (1 : Int32)] G8) (t_131_89_13 K d a7 l1 v9 l0 l2 l3)) else none
noncomputable def t_131_89_15 (K : gK) (d : Nat) (l0 : Nat) (l1 : Int32) (l2 : Int32) (l3 : Int32) (a7 : Nat) (G6 : gH) : Option gO := if g_cls G6 a7 = some 4 then (if g_cls G6 l0 = some 0 then (cI (gCa K d 188 [.ref l0, .ref a7, .int (0 : Int32)] G6) (t_131_89_14 K d l0 a7 l1 l2 l3)) else none) else none
noncomputable def t_131_89_16 (K : gK) (d : Nat) (G2 : gH) (l3 : Int32) (l0 : Nat) (l1 : Int32) (l2 : Int32) (a5 : Nat) : Option gO := if g_cls G2 a5 = some 12 then (cR (gCa K d 178 [.ref a5, .int l3] G2) (t_131_89_15 K d l0 l1 l2 l3)) else none
noncomputable def t_131_89_17 (K : gK) (d : Nat) (l3 : Int32) (l0 : Nat) (l1 : Int32) (l2 : Int32) (v3 : Int32) (G2 : gH) : Option gO := if v3 ≤ l3 then (rI G2 l0 0 14 (t_131_89_1 K d G2)) else (rR G2 l0 0 0 (t_131_89_16 K d G2 l3 l0 l1 l2))
noncomputable def t_131_89_18 (K : gK) (d : Nat) (G : gH) (l3 : Int32) (l0 : Nat) (l1 : Int32) (l2 : Int32) (a1 : Nat) : Option gO := if g_cls G a1 = some 12 then (cI (gCa K d 110 [.ref a1] G) (t_131_89_17 K d l3 l0 l1 l2)) else none
noncomputable def t_131_89 (K : gK) (d : Nat) (l0 : Nat) (l1 : Int32) (l2 : Int32) (l3 : Int32) (o4 : Option Value) (o5 : Option Value) (o6 : Option Value) (G : gH) : Option gO := rR G l0 0 0 (t_131_89_18 K d G l3 l0 l1 l2)
theorem e_131_89 {K : gK} {d : Nat} {l0 : Nat} {l1 : Int32} {l2 : Int32} {l3 : Int32} {o4 : Option Value} {o5 : Option Value} {o6 : Option Value} {G : gH} : gle (t_131_89 K d l0 l1 l2 l3 o4 o5 o6 G) (gRn K d 131 89 [some (.ref l0), some (.int l1), some (.int l2), some (.int l3), o4, o5, o6] [] G) := by
  unfold t_131_89
  refine g_iload ((q_131 _).trans rfl) rfl ?_
  refine g_aload ((q_131 _).trans rfl) rfl ?_
  refine g_getR ((q_131 _).trans rfl) (fun a1 => ?_)
  refine g_callV (kk := 0) ((q_131 _).trans rfl) (gHn m_131) rfl (by exact ⟨Nat.le_of_ble_eq_true rfl, rfl⟩) rfl (fun w G2 => gm_I (fun v3 hw => ?_))
  subst hw
  refine g_cmpge ((q_131 _).trans rfl) (fun _ => ?_) (fun _ => ?_)
  · refine g_aload ((q_131 _).trans rfl) rfl ?_
    refine g_getI ((q_131 _).trans rfl) (fun v4 => ?_)
    exact g_iret ((q_131 _).trans rfl)
  · refine g_aload ((q_131 _).trans rfl) rfl ?_
    refine g_getR ((q_131 _).trans rfl) (fun a5 => ?_)
    refine g_iload ((q_131 _).trans rfl) rfl ?_
    refine g_callV (kk := 1) ((q_131 _).trans rfl) (gHn m_131) rfl (by exact ⟨Nat.le_of_ble_eq_true rfl, rfl⟩) rfl (fun w G6 => gm_R (fun a7 hw => ?_))
    subst hw
    refine g_ccast ((q_131 _).trans rfl) ?_
    refine g_astore ((q_131 _).trans rfl) ?_
    refine g_iload ((q_131 _).trans rfl) rfl ?_
    refine g_aload ((q_131 _).trans rfl) rfl ?_
    refine g_aload ((q_131 _).trans rfl) rfl ?_
    refine g_push ((q_131 _).trans rfl) ?_
    refine g_callV (kk := 2) ((q_131 _).trans rfl) (gHn m_131) rfl (by exact ⟨Nat.le_of_ble_eq_true rfl, rfl⟩) rfl (fun w G8 => gm_I (fun v9 hw => ?_))
    subst hw
    refine g_imul ((q_131 _).trans rfl) ?_
    refine g_istore ((q_131 _).trans rfl) ?_
    refine g_iload ((q_131 _).trans rfl) rfl ?_
    refine g_aload ((q_131 _).trans rfl) rfl ?_
    refine g_aload ((q_131 _).trans rfl) rfl ?_
    refine g_push ((q_131 _).trans rfl) ?_
    refine g_callV (kk := 2) ((q_131 _).trans rfl) (gHn m_131) rfl (by exact ⟨Nat.le_of_ble_eq_true rfl, rfl⟩) rfl (fun w G10 => gm_I (fun v11 hw => ?_))
    subst hw
    refine g_imul ((q_131 _).trans rfl) ?_
    refine g_istore ((q_131 _).trans rfl) ?_
    refine g_aload ((q_131 _).trans rfl) rfl ?_
    refine g_dup_ref ((q_131 _).trans rfl) ?_
    refine g_getI ((q_131 _).trans rfl) (fun v12 => ?_)
    refine g_iload ((q_131 _).trans rfl) rfl ?_
    refine g_iadd ((q_131 _).trans rfl) ?_
    refine g_putf ((q_131 _).trans rfl) (fun G13 => ?_)
    refine g_aload ((q_131 _).trans rfl) rfl ?_
    refine g_dup_ref ((q_131 _).trans rfl) ?_
    refine g_getI ((q_131 _).trans rfl) (fun v14 => ?_)
    refine g_iload ((q_131 _).trans rfl) rfl ?_
    refine g_iadd ((q_131 _).trans rfl) ?_
    refine g_putf ((q_131 _).trans rfl) (fun G15 => ?_)
    refine g_aload ((q_131 _).trans rfl) rfl ?_
    refine g_dup_ref ((q_131 _).trans rfl) ?_
    refine g_getI ((q_131 _).trans rfl) (fun v16 => ?_)
    refine g_iload ((q_131 _).trans rfl) rfl ?_
    refine g_iload ((q_131 _).trans rfl) rfl ?_
    refine g_iadd ((q_131 _).trans rfl) ?_
    refine g_ifle ((q_131 _).trans rfl) (fun _ => ?_) (fun _ => ?_)
    · refine g_push ((q_131 _).trans rfl) ?_
      refine g_ior ((q_131 _).trans rfl) ?_
      refine g_putf ((q_131 _).trans rfl) (fun G17 => ?_)
      refine g_aload ((q_131 _).trans rfl) rfl ?_
      refine g_dup_ref ((q_131 _).trans rfl) ?_
      refine g_getJ ((q_131 _).trans rfl) (fun j18 => ?_)
      refine g_iload ((q_131 _).trans rfl) rfl ?_
      refine g_iload ((q_131 _).trans rfl) rfl ?_
      refine g_iadd ((q_131 _).trans rfl) ?_
      refine g_i2l ((q_131 _).trans rfl) ?_
      refine g_ladd ((q_131 _).trans rfl) ?_
      refine g_putf ((q_131 _).trans rfl) (fun G19 => ?_)
      refine g_iinc ((q_131 _).trans rfl) rfl ?_
      refine g_goto ((q_131 _).trans rfl) ?_
      exact gle.rf _
    · refine g_push ((q_131 _).trans rfl) ?_
      refine g_goto ((q_131 _).trans rfl) ?_
      refine g_ior ((q_131 _).trans rfl) ?_
      refine g_putf ((q_131 _).trans rfl) (fun G20 => ?_)
      refine g_aload ((q_131 _).trans rfl) rfl ?_
      refine g_dup_ref ((q_131 _).trans rfl) ?_
      refine g_getJ ((q_131 _).trans rfl) (fun j21 => ?_)
      refine g_iload ((q_131 _).trans rfl) rfl ?_
      refine g_iload ((q_131 _).trans rfl) rfl ?_
      refine g_iadd ((q_131 _).trans rfl) ?_
      refine g_i2l ((q_131 _).trans rfl) ?_
      refine g_ladd ((q_131 _).trans rfl) ?_
      refine g_putf ((q_131 _).trans rfl) (fun G22 => ?_)
      refine g_iinc ((q_131 _).trans rfl) rfl ?_
      refine g_goto ((q_131 _).trans rfl) ?_
      exact gle.rf _
theorem q_132 {K : gK} (pc : Nat) : gP K 132 pc = ((gL_132 K).lookup pc).getD o_none := rfl
noncomputable def t_132_0_1 (K : gK) (d : Nat) (l1 : Int32) (v2 : Int32) (G1 : gH) (v3 : Int32) : Option gO := if v3 = 0 then (some (.inl (some (.int ((l1 * v2) * (1 : Int32)))), G1)) else (some (.inl (some (.int ((l1 * v2) * (2 : Int32)))), G1))
noncomputable def t_132_0_2 (K : gK) (d : Nat) (l0 : Nat) (l1 : Int32) (v2 : Int32) (G1 : gH) : Option gO := rI G1 l0 3 3 (t_132_0_1 K d l1 v2 G1)
noncomputable def t_132_0 (K : gK) (d : Nat) (l0 : Nat) (l1 : Int32) (G : gH) : Option gO := if g_cls G l0 = some 3 then (cI (gCa K d 109 [.ref l0] G) (t_132_0_2 K d l0 l1)) else none
theorem e_132_0 {K : gK} {d : Nat} {l0 : Nat} {l1 : Int32} {G : gH} : gle (t_132_0 K d l0 l1 G) (gRn K d 132 0 [some (.ref l0), some (.int l1)] [] G) := by
  unfold t_132_0
  refine g_iload ((q_132 _).trans rfl) rfl ?_
  refine g_aload ((q_132 _).trans rfl) rfl ?_
  refine g_callV (kk := 0) ((q_132 _).trans rfl) (gHn m_132) rfl (by exact ⟨Nat.le_of_ble_eq_true rfl, rfl⟩) rfl (fun w G1 => gm_I (fun v2 hw => ?_))
  subst hw
  refine g_imul ((q_132 _).trans rfl) ?_
  refine g_aload ((q_132 _).trans rfl) rfl ?_
  refine g_getI ((q_132 _).trans rfl) (fun v3 => ?_)
  refine g_ifeq ((q_132 _).trans rfl) (fun _ => ?_) (fun _ => ?_)
  · refine g_push ((q_132 _).trans rfl) ?_
    refine g_imul ((q_132 _).trans rfl) ?_
    exact g_iret ((q_132 _).trans rfl)
  · refine g_push ((q_132 _).trans rfl) ?_
    refine g_goto ((q_132 _).trans rfl) ?_
    refine g_imul ((q_132 _).trans rfl) ?_
    exact g_iret ((q_132 _).trans rfl)
theorem c_132 {K : gK} {d : Nat} {l0 : Nat} {l1 : Int32} {G : gH} : gle (t_132_0 K d l0 l1 G) (gCa K (d + 1) 132 [.ref l0, .int l1] G) := by
  have h : gent (gMx 132) [.ref l0, .int l1] = [some (.ref l0), some (.int l1)] := by
    show gent (gT 132).2.2.2.1 _ = _
    rw [m_132]; rfl
  exact fun r e => (congrArg (fun q => gRn K d 132 0 q [] G) h).trans (e_132_0 r e)
theorem q_133 {K : gK} (pc : Nat) : gP K 133 pc = ((gL_133 K).lookup pc).getD o_none := rfl
noncomputable def t_133_0 (K : gK) (d : Nat) (l0 : Nat) (l1 : Int32) (G : gH) : Option gO := gRn K d 133 4 [some (.ref l0), some (.int l1), some (.int (0 : Int32)), some (.int (0 : Int32))] [] G
theorem e_133_0 {K : gK} {d : Nat} {l0 : Nat} {l1 : Int32} {G : gH} : gle (t_133_0 K d l0 l1 G) (gRn K d 133 0 [some (.ref l0), some (.int l1), none, none] [] G) := by
  unfold t_133_0
  refine g_push ((q_133 _).trans rfl) ?_
  refine g_istore ((q_133 _).trans rfl) ?_
  refine g_push ((q_133 _).trans rfl) ?_
  refine g_istore ((q_133 _).trans rfl) ?_
  exact gle.rf _
theorem c_133 {K : gK} {d : Nat} {l0 : Nat} {l1 : Int32} {G : gH} : gle (t_133_0 K d l0 l1 G) (gCa K (d + 1) 133 [.ref l0, .int l1] G) := by
  have h : gent (gMx 133) [.ref l0, .int l1] = [some (.ref l0), some (.int l1), none, none] := by
    show gent (gT 133).2.2.2.1 _ = _
    rw [m_133]; rfl
  exact fun r e => (congrArg (fun q => gRn K d 133 0 q [] G) h).trans (e_133_0 r e)
noncomputable def t_133_4_1 (K : gK) (d : Nat) (v3 : Int32) (l1 : Int32) (l0 : Nat) (l3 : Int32) (v5 : Int32) (G4 : gH) : Option gO := if (v3 + (l1 * v5)) ≤ (9999 : Int32) then (gRn K d 133 4 [some (.ref l0), some (.int l1), some (.int (0 : Int32)), some (.int (l3 + 1))] [] G4) else (gRn K d 133 4 [some (.ref l0), some (.int l1), some (.int (1 : Int32)), some (.int (l3 + 1))] [] G4)
noncomputable def t_133_4_2 (K : gK) (d : Nat) (v3 : Int32) (l1 : Int32) (l0 : Nat) (l3 : Int32) (v7 : Int32) (G6 : gH) : Option gO := if (v3 + (l1 * v7)) ≤ (9999 : Int32) then (gRn K d 133 4 [some (.ref l0), some (.int l1), some (.int (0 : Int32)), some (.int (l3 + 1))] [] G6) else (gRn K d 133 4 [some (.ref l0), some (.int l1), some (.int (1 : Int32)), some (.int (l3 + 1))] [] G6)
noncomputable def t_133_4_3 (K : gK) (d : Nat) (l3 : Int32) (G : gH) (l0 : Nat) (l1 : Int32) (v3 : Int32) : Option gO := if (2 : Int32) = 0 then none else (if (2 : Int32) = 0 then none else (if (l3 - l3 / (2 : Int32) * (2 : Int32)) = (1 : Int32) then (if g_cls G l0 = some 3 then (cI (gCa K d 134 [.ref l0, .int (l3 / (2 : Int32)), .int (1 : Int32)] G) (t_133_4_1 K d v3 l1 l0 l3)) else none) else (if g_cls G l0 = some 3 then (cI (gCa K d 134 [.ref l0, .int (l3 / (2 : Int32)), .int (0 : Int32)] G) (t_133_4_2 K d v3 l1 l0 l3)) else none)))
noncomputable def t_133_4_4 (K : gK) (d : Nat) (G : gH) (l3 : Int32) (l0 : Nat) (l1 : Int32) (a2 : Nat) : Option gO := xI G a2 0 l3 (t_133_4_3 K d l3 G l0 l1)
noncomputable def t_133_4_5 (K : gK) (d : Nat) (l3 : Int32) (l2 : Int32) (G : gH) (l0 : Nat) (l1 : Int32) (v1 : Int32) : Option gO := if ((2 : Int32) * v1) ≤ l3 then (if narrow .boolean (.int l2) = .int l2 then some (.inl (some (.int l2)), G) else none) else (if l2 = 0 then (rR G l0 3 16 (t_133_4_4 K d G l3 l0 l1)) else (gRn K d 133 4 [some (.ref l0), some (.int l1), some (.int (1 : Int32)), some (.int (l3 + 1))] [] G))
noncomputable def t_133_4 (K : gK) (d : Nat) (l0 : Nat) (l1 : Int32) (l2 : Int32) (l3 : Int32) (G : gH) : Option gO := rI G l0 3 7 (t_133_4_5 K d l3 l2 G l0 l1)
theorem e_133_4 {K : gK} {d : Nat} {l0 : Nat} {l1 : Int32} {l2 : Int32} {l3 : Int32} {G : gH} : gle (t_133_4 K d l0 l1 l2 l3 G) (gRn K d 133 4 [some (.ref l0), some (.int l1), some (.int l2), some (.int l3)] [] G) := by
  unfold t_133_4
  refine g_iload ((q_133 _).trans rfl) rfl ?_
  refine g_push ((q_133 _).trans rfl) ?_
  refine g_aload ((q_133 _).trans rfl) rfl ?_
  refine g_getI ((q_133 _).trans rfl) (fun v1 => ?_)
  refine g_imul ((q_133 _).trans rfl) ?_
  refine g_cmpge ((q_133 _).trans rfl) (fun _ => ?_) (fun _ => ?_)
  · refine g_iload ((q_133 _).trans rfl) rfl ?_
    exact g_zret ((q_133 _).trans rfl)
  · refine g_iload ((q_133 _).trans rfl) rfl ?_
    refine g_ifne ((q_133 _).trans rfl) (fun _ => ?_) (fun _ => ?_)
    · refine g_aload ((q_133 _).trans rfl) rfl ?_
      refine g_getR ((q_133 _).trans rfl) (fun a2 => ?_)
      refine g_iload ((q_133 _).trans rfl) rfl ?_
      refine g_iald ((q_133 _).trans rfl) (fun v3 => ?_)
      refine g_iload ((q_133 _).trans rfl) rfl ?_
      refine g_aload ((q_133 _).trans rfl) rfl ?_
      refine g_iload ((q_133 _).trans rfl) rfl ?_
      refine g_push ((q_133 _).trans rfl) ?_
      refine g_idiv ((q_133 _).trans rfl) (fun _ => ?_)
      refine g_iload ((q_133 _).trans rfl) rfl ?_
      refine g_push ((q_133 _).trans rfl) ?_
      refine g_irem ((q_133 _).trans rfl) (fun _ => ?_)
      refine g_push ((q_133 _).trans rfl) ?_
      refine g_cmpne ((q_133 _).trans rfl) (fun _ => ?_) (fun _ => ?_)
      · refine g_push ((q_133 _).trans rfl) ?_
        refine g_goto ((q_133 _).trans rfl) ?_
        refine g_callV (kk := 2) ((q_133 _).trans rfl) (gHn m_133) rfl (by exact ⟨Nat.le_of_ble_eq_true rfl, rfl⟩) rfl (fun w G4 => gm_I (fun v5 hw => ?_))
        subst hw
        refine g_imul ((q_133 _).trans rfl) ?_
        refine g_iadd ((q_133 _).trans rfl) ?_
        refine g_push ((q_133 _).trans rfl) ?_
        refine g_cmple ((q_133 _).trans rfl) (fun _ => ?_) (fun _ => ?_)
        · refine g_push ((q_133 _).trans rfl) ?_
          refine g_istore ((q_133 _).trans rfl) ?_
          refine g_iinc ((q_133 _).trans rfl) rfl ?_
          refine g_goto ((q_133 _).trans rfl) ?_
          exact gle.rf _
        · refine g_push ((q_133 _).trans rfl) ?_
          refine g_goto ((q_133 _).trans rfl) ?_
          refine g_istore ((q_133 _).trans rfl) ?_
          refine g_iinc ((q_133 _).trans rfl) rfl ?_
          refine g_goto ((q_133 _).trans rfl) ?_
          exact gle.rf _
      · refine g_push ((q_133 _).trans rfl) ?_
        refine g_callV (kk := 2) ((q_133 _).trans rfl) (gHn m_133) rfl (by exact ⟨Nat.le_of_ble_eq_true rfl, rfl⟩) rfl (fun w G6 => gm_I (fun v7 hw => ?_))
        subst hw
        refine g_imul ((q_133 _).trans rfl) ?_
        refine g_iadd ((q_133 _).trans rfl) ?_
        refine g_push ((q_133 _).trans rfl) ?_
        refine g_cmple ((q_133 _).trans rfl) (fun _ => ?_) (fun _ => ?_)
        · refine g_push ((q_133 _).trans rfl) ?_
          refine g_istore ((q_133 _).trans rfl) ?_
          refine g_iinc ((q_133 _).trans rfl) rfl ?_
          refine g_goto ((q_133 _).trans rfl) ?_
          exact gle.rf _
        · refine g_push ((q_133 _).trans rfl) ?_
          refine g_goto ((q_133 _).trans rfl) ?_
          refine g_istore ((q_133 _).trans rfl) ?_
          refine g_iinc ((q_133 _).trans rfl) rfl ?_
          refine g_goto ((q_133 _).trans rfl) ?_
          exact gle.rf _
    · refine g_push ((q_133 _).trans rfl) ?_
      refine g_goto ((q_133 _).trans rfl) ?_
      refine g_istore ((q_133 _).trans rfl) ?_
      refine g_iinc ((q_133 _).trans rfl) rfl ?_
      refine g_goto ((q_133 _).trans rfl) ?_
      exact gle.rf _
theorem q_134 {K : gK} (pc : Nat) : gP K 134 pc = ((gL_134 K).lookup pc).getD o_none := rfl
noncomputable def t_134_0 (K : gK) (d : Nat) (l0 : Nat) (l1 : Int32) (l2 : Int32) (G : gH) : Option gO := gRn K d 134 5 [some (.ref l0), some (.int l1), some (.int l2), some (.int (0 : Int32)), some (.int (0 : Int32)), none, none] [] G
theorem e_134_0 {K : gK} {d : Nat} {l0 : Nat} {l1 : Int32} {l2 : Int32} {G : gH} : gle (t_134_0 K d l0 l1 l2 G) (gRn K d 134 0 [some (.ref l0), some (.int l1), some (.int l2), none, none, none, none] [] G) := by
  unfold t_134_0
  refine g_push ((q_134 _).trans rfl) ?_
  refine g_istore ((q_134 _).trans rfl) ?_
  refine g_push ((q_134 _).trans rfl) ?_
  refine g_istore ((q_134 _).trans rfl) ?_
  exact gle.rf _
theorem c_134 {K : gK} {d : Nat} {l0 : Nat} {l1 : Int32} {l2 : Int32} {G : gH} : gle (t_134_0 K d l0 l1 l2 G) (gCa K (d + 1) 134 [.ref l0, .int l1, .int l2] G) := by
  have h : gent (gMx 134) [.ref l0, .int l1, .int l2] = [some (.ref l0), some (.int l1), some (.int l2), none, none, none, none] := by
    show gent (gT 134).2.2.2.1 _ = _
    rw [m_134]; rfl
  exact fun r e => (congrArg (fun q => gRn K d 134 0 q [] G) h).trans (e_134_0 r e)
noncomputable def t_134_5_1 (K : gK) (d : Nat) (l2 : Int32) (l0 : Nat) (l1 : Int32) (l3 : Int32) (l4 : Int32) (G : gH) (v6 : Int32) : Option gO := if v6 = l2 then (if (1 : Int32) = 0 then (gRn K d 134 5 [some (.ref l0), some (.int l1), some (.int l2), some (.int (l3 + (0 : Int32))), some (.int (l4 + 1)), some (.int (1 : Int32)), some (.int (1 : Int32))] [] G) else (gRn K d 134 5 [some (.ref l0), some (.int l1), some (.int l2), some (.int (l3 + (1 : Int32))), some (.int (l4 + 1)), some (.int (1 : Int32)), some (.int (1 : Int32))] [] G)) else (if (1 : Int32) = 0 then (gRn K d 134 5 [some (.ref l0), some (.int l1), some (.int l2), some (.int (l3 + (0 : Int32))), some (.int (l4 + 1)), some (.int (1 : Int32)), some (.int (0 : Int32))] [] G) else (gRn K d 134 5 [some (.ref l0), some (.int l1), some (.int l2), some (.int (l3 + (0 : Int32))), some (.int (l4 + 1)), some (.int (1 : Int32)), some (.int (0 : Int32))] [] G))
noncomputable def t_134_5_2 (K : gK) (d : Nat) (G : gH) (l4 : Int32) (l2 : Int32) (l0 : Nat) (l1 : Int32) (l3 : Int32) (a5 : Nat) : Option gO := xI G a5 1 l4 (t_134_5_1 K d l2 l0 l1 l3 l4 G)
noncomputable def t_134_5_3 (K : gK) (d : Nat) (l2 : Int32) (l0 : Nat) (l1 : Int32) (l3 : Int32) (l4 : Int32) (G : gH) (v8 : Int32) : Option gO := if v8 = 0 then (if l2 = 0 then (if (1 : Int32) = 0 then (gRn K d 134 5 [some (.ref l0), some (.int l1), some (.int l2), some (.int (l3 + (0 : Int32))), some (.int (l4 + 1)), some (.int (1 : Int32)), some (.int (2 : Int32))] [] G) else (gRn K d 134 5 [some (.ref l0), some (.int l1), some (.int l2), some (.int (l3 + (2 : Int32))), some (.int (l4 + 1)), some (.int (1 : Int32)), some (.int (2 : Int32))] [] G)) else (if (1 : Int32) = 0 then (gRn K d 134 5 [some (.ref l0), some (.int l1), some (.int l2), some (.int (l3 + (0 : Int32))), some (.int (l4 + 1)), some (.int (1 : Int32)), some (.int (0 : Int32))] [] G) else (gRn K d 134 5 [some (.ref l0), some (.int l1), some (.int l2), some (.int (l3 + (0 : Int32))), some (.int (l4 + 1)), some (.int (1 : Int32)), some (.int (0 : Int32))] [] G))) else (if (1 : Int32) = 0 then (gRn K d 134 5 [some (.ref l0), some (.int l1), some (.int l2), some (.int (l3 + (0 : Int32))), some (.int (l4 + 1)), some (.int (1 : Int32)), some (.int (1 : Int32))] [] G) else (gRn K d 134 5 [some (.ref l0), some (.int l1), some (.int l2), some (.int (l3 + (1 : Int32))), some (.int (l4 + 1)), some (.int (1 : Int32)), some (.int (1 : Int32))] [] G))
noncomputable def t_134_5_4 (K : gK) (d : Nat) (G : gH) (l1 : Int32) (l2 : Int32) (l0 : Nat) (l3 : Int32) (l4 : Int32) (a7 : Nat) : Option gO := xI G a7 1 l1 (t_134_5_3 K d l2 l0 l1 l3 l4 G)
noncomputable def t_134_5_5 (K : gK) (d : Nat) (G : gH) (l0 : Nat) (l4 : Int32) (l2 : Int32) (l1 : Int32) (l3 : Int32) (v4 : Int32) : Option gO := if v4 = 0 then (rR G l0 3 24 (t_134_5_2 K d G l4 l2 l0 l1 l3)) else (rR G l0 3 9 (t_134_5_4 K d G l1 l2 l0 l3 l4))
noncomputable def t_134_5_6 (K : gK) (d : Nat) (l2 : Int32) (l0 : Nat) (l1 : Int32) (l3 : Int32) (l4 : Int32) (G : gH) (v11 : Int32) : Option gO := if v11 = l2 then (if (0 : Int32) = 0 then (gRn K d 134 5 [some (.ref l0), some (.int l1), some (.int l2), some (.int (l3 + (0 : Int32))), some (.int (l4 + 1)), some (.int (0 : Int32)), some (.int (1 : Int32))] [] G) else (gRn K d 134 5 [some (.ref l0), some (.int l1), some (.int l2), some (.int (l3 + (1 : Int32))), some (.int (l4 + 1)), some (.int (0 : Int32)), some (.int (1 : Int32))] [] G)) else (if (0 : Int32) = 0 then (gRn K d 134 5 [some (.ref l0), some (.int l1), some (.int l2), some (.int (l3 + (0 : Int32))), some (.int (l4 + 1)), some (.int (0 : Int32)), some (.int (0 : Int32))] [] G) else (gRn K d 134 5 [some (.ref l0), some (.int l1), some (.int l2), some (.int (l3 + (0 : Int32))), some (.int (l4 + 1)), some (.int (0 : Int32)), some (.int (0 : Int32))] [] G))
noncomputable def t_134_5_7 (K : gK) (d : Nat) (G : gH) (l4 : Int32) (l2 : Int32) (l0 : Nat) (l1 : Int32) (l3 : Int32) (a10 : Nat) : Option gO := xI G a10 1 l4 (t_134_5_6 K d l2 l0 l1 l3 l4 G)
noncomputable def t_134_5_8 (K : gK) (d : Nat) (l2 : Int32) (l0 : Nat) (l1 : Int32) (l3 : Int32) (l4 : Int32) (G : gH) (v13 : Int32) : Option gO := if v13 = 0 then (if l2 = 0 then (if (0 : Int32) = 0 then (gRn K d 134 5 [some (.ref l0), some (.int l1), some (.int l2), some (.int (l3 + (0 : Int32))), some (.int (l4 + 1)), some (.int (0 : Int32)), some (.int (2 : Int32))] [] G) else (gRn K d 134 5 [some (.ref l0), some (.int l1), some (.int l2), some (.int (l3 + (2 : Int32))), some (.int (l4 + 1)), some (.int (0 : Int32)), some (.int (2 : Int32))] [] G)) else (if (0 : Int32) = 0 then (gRn K d 134 5 [some (.ref l0), some (.int l1), some (.int l2), some (.int (l3 + (0 : Int32))), some (.int (l4 + 1)), some (.int (0 : Int32)), some (.int (0 : Int32))] [] G) else (gRn K d 134 5 [some (.ref l0), some (.int l1), some (.int l2), some (.int (l3 + (0 : Int32))), some (.int (l4 + 1)), some (.int (0 : Int32)), some (.int (0 : Int32))] [] G))) else (if (0 : Int32) = 0 then (gRn K d 134 5 [some (.ref l0), some (.int l1), some (.int l2), some (.int (l3 + (0 : Int32))), some (.int (l4 + 1)), some (.int (0 : Int32)), some (.int (1 : Int32))] [] G) else (gRn K d 134 5 [some (.ref l0), some (.int l1), some (.int l2), some (.int (l3 + (1 : Int32))), some (.int (l4 + 1)), some (.int (0 : Int32)), some (.int (1 : Int32))] [] G))
noncomputable def t_134_5_9 (K : gK) (d : Nat) (G : gH) (l1 : Int32) (l2 : Int32) (l0 : Nat) (l3 : Int32) (l4 : Int32) (a12 : Nat) : Option gO := xI G a12 1 l1 (t_134_5_8 K d l2 l0 l1 l3 l4 G)
noncomputable def t_134_5_10 (K : gK) (d : Nat) (G : gH) (l0 : Nat) (l4 : Int32) (l2 : Int32) (l1 : Int32) (l3 : Int32) (v9 : Int32) : Option gO := if v9 = 0 then (rR G l0 3 24 (t_134_5_7 K d G l4 l2 l0 l1 l3)) else (rR G l0 3 9 (t_134_5_9 K d G l1 l2 l0 l3 l4))
noncomputable def t_134_5_11 (K : gK) (d : Nat) (l1 : Int32) (G : gH) (l0 : Nat) (l4 : Int32) (l2 : Int32) (l3 : Int32) (v3 : Int32) : Option gO := if v3 = l1 then (rI G l0 3 3 (t_134_5_5 K d G l0 l4 l2 l1 l3)) else (rI G l0 3 3 (t_134_5_10 K d G l0 l4 l2 l1 l3))
noncomputable def t_134_5_12 (K : gK) (d : Nat) (G : gH) (l4 : Int32) (l1 : Int32) (l0 : Nat) (l2 : Int32) (l3 : Int32) (a2 : Nat) : Option gO := xI G a2 0 l4 (t_134_5_11 K d l1 G l0 l4 l2 l3)
noncomputable def t_134_5_13 (K : gK) (d : Nat) (l4 : Int32) (l3 : Int32) (G : gH) (l0 : Nat) (l1 : Int32) (l2 : Int32) (v1 : Int32) : Option gO := if v1 ≤ l4 then (some (.inl (some (.int l3)), G)) else (rR G l0 3 20 (t_134_5_12 K d G l4 l1 l0 l2 l3))
noncomputable def t_134_5 (K : gK) (d : Nat) (l0 : Nat) (l1 : Int32) (l2 : Int32) (l3 : Int32) (l4 : Int32) (o5 : Option Value) (o6 : Option Value) (G : gH) : Option gO := rI G l0 3 17 (t_134_5_13 K d l4 l3 G l0 l1 l2)
theorem e_134_5 {K : gK} {d : Nat} {l0 : Nat} {l1 : Int32} {l2 : Int32} {l3 : Int32} {l4 : Int32} {o5 : Option Value} {o6 : Option Value} {G : gH} : gle (t_134_5 K d l0 l1 l2 l3 l4 o5 o6 G) (gRn K d 134 5 [some (.ref l0), some (.int l1), some (.int l2), some (.int l3), some (.int l4), o5, o6] [] G) := by
  unfold t_134_5
  refine g_iload ((q_134 _).trans rfl) rfl ?_
  refine g_aload ((q_134 _).trans rfl) rfl ?_
  refine g_getI ((q_134 _).trans rfl) (fun v1 => ?_)
  refine g_cmpge ((q_134 _).trans rfl) (fun _ => ?_) (fun _ => ?_)
  · refine g_iload ((q_134 _).trans rfl) rfl ?_
    exact g_iret ((q_134 _).trans rfl)
  · refine g_aload ((q_134 _).trans rfl) rfl ?_
    refine g_getR ((q_134 _).trans rfl) (fun a2 => ?_)
    refine g_iload ((q_134 _).trans rfl) rfl ?_
    refine g_iald ((q_134 _).trans rfl) (fun v3 => ?_)
    refine g_iload ((q_134 _).trans rfl) rfl ?_
    refine g_cmpne ((q_134 _).trans rfl) (fun _ => ?_) (fun _ => ?_)
    · refine g_push ((q_134 _).trans rfl) ?_
      refine g_goto ((q_134 _).trans rfl) ?_
      refine g_istore ((q_134 _).trans rfl) ?_
      refine g_aload ((q_134 _).trans rfl) rfl ?_
      refine g_getI ((q_134 _).trans rfl) (fun v4 => ?_)
      refine g_ifne ((q_134 _).trans rfl) (fun _ => ?_) (fun _ => ?_)
      · refine g_aload ((q_134 _).trans rfl) rfl ?_
        refine g_getR ((q_134 _).trans rfl) (fun a5 => ?_)
        refine g_iload ((q_134 _).trans rfl) rfl ?_
        refine g_iald ((q_134 _).trans rfl) (fun v6 => ?_)
        refine g_iload ((q_134 _).trans rfl) rfl ?_
        refine g_cmpne ((q_134 _).trans rfl) (fun _ => ?_) (fun _ => ?_)
        · refine g_push ((q_134 _).trans rfl) ?_
          refine g_goto ((q_134 _).trans rfl) ?_
          refine g_istore ((q_134 _).trans rfl) ?_
          refine g_iload ((q_134 _).trans rfl) rfl ?_
          refine g_iload ((q_134 _).trans rfl) rfl ?_
          refine g_ifeq ((q_134 _).trans rfl) (fun _ => ?_) (fun _ => ?_)
          · refine g_push ((q_134 _).trans rfl) ?_
            refine g_iadd ((q_134 _).trans rfl) ?_
            refine g_istore ((q_134 _).trans rfl) ?_
            refine g_iinc ((q_134 _).trans rfl) rfl ?_
            refine g_goto ((q_134 _).trans rfl) ?_
            exact gle.rf _
          · refine g_iload ((q_134 _).trans rfl) rfl ?_
            refine g_goto ((q_134 _).trans rfl) ?_
            refine g_iadd ((q_134 _).trans rfl) ?_
            refine g_istore ((q_134 _).trans rfl) ?_
            refine g_iinc ((q_134 _).trans rfl) rfl ?_
            refine g_goto ((q_134 _).trans rfl) ?_
            exact gle.rf _
        · refine g_push ((q_134 _).trans rfl) ?_
          refine g_goto ((q_134 _).trans rfl) ?_
          refine g_istore ((q_134 _).trans rfl) ?_
          refine g_iload ((q_134 _).trans rfl) rfl ?_
          refine g_iload ((q_134 _).trans rfl) rfl ?_
          refine g_ifeq ((q_134 _).trans rfl) (fun _ => ?_) (fun _ => ?_)
          · refine g_push ((q_134 _).trans rfl) ?_
            refine g_iadd ((q_134 _).trans rfl) ?_
            refine g_istore ((q_134 _).trans rfl) ?_
            refine g_iinc ((q_134 _).trans rfl) rfl ?_
            refine g_goto ((q_134 _).trans rfl) ?_
            exact gle.rf _
          · refine g_iload ((q_134 _).trans rfl) rfl ?_
            refine g_goto ((q_134 _).trans rfl) ?_
            refine g_iadd ((q_134 _).trans rfl) ?_
            refine g_istore ((q_134 _).trans rfl) ?_
            refine g_iinc ((q_134 _).trans rfl) rfl ?_
            refine g_goto ((q_134 _).trans rfl) ?_
            exact gle.rf _
      · refine g_aload ((q_134 _).trans rfl) rfl ?_
        refine g_getR ((q_134 _).trans rfl) (fun a7 => ?_)
        refine g_iload ((q_134 _).trans rfl) rfl ?_
        refine g_iald ((q_134 _).trans rfl) (fun v8 => ?_)
        refine g_ifeq ((q_134 _).trans rfl) (fun _ => ?_) (fun _ => ?_)
        · refine g_iload ((q_134 _).trans rfl) rfl ?_
          refine g_ifeq ((q_134 _).trans rfl) (fun _ => ?_) (fun _ => ?_)
          · refine g_push ((q_134 _).trans rfl) ?_
            refine g_istore ((q_134 _).trans rfl) ?_
            refine g_iload ((q_134 _).trans rfl) rfl ?_
            refine g_iload ((q_134 _).trans rfl) rfl ?_
            refine g_ifeq ((q_134 _).trans rfl) (fun _ => ?_) (fun _ => ?_)
            · refine g_push ((q_134 _).trans rfl) ?_
              refine g_iadd ((q_134 _).trans rfl) ?_
              refine g_istore ((q_134 _).trans rfl) ?_
              refine g_iinc ((q_134 _).trans rfl) rfl ?_
              refine g_goto ((q_134 _).trans rfl) ?_
              exact gle.rf _
            · refine g_iload ((q_134 _).trans rfl) rfl ?_
              refine g_goto ((q_134 _).trans rfl) ?_
              refine g_iadd ((q_134 _).trans rfl) ?_
              refine g_istore ((q_134 _).trans rfl) ?_
              refine g_iinc ((q_134 _).trans rfl) rfl ?_
              refine g_goto ((q_134 _).trans rfl) ?_
              exact gle.rf _
          · refine g_push ((q_134 _).trans rfl) ?_
            refine g_goto ((q_134 _).trans rfl) ?_
            refine g_istore ((q_134 _).trans rfl) ?_
            refine g_iload ((q_134 _).trans rfl) rfl ?_
            refine g_iload ((q_134 _).trans rfl) rfl ?_
            refine g_ifeq ((q_134 _).trans rfl) (fun _ => ?_) (fun _ => ?_)
            · refine g_push ((q_134 _).trans rfl) ?_
              refine g_iadd ((q_134 _).trans rfl) ?_
              refine g_istore ((q_134 _).trans rfl) ?_
              refine g_iinc ((q_134 _).trans rfl) rfl ?_
              refine g_goto ((q_134 _).trans rfl) ?_
              exact gle.rf _
            · refine g_iload ((q_134 _).trans rfl) rfl ?_
              refine g_goto ((q_134 _).trans rfl) ?_
              refine g_iadd ((q_134 _).trans rfl) ?_
              refine g_istore ((q_134 _).trans rfl) ?_
              refine g_iinc ((q_134 _).trans rfl) rfl ?_
              refine g_goto ((q_134 _).trans rfl) ?_
              exact gle.rf _
        · refine g_push ((q_134 _).trans rfl) ?_
          refine g_goto ((q_134 _).trans rfl) ?_
          refine g_istore ((q_134 _).trans rfl) ?_
          refine g_iload ((q_134 _).trans rfl) rfl ?_
          refine g_iload ((q_134 _).trans rfl) rfl ?_
          refine g_ifeq ((q_134 _).trans rfl) (fun _ => ?_) (fun _ => ?_)
          · refine g_push ((q_134 _).trans rfl) ?_
            refine g_iadd ((q_134 _).trans rfl) ?_
            refine g_istore ((q_134 _).trans rfl) ?_
            refine g_iinc ((q_134 _).trans rfl) rfl ?_
            refine g_goto ((q_134 _).trans rfl) ?_
            exact gle.rf _
          · refine g_iload ((q_134 _).trans rfl) rfl ?_
            refine g_goto ((q_134 _).trans rfl) ?_
            refine g_iadd ((q_134 _).trans rfl) ?_
            refine g_istore ((q_134 _).trans rfl) ?_
            refine g_iinc ((q_134 _).trans rfl) rfl ?_
            refine g_goto ((q_134 _).trans rfl) ?_
            exact gle.rf _
    · refine g_push ((q_134 _).trans rfl) ?_
      refine g_istore ((q_134 _).trans rfl) ?_
      refine g_aload ((q_134 _).trans rfl) rfl ?_
      refine g_getI ((q_134 _).trans rfl) (fun v9 => ?_)
      refine g_ifne ((q_134 _).trans rfl) (fun _ => ?_) (fun _ => ?_)
      · refine g_aload ((q_134 _).trans rfl) rfl ?_
        refine g_getR ((q_134 _).trans rfl) (fun a10 => ?_)
        refine g_iload ((q_134 _).trans rfl) rfl ?_
        refine g_iald ((q_134 _).trans rfl) (fun v11 => ?_)
        refine g_iload ((q_134 _).trans rfl) rfl ?_
        refine g_cmpne ((q_134 _).trans rfl) (fun _ => ?_) (fun _ => ?_)
        · refine g_push ((q_134 _).trans rfl) ?_
          refine g_goto ((q_134 _).trans rfl) ?_
          refine g_istore ((q_134 _).trans rfl) ?_
          refine g_iload ((q_134 _).trans rfl) rfl ?_
          refine g_iload ((q_134 _).trans rfl) rfl ?_
          refine g_ifeq ((q_134 _).trans rfl) (fun _ => ?_) (fun _ => ?_)
          · refine g_push ((q_134 _).trans rfl) ?_
            refine g_iadd ((q_134 _).trans rfl) ?_
            refine g_istore ((q_134 _).trans rfl) ?_
            refine g_iinc ((q_134 _).trans rfl) rfl ?_
            refine g_goto ((q_134 _).trans rfl) ?_
            exact gle.rf _
          · refine g_iload ((q_134 _).trans rfl) rfl ?_
            refine g_goto ((q_134 _).trans rfl) ?_
            refine g_iadd ((q_134 _).trans rfl) ?_
            refine g_istore ((q_134 _).trans rfl) ?_
            refine g_iinc ((q_134 _).trans rfl) rfl ?_
            refine g_goto ((q_134 _).trans rfl) ?_
            exact gle.rf _
        · refine g_push ((q_134 _).trans rfl) ?_
          refine g_goto ((q_134 _).trans rfl) ?_
          refine g_istore ((q_134 _).trans rfl) ?_
          refine g_iload ((q_134 _).trans rfl) rfl ?_
          refine g_iload ((q_134 _).trans rfl) rfl ?_
          refine g_ifeq ((q_134 _).trans rfl) (fun _ => ?_) (fun _ => ?_)
          · refine g_push ((q_134 _).trans rfl) ?_
            refine g_iadd ((q_134 _).trans rfl) ?_
            refine g_istore ((q_134 _).trans rfl) ?_
            refine g_iinc ((q_134 _).trans rfl) rfl ?_
            refine g_goto ((q_134 _).trans rfl) ?_
            exact gle.rf _
          · refine g_iload ((q_134 _).trans rfl) rfl ?_
            refine g_goto ((q_134 _).trans rfl) ?_
            refine g_iadd ((q_134 _).trans rfl) ?_
            refine g_istore ((q_134 _).trans rfl) ?_
            refine g_iinc ((q_134 _).trans rfl) rfl ?_
            refine g_goto ((q_134 _).trans rfl) ?_
            exact gle.rf _
      · refine g_aload ((q_134 _).trans rfl) rfl ?_
        refine g_getR ((q_134 _).trans rfl) (fun a12 => ?_)
        refine g_iload ((q_134 _).trans rfl) rfl ?_
        refine g_iald ((q_134 _).trans rfl) (fun v13 => ?_)
        refine g_ifeq ((q_134 _).trans rfl) (fun _ => ?_) (fun _ => ?_)
        · refine g_iload ((q_134 _).trans rfl) rfl ?_
          refine g_ifeq ((q_134 _).trans rfl) (fun _ => ?_) (fun _ => ?_)
          · refine g_push ((q_134 _).trans rfl) ?_
            refine g_istore ((q_134 _).trans rfl) ?_
            refine g_iload ((q_134 _).trans rfl) rfl ?_
            refine g_iload ((q_134 _).trans rfl) rfl ?_
            refine g_ifeq ((q_134 _).trans rfl) (fun _ => ?_) (fun _ => ?_)
            · refine g_push ((q_134 _).trans rfl) ?_
              refine g_iadd ((q_134 _).trans rfl) ?_
              refine g_istore ((q_134 _).trans rfl) ?_
              refine g_iinc ((q_134 _).trans rfl) rfl ?_
              refine g_goto ((q_134 _).trans rfl) ?_
              exact gle.rf _
            · refine g_iload ((q_134 _).trans rfl) rfl ?_
              refine g_goto ((q_134 _).trans rfl) ?_
              refine g_iadd ((q_134 _).trans rfl) ?_
              refine g_istore ((q_134 _).trans rfl) ?_
              refine g_iinc ((q_134 _).trans rfl) rfl ?_
              refine g_goto ((q_134 _).trans rfl) ?_
              exact gle.rf _
          · refine g_push ((q_134 _).trans rfl) ?_
            refine g_goto ((q_134 _).trans rfl) ?_
            refine g_istore ((q_134 _).trans rfl) ?_
            refine g_iload ((q_134 _).trans rfl) rfl ?_
            refine g_iload ((q_134 _).trans rfl) rfl ?_
            refine g_ifeq ((q_134 _).trans rfl) (fun _ => ?_) (fun _ => ?_)
            · refine g_push ((q_134 _).trans rfl) ?_
              refine g_iadd ((q_134 _).trans rfl) ?_
              refine g_istore ((q_134 _).trans rfl) ?_
              refine g_iinc ((q_134 _).trans rfl) rfl ?_
              refine g_goto ((q_134 _).trans rfl) ?_
              exact gle.rf _
            · refine g_iload ((q_134 _).trans rfl) rfl ?_
              refine g_goto ((q_134 _).trans rfl) ?_
              refine g_iadd ((q_134 _).trans rfl) ?_
              refine g_istore ((q_134 _).trans rfl) ?_
              refine g_iinc ((q_134 _).trans rfl) rfl ?_
              refine g_goto ((q_134 _).trans rfl) ?_
              exact gle.rf _
        · refine g_push ((q_134 _).trans rfl) ?_
          refine g_goto ((q_134 _).trans rfl) ?_
          refine g_istore ((q_134 _).trans rfl) ?_
          refine g_iload ((q_134 _).trans rfl) rfl ?_
          refine g_iload ((q_134 _).trans rfl) rfl ?_
          refine g_ifeq ((q_134 _).trans rfl) (fun _ => ?_) (fun _ => ?_)
          · refine g_push ((q_134 _).trans rfl) ?_
            refine g_iadd ((q_134 _).trans rfl) ?_
            refine g_istore ((q_134 _).trans rfl) ?_
            refine g_iinc ((q_134 _).trans rfl) rfl ?_
            refine g_goto ((q_134 _).trans rfl) ?_
            exact gle.rf _
          · refine g_iload ((q_134 _).trans rfl) rfl ?_
            refine g_goto ((q_134 _).trans rfl) ?_
            refine g_iadd ((q_134 _).trans rfl) ?_
            refine g_istore ((q_134 _).trans rfl) ?_
            refine g_iinc ((q_134 _).trans rfl) rfl ?_
            refine g_goto ((q_134 _).trans rfl) ?_
            exact gle.rf _
