/-! TABLES: instructions, 33 (printed by mktab2.py) -/
set_option maxRecDepth 100000
theorem hk_26 {Z : gZ} {K : gK} : gHok Z K gT gHd 26 4 [(0, 9, 12, 57)] := by
  intro k hk
  match k, hk with
  | 0, _ => exact rfl
  | 1, _ => exact rfl
  | 2, _ => exact rfl
  | 3, _ => exact rfl
  | 4, _ => exact ⟨1, 3, 13, 14, rfl, so_astore_n m_26 rfl (by decide) (fun _ _ => rfl) dX0_takeOff_12, so_iconst m_26 (by decide) dX0_takeOff_13, so_iret m_26 (by decide) rfl dX0_takeOff_14⟩
  | 5, _ => exact rfl
  | k + 6, h => exact absurd h (by omega)
def gL_26 (K : gK) : List (Nat × gS) := [(0, o_aload 2 1), (1, o_push (.int 0) 2), (2, o_aload 0 3), (3, o_iload 1 4), (4, o_callV 0 106 1 7), (7, o_i2l 8), (8, o_last 9), (9, o_goto 15), (12, o_astore 3 13), (13, o_push (.int 1) 14), (14, o_iret), (15, o_push (.int 0) 16), (16, o_iret)]
theorem s_26 {Z : gZ} {K : gK} : gAll Z K 26 (gL_26 K) := ⟨so_aload_n m_26 dX0_takeOff_0,
  so_iconst m_26 (by decide) dX0_takeOff_1,
  so_aload_n m_26 dX0_takeOff_2,
  so_iload_n m_26 dX0_takeOff_3,
  so_callVH m_26 (by decide) (hk_26) cal_106 (q := (RX1, TX1, 16)) (by decide) rfl q1007 q1008 q1009 dX0_takeOff_4,
  so_i2l m_26 dX0_takeOff_7,
  so_last m_26 dX0_takeOff_8,
  so_goto m_26 (t := 15) (by decide) dX0_takeOff_9,
  so_astore_n m_26 rfl (by decide) (fun _ _ => rfl) dX0_takeOff_12,
  so_iconst m_26 (by decide) dX0_takeOff_13,
  so_iret m_26 (by decide) rfl dX0_takeOff_14,
  so_iconst m_26 (by decide) dX0_takeOff_15,
  so_iret m_26 (by decide) rfl dX0_takeOff_16, trivial⟩
def gL_27 (K : gK) : List (Nat × gS) := [(0, o_aload 0 1), (1, o_aload 0 2), (2, o_iload 1 3), (3, o_callV 3 107 1 6), (6, o_push (.int (-1)) 7), (7, o_cmpne 14 10), (10, o_push (.int 1) 11), (11, o_goto 15), (14, o_push (.int 0) 15), (15, o_callV 3 90 1 18), (18, o_ifeq 23 21), (21, o_push (.int 0) 22), (22, o_iret), (23, o_aload 0 24), (24, o_aload 0 25), (25, o_iload 1 26), (26, o_callV 3 107 1 29), (29, o_callV 3 108 1 32), (32, o_aload 0 33), (33, o_callV 3 109 0 36), (36, o_iret)]
theorem s_27 {Z : gZ} {K : gK} : gAll Z K 27 (gL_27 K) := ⟨so_aload_n m_27 dX4_takeOff_0,
  so_aload_n m_27 dX4_takeOff_1,
  so_iload_n m_27 dX4_takeOff_2,
  so_callV m_27 (gHn m_27) cal_107 (q := (RX4, TX4, 49)) (by decide) rfl q1659 q1661 qs52 dX4_takeOff_3,
  so_iconst m_27 (by decide) dX4_takeOff_6,
  so_cmpne m_27 (t := 14) (by decide) dX4_takeOff_7,
  so_iconst m_27 (by decide) dX4_takeOff_10,
  so_goto m_27 (t := 15) (by decide) dX4_takeOff_11,
  so_iconst m_27 (by decide) dX4_takeOff_14,
  so_callV m_27 (gHn m_27) cal_90 (q := (RX4, TX4, 49)) (by decide) rfl q1553 q1555 qs38 dX4_takeOff_15,
  so_ifeq m_27 (t := 23) (by decide) dX4_takeOff_18,
  so_iconst m_27 (by decide) dX4_takeOff_21,
  so_iret m_27 (by decide) rfl dX4_takeOff_22,
  so_aload_n m_27 dX4_takeOff_23,
  so_aload_n m_27 dX4_takeOff_24,
  so_iload_n m_27 dX4_takeOff_25,
  so_callV m_27 (gHn m_27) cal_107 (q := (RX4, TX4, 49)) (by decide) rfl q1659 q1661 qs52 dX4_takeOff_26,
  so_callV m_27 (gHn m_27) cal_108 (q := (RX4, TX4, 49)) (by decide) rfl q1663 q1665 qs53 dX4_takeOff_29,
  so_aload_n m_27 dX4_takeOff_32,
  so_callV m_27 (gHn m_27) cal_109 (q := (RX4, TX4, 49)) (by decide) rfl q1667 q1669 qs54 dX4_takeOff_33,
  so_iret m_27 (by decide) rfl dX4_takeOff_36, trivial⟩
def gL_28 (K : gK) : List (Nat × gS) := [(0, o_aload 0 1), (1, o_getf 0 2 4), (4, o_callV 12 110 0 9), (9, o_istore 1 10), (10, o_aload 0 11), (11, o_getf 0 2 14), (14, o_callV 12 111 0 19), (19, o_aload 0 20), (20, o_push (.int 0) 21), (21, o_putf 0 13 .int 24), (24, o_aload 0 25), (25, o_getf 0 6 28), (28, o_callV 2 112 0 31), (31, o_iload 1 32), (32, o_iret)]
theorem s_28 {Z : gZ} {K : gK} : gAll Z K 28 (gL_28 K) := ⟨so_aload_n m_28 dX1_clear_0,
  so_getf m_28 (c := 0) (k := 2) (C0 := RX1) (Tf := TX1) (N := 16) rfl (by decide) (by decide) in_X1 q317 (fun _ _ _ _ h => h) dX1_clear_1,
  so_callF m_28 (gHn m_28) cal_110 (List.mem_of_getElem? (i := 0) rfl) ⟨by decide, by decide, by decide +kernel⟩ q377 q215 q213 dX1_clear_4,
  so_istore_n m_28 rfl (by decide) (fun _ _ => rfl) dX1_clear_9,
  so_aload_n m_28 dX1_clear_10,
  so_getf m_28 (c := 0) (k := 2) (C0 := RX1) (Tf := TX1) (N := 16) rfl (by decide) (by decide) in_X1 q317 (fun _ _ _ _ h => h) dX1_clear_11,
  so_callF m_28 (gHn m_28) cal_111 (List.mem_of_getElem? (i := 4) rfl) ⟨by decide, by decide, by decide +kernel⟩ q379 q384 q382 dX1_clear_14,
  so_aload_n m_28 dX1_clear_19,
  so_iconst m_28 (by decide) dX1_clear_20,
  so_putf m_28 (c := 0) (k := 13) (C0 := RX1) (Tf := TX1) (N := 16) rfl (by decide) (by decide) in_X1 tyX1 tyX1_ok nmX1 (tyX1_ok 13 (by decide)) (Or.inl q332) (fun _ _ _ _ h => h) rfl dX1_clear_21,
  so_aload_n m_28 dX1_clear_24,
  so_getf m_28 (c := 0) (k := 6) (C0 := RX1) (Tf := TX1) (N := 16) rfl (by decide) (by decide) in_X1 q323 (fun _ _ _ _ h => h) dX1_clear_25,
  so_callV m_28 (gHn m_28) cal_112 (q := (RX3, TX3, 4)) (by decide) rfl q387 q179 q180 dX1_clear_28,
  so_iload_n m_28 dX1_clear_31,
  so_iret m_28 (by decide) rfl dX1_clear_32, trivial⟩
def gL_29 (K : gK) : List (Nat × gS) := [(0, o_aload 0 1), (1, o_push (.int 0) 2), (2, o_putf 3 0 .int 5), (5, o_aload 0 6), (6, o_getf 3 17 9), (9, o_istore 1 10), (10, o_aload 0 11), (11, o_callV 3 87 0 14), (14, o_iload 1 15), (15, o_iret)]
theorem s_29 {Z : gZ} {K : gK} : gAll Z K 29 (gL_29 K) := ⟨so_aload_n m_29 dX4_clear_0,
  so_iconst m_29 (by decide) dX4_clear_1,
  so_putf m_29 (c := 3) (k := 0) (C0 := RX4) (Tf := TX4) (N := 49) rfl (by decide) (by decide) in_X4 tyX4 tyX4_ok nmX4 (tyX4_ok 0 (by decide)) (Or.inl q1393) (fun _ _ _ _ h => h) rfl dX4_clear_2,
  so_aload_n m_29 dX4_clear_5,
  so_getf m_29 (c := 3) (k := 17) (C0 := RX4) (Tf := TX4) (N := 49) rfl (by decide) (by decide) in_X4 q1410 (fun _ _ _ _ h => h) dX4_clear_6,
  so_istore_n m_29 rfl (by decide) (fun _ _ => rfl) dX4_clear_9,
  so_aload_n m_29 dX4_clear_10,
  so_callV m_29 (gHn m_29) cal_87 (q := (RX4, TX4, 49)) (by decide) rfl q1389 q1391 qs37 dX4_clear_11,
  so_iload_n m_29 dX4_clear_14,
  so_iret m_29 (by decide) rfl dX4_clear_15, trivial⟩
def gL_30 (K : gK) : List (Nat × gS) := [(0, o_aload 0 1), (1, o_getf 0 2 4), (4, o_callV 12 110 0 9), (9, o_iret)]
theorem s_30 {Z : gZ} {K : gK} : gAll Z K 30 (gL_30 K) := ⟨so_aload_n m_30 dX1_inMarker_0,
  so_getf m_30 (c := 0) (k := 2) (C0 := RX1) (Tf := TX1) (N := 16) rfl (by decide) (by decide) in_X1 q317 (fun _ _ _ _ h => h) dX1_inMarker_1,
  so_callF m_30 (gHn m_30) cal_110 (List.mem_of_getElem? (i := 0) rfl) ⟨by decide, by decide, by decide +kernel⟩ q377 q215 q213 dX1_inMarker_4,
  so_iret m_30 (by decide) rfl dX1_inMarker_9, trivial⟩
def gL_31 (K : gK) : List (Nat × gS) := [(0, o_aload 0 1), (1, o_push (.int 0) 2), (2, o_putf 3 0 .int 5), (5, o_aload 0 6), (6, o_getf 3 17 9), (9, o_iret)]
theorem s_31 {Z : gZ} {K : gK} : gAll Z K 31 (gL_31 K) := ⟨so_aload_n m_31 dX4_inMarker_0,
  so_iconst m_31 (by decide) dX4_inMarker_1,
  so_putf m_31 (c := 3) (k := 0) (C0 := RX4) (Tf := TX4) (N := 49) rfl (by decide) (by decide) in_X4 tyX4 tyX4_ok nmX4 (tyX4_ok 0 (by decide)) (Or.inl q1393) (fun _ _ _ _ h => h) rfl dX4_inMarker_2,
  so_aload_n m_31 dX4_inMarker_5,
  so_getf m_31 (c := 3) (k := 17) (C0 := RX4) (Tf := TX4) (N := 49) rfl (by decide) (by decide) in_X4 q1410 (fun _ _ _ _ h => h) dX4_inMarker_6,
  so_iret m_31 (by decide) rfl dX4_inMarker_9, trivial⟩
theorem hk_32 {Z : gZ} {K : gK} : gHok Z K gT gHd 32 4 [(0, 9, 12, 57)] := by
  intro k hk
  match k, hk with
  | 0, _ => exact rfl
  | 1, _ => exact rfl
  | 2, _ => exact rfl
  | 3, _ => exact rfl
  | 4, _ => exact ⟨1, 3, 13, 14, rfl, so_astore_n m_32 rfl (by decide) (fun _ _ => rfl) dX0_rowOf_12, so_iconst m_32 (by decide) dX0_rowOf_13, so_iret m_32 (by decide) rfl dX0_rowOf_14⟩
  | 5, _ => exact rfl
  | k + 6, h => exact absurd h (by omega)
def gL_32 (K : gK) : List (Nat × gS) := [(0, o_aload 2 1), (1, o_push (.int 0) 2), (2, o_aload 0 3), (3, o_iload 1 4), (4, o_callV 0 113 1 7), (7, o_i2l 8), (8, o_last 9), (9, o_goto 15), (12, o_astore 3 13), (13, o_push (.int 1) 14), (14, o_iret), (15, o_push (.int 0) 16), (16, o_iret)]
theorem s_32 {Z : gZ} {K : gK} : gAll Z K 32 (gL_32 K) := ⟨so_aload_n m_32 dX0_rowOf_0,
  so_iconst m_32 (by decide) dX0_rowOf_1,
  so_aload_n m_32 dX0_rowOf_2,
  so_iload_n m_32 dX0_rowOf_3,
  so_callVH m_32 (by decide) (hk_32) cal_113 (q := (RX1, TX1, 16)) (by decide) rfl q1066 q1067 q1068 dX0_rowOf_4,
  so_i2l m_32 dX0_rowOf_7,
  so_last m_32 dX0_rowOf_8,
  so_goto m_32 (t := 15) (by decide) dX0_rowOf_9,
  so_astore_n m_32 rfl (by decide) (fun _ _ => rfl) dX0_rowOf_12,
  so_iconst m_32 (by decide) dX0_rowOf_13,
  so_iret m_32 (by decide) rfl dX0_rowOf_14,
  so_iconst m_32 (by decide) dX0_rowOf_15,
  so_iret m_32 (by decide) rfl dX0_rowOf_16, trivial⟩
def gL_33 (K : gK) : List (Nat × gS) := [(0, o_aload 0 1), (1, o_aload 0 2), (2, o_iload 1 3), (3, o_callV 3 107 1 6), (6, o_push (.int (-1)) 7), (7, o_cmpne 14 10), (10, o_push (.int 1) 11), (11, o_goto 15), (14, o_push (.int 0) 15), (15, o_callV 3 90 1 18), (18, o_ifeq 25 21), (21, o_push (.int 0) 22), (22, o_goto 35), (25, o_aload 0 26), (26, o_getf 3 21 29), (29, o_aload 0 30), (30, o_iload 1 31), (31, o_callV 3 107 1 34), (34, o_iald 0 35), (35, o_iret)]
theorem s_33 {Z : gZ} {K : gK} : gAll Z K 33 (gL_33 K) := ⟨so_aload_n m_33 dX4_rowOf_0,
  so_aload_n m_33 dX4_rowOf_1,
  so_iload_n m_33 dX4_rowOf_2,
  so_callV m_33 (gHn m_33) cal_107 (q := (RX4, TX4, 49)) (by decide) rfl q1659 q1661 qs52 dX4_rowOf_3,
  so_iconst m_33 (by decide) dX4_rowOf_6,
  so_cmpne m_33 (t := 14) (by decide) dX4_rowOf_7,
  so_iconst m_33 (by decide) dX4_rowOf_10,
  so_goto m_33 (t := 15) (by decide) dX4_rowOf_11,
  so_iconst m_33 (by decide) dX4_rowOf_14,
  so_callV m_33 (gHn m_33) cal_90 (q := (RX4, TX4, 49)) (by decide) rfl q1553 q1555 qs38 dX4_rowOf_15,
  so_ifeq m_33 (t := 25) (by decide) dX4_rowOf_18,
  so_iconst m_33 (by decide) dX4_rowOf_21,
  so_goto m_33 (t := 35) (by decide) dX4_rowOf_22,
  so_aload_n m_33 dX4_rowOf_25,
  so_getf m_33 (c := 3) (k := 21) (C0 := RX4) (Tf := TX4) (N := 49) rfl (by decide) (by decide) in_X4 q1414 (fun _ _ _ _ h => h) dX4_rowOf_26,
  so_aload_n m_33 dX4_rowOf_29,
  so_iload_n m_33 dX4_rowOf_30,
  so_callV m_33 (gHn m_33) cal_107 (q := (RX4, TX4, 49)) (by decide) rfl q1659 q1661 qs52 dX4_rowOf_31,
  so_iald m_33 dX4_rowOf_34,
  so_iret m_33 (by decide) rfl dX4_rowOf_35, trivial⟩
theorem hk_34 {Z : gZ} {K : gK} : gHok Z K gT gHd 34 4 [(0, 9, 12, 57)] := by
  intro k hk
  match k, hk with
  | 0, _ => exact rfl
  | 1, _ => exact rfl
  | 2, _ => exact rfl
  | 3, _ => exact rfl
  | 4, _ => exact ⟨1, 3, 13, 14, rfl, so_astore_n m_34 rfl (by decide) (fun _ _ => rfl) dX0_columnOf_12, so_iconst m_34 (by decide) dX0_columnOf_13, so_iret m_34 (by decide) rfl dX0_columnOf_14⟩
  | 5, _ => exact rfl
  | k + 6, h => exact absurd h (by omega)
def gL_34 (K : gK) : List (Nat × gS) := [(0, o_aload 2 1), (1, o_push (.int 0) 2), (2, o_aload 0 3), (3, o_iload 1 4), (4, o_callV 0 114 1 7), (7, o_i2l 8), (8, o_last 9), (9, o_goto 15), (12, o_astore 3 13), (13, o_push (.int 1) 14), (14, o_iret), (15, o_push (.int 0) 16), (16, o_iret)]
theorem s_34 {Z : gZ} {K : gK} : gAll Z K 34 (gL_34 K) := ⟨so_aload_n m_34 dX0_columnOf_0,
  so_iconst m_34 (by decide) dX0_columnOf_1,
  so_aload_n m_34 dX0_columnOf_2,
  so_iload_n m_34 dX0_columnOf_3,
  so_callVH m_34 (by decide) (hk_34) cal_114 (q := (RX1, TX1, 16)) (by decide) rfl q1073 q1074 q1075 dX0_columnOf_4,
  so_i2l m_34 dX0_columnOf_7,
  so_last m_34 dX0_columnOf_8,
  so_goto m_34 (t := 15) (by decide) dX0_columnOf_9,
  so_astore_n m_34 rfl (by decide) (fun _ _ => rfl) dX0_columnOf_12,
  so_iconst m_34 (by decide) dX0_columnOf_13,
  so_iret m_34 (by decide) rfl dX0_columnOf_14,
  so_iconst m_34 (by decide) dX0_columnOf_15,
  so_iret m_34 (by decide) rfl dX0_columnOf_16, trivial⟩
def gL_35 (K : gK) : List (Nat × gS) := [(0, o_aload 0 1), (1, o_aload 0 2), (2, o_iload 1 3), (3, o_callV 3 107 1 6), (6, o_push (.int (-1)) 7), (7, o_cmpne 14 10), (10, o_push (.int 1) 11), (11, o_goto 15), (14, o_push (.int 0) 15), (15, o_callV 3 90 1 18), (18, o_ifeq 25 21), (21, o_push (.int 0) 22), (22, o_goto 35), (25, o_aload 0 26), (26, o_getf 3 22 29), (29, o_aload 0 30), (30, o_iload 1 31), (31, o_callV 3 107 1 34), (34, o_iald 0 35), (35, o_iret)]
theorem s_35 {Z : gZ} {K : gK} : gAll Z K 35 (gL_35 K) := ⟨so_aload_n m_35 dX4_columnOf_0,
  so_aload_n m_35 dX4_columnOf_1,
  so_iload_n m_35 dX4_columnOf_2,
  so_callV m_35 (gHn m_35) cal_107 (q := (RX4, TX4, 49)) (by decide) rfl q1659 q1661 qs52 dX4_columnOf_3,
  so_iconst m_35 (by decide) dX4_columnOf_6,
  so_cmpne m_35 (t := 14) (by decide) dX4_columnOf_7,
  so_iconst m_35 (by decide) dX4_columnOf_10,
  so_goto m_35 (t := 15) (by decide) dX4_columnOf_11,
  so_iconst m_35 (by decide) dX4_columnOf_14,
  so_callV m_35 (gHn m_35) cal_90 (q := (RX4, TX4, 49)) (by decide) rfl q1553 q1555 qs38 dX4_columnOf_15,
  so_ifeq m_35 (t := 25) (by decide) dX4_columnOf_18,
  so_iconst m_35 (by decide) dX4_columnOf_21,
  so_goto m_35 (t := 35) (by decide) dX4_columnOf_22,
  so_aload_n m_35 dX4_columnOf_25,
  so_getf m_35 (c := 3) (k := 22) (C0 := RX4) (Tf := TX4) (N := 49) rfl (by decide) (by decide) in_X4 q1415 (fun _ _ _ _ h => h) dX4_columnOf_26,
  so_aload_n m_35 dX4_columnOf_29,
  so_iload_n m_35 dX4_columnOf_30,
  so_callV m_35 (gHn m_35) cal_107 (q := (RX4, TX4, 49)) (by decide) rfl q1659 q1661 qs52 dX4_columnOf_31,
  so_iald m_35 dX4_columnOf_34,
  so_iret m_35 (by decide) rfl dX4_columnOf_35, trivial⟩
theorem hk_36 {Z : gZ} {K : gK} : gHok Z K gT gHd 36 4 [(0, 9, 12, 57)] := by
  intro k hk
  match k, hk with
  | 0, _ => exact rfl
  | 1, _ => exact rfl
  | 2, _ => exact rfl
  | 3, _ => exact rfl
  | 4, _ => exact ⟨1, 3, 13, 14, rfl, so_astore_n m_36 rfl (by decide) (fun _ _ => rfl) dX0_turnsOf_12, so_iconst m_36 (by decide) dX0_turnsOf_13, so_iret m_36 (by decide) rfl dX0_turnsOf_14⟩
  | 5, _ => exact rfl
  | k + 6, h => exact absurd h (by omega)
def gL_36 (K : gK) : List (Nat × gS) := [(0, o_aload 2 1), (1, o_push (.int 0) 2), (2, o_aload 0 3), (3, o_iload 1 4), (4, o_callV 0 115 1 7), (7, o_i2l 8), (8, o_last 9), (9, o_goto 15), (12, o_astore 3 13), (13, o_push (.int 1) 14), (14, o_iret), (15, o_push (.int 0) 16), (16, o_iret)]
theorem s_36 {Z : gZ} {K : gK} : gAll Z K 36 (gL_36 K) := ⟨so_aload_n m_36 dX0_turnsOf_0,
  so_iconst m_36 (by decide) dX0_turnsOf_1,
  so_aload_n m_36 dX0_turnsOf_2,
  so_iload_n m_36 dX0_turnsOf_3,
  so_callVH m_36 (by decide) (hk_36) cal_115 (q := (RX1, TX1, 16)) (by decide) rfl q1080 q1081 q1082 dX0_turnsOf_4,
  so_i2l m_36 dX0_turnsOf_7,
  so_last m_36 dX0_turnsOf_8,
  so_goto m_36 (t := 15) (by decide) dX0_turnsOf_9,
  so_astore_n m_36 rfl (by decide) (fun _ _ => rfl) dX0_turnsOf_12,
  so_iconst m_36 (by decide) dX0_turnsOf_13,
  so_iret m_36 (by decide) rfl dX0_turnsOf_14,
  so_iconst m_36 (by decide) dX0_turnsOf_15,
  so_iret m_36 (by decide) rfl dX0_turnsOf_16, trivial⟩
def gL_37 (K : gK) : List (Nat × gS) := [(0, o_aload 0 1), (1, o_aload 0 2), (2, o_iload 1 3), (3, o_callV 3 107 1 6), (6, o_push (.int (-1)) 7), (7, o_cmpne 14 10), (10, o_push (.int 1) 11), (11, o_goto 15), (14, o_push (.int 0) 15), (15, o_callV 3 90 1 18), (18, o_ifeq 25 21), (21, o_push (.int 0) 22), (22, o_goto 35), (25, o_aload 0 26), (26, o_getf 3 23 29), (29, o_aload 0 30), (30, o_iload 1 31), (31, o_callV 3 107 1 34), (34, o_iald 0 35), (35, o_iret)]
theorem s_37 {Z : gZ} {K : gK} : gAll Z K 37 (gL_37 K) := ⟨so_aload_n m_37 dX4_turnsOf_0,
  so_aload_n m_37 dX4_turnsOf_1,
  so_iload_n m_37 dX4_turnsOf_2,
  so_callV m_37 (gHn m_37) cal_107 (q := (RX4, TX4, 49)) (by decide) rfl q1659 q1661 qs52 dX4_turnsOf_3,
  so_iconst m_37 (by decide) dX4_turnsOf_6,
  so_cmpne m_37 (t := 14) (by decide) dX4_turnsOf_7,
  so_iconst m_37 (by decide) dX4_turnsOf_10,
  so_goto m_37 (t := 15) (by decide) dX4_turnsOf_11,
  so_iconst m_37 (by decide) dX4_turnsOf_14,
  so_callV m_37 (gHn m_37) cal_90 (q := (RX4, TX4, 49)) (by decide) rfl q1553 q1555 qs38 dX4_turnsOf_15,
  so_ifeq m_37 (t := 25) (by decide) dX4_turnsOf_18,
  so_iconst m_37 (by decide) dX4_turnsOf_21,
  so_goto m_37 (t := 35) (by decide) dX4_turnsOf_22,
  so_aload_n m_37 dX4_turnsOf_25,
  so_getf m_37 (c := 3) (k := 23) (C0 := RX4) (Tf := TX4) (N := 49) rfl (by decide) (by decide) in_X4 q1416 (fun _ _ _ _ h => h) dX4_turnsOf_26,
  so_aload_n m_37 dX4_turnsOf_29,
  so_iload_n m_37 dX4_turnsOf_30,
  so_callV m_37 (gHn m_37) cal_107 (q := (RX4, TX4, 49)) (by decide) rfl q1659 q1661 qs52 dX4_turnsOf_31,
  so_iald m_37 dX4_turnsOf_34,
  so_iret m_37 (by decide) rfl dX4_turnsOf_35, trivial⟩
theorem hk_38 {Z : gZ} {K : gK} : gHok Z K gT gHd 38 5 [(0, 10, 13, 13), (0, 10, 17, 15)] := by
  intro k hk
  match k, hk with
  | 0, _ => exact ⟨1, 4, 15, 16, rfl, so_astore m_38 (by decide) (fun _ _ => rfl) dX0_pieceAt_13, so_iconst m_38 (by decide) dX0_pieceAt_15, so_iret m_38 (by decide) rfl dX0_pieceAt_16⟩
  | 1, _ => exact ⟨2, 4, 19, 20, rfl, so_astore m_38 (by decide) (fun _ _ => rfl) dX0_pieceAt_17, so_iconst m_38 (by decide) dX0_pieceAt_19, so_iret m_38 (by decide) rfl dX0_pieceAt_20⟩
  | 2, _ => exact rfl
  | 3, _ => exact rfl
  | 4, _ => exact rfl
  | 5, _ => exact rfl
  | k + 6, h => exact absurd h (by omega)
def gL_38 (K : gK) : List (Nat × gS) := [(0, o_aload 3 1), (1, o_push (.int 0) 2), (2, o_aload 0 3), (3, o_iload 1 4), (4, o_iload 2 5), (5, o_callV 0 116 2 8), (8, o_i2l 9), (9, o_last 10), (10, o_goto 21), (13, o_astore 4 15), (15, o_push (.int 1) 16), (16, o_iret), (17, o_astore 4 19), (19, o_push (.int 2) 20), (20, o_iret), (21, o_push (.int 0) 22), (22, o_iret)]
theorem s_38 {Z : gZ} {K : gK} : gAll Z K 38 (gL_38 K) := ⟨so_aload_n m_38 dX0_pieceAt_0,
  so_iconst m_38 (by decide) dX0_pieceAt_1,
  so_aload_n m_38 dX0_pieceAt_2,
  so_iload_n m_38 dX0_pieceAt_3,
  so_iload_n m_38 dX0_pieceAt_4,
  so_callVH m_38 (by decide) (hk_38) cal_116 (q := (RX1, TX1, 16)) (by decide) rfl q1087 q1088 q1089 dX0_pieceAt_5,
  so_i2l m_38 dX0_pieceAt_8,
  so_last m_38 dX0_pieceAt_9,
  so_goto m_38 (t := 21) (by decide) dX0_pieceAt_10,
  so_astore m_38 (by decide) (fun _ _ => rfl) dX0_pieceAt_13,
  so_iconst m_38 (by decide) dX0_pieceAt_15,
  so_iret m_38 (by decide) rfl dX0_pieceAt_16,
  so_astore m_38 (by decide) (fun _ _ => rfl) dX0_pieceAt_17,
  so_iconst m_38 (by decide) dX0_pieceAt_19,
  so_iret m_38 (by decide) rfl dX0_pieceAt_20,
  so_iconst m_38 (by decide) dX0_pieceAt_21,
  so_iret m_38 (by decide) rfl dX0_pieceAt_22, trivial⟩
def gL_39 (K : gK) : List (Nat × gS) := [(0, o_iload 1 1), (1, o_push (.int 0) 2), (2, o_push (.int 59) 4), (4, o_callS 89 3 7), (7, o_ifeq 24 10), (10, o_iload 2 11), (11, o_push (.int 0) 12), (12, o_push (.int 11) 14), (14, o_callS 89 3 17), (17, o_ifeq 24 20), (20, o_push (.int 1) 21), (21, o_goto 25), (24, o_push (.int 0) 25), (25, o_istore 3 26), (26, o_aload 0 27), (27, o_iload 3 28), (28, o_ifne 35 31), (31, o_push (.int 1) 32), (32, o_goto 55), (35, o_aload 0 36), (36, o_getf 3 25 39), (39, o_push (.int 12) 41), (41, o_iload 1 42), (42, o_imul 43), (43, o_iload 2 44), (44, o_iadd 45), (45, o_iald 0 46), (46, o_push (.int (-1)) 47), (47, o_cmpne 54 50), (50, o_push (.int 2) 51), (51, o_goto 55), (54, o_push (.int 0) 55), (55, o_callV 3 90 1 58), (58, o_ifeq 65 61), (61, o_push (.int 0) 62), (62, o_goto 76), (65, o_aload 0 66), (66, o_getf 3 25 69), (69, o_push (.int 12) 71), (71, o_iload 1 72), (72, o_imul 73), (73, o_iload 2 74), (74, o_iadd 75), (75, o_iald 0 76), (76, o_iret)]
theorem s_39 {Z : gZ} {K : gK} : gAll Z K 39 (gL_39 K) := ⟨so_iload_n m_39 dX4_pieceAt_0,
  so_iconst m_39 (by decide) dX4_pieceAt_1,
  so_bipush m_39 (by decide) dX4_pieceAt_2,
  so_callS m_39 (gHn m_39) cal_89 q1550 q1551 dX4_pieceAt_4,
  so_ifeq m_39 (t := 24) (by decide) dX4_pieceAt_7,
  so_iload_n m_39 dX4_pieceAt_10,
  so_iconst m_39 (by decide) dX4_pieceAt_11,
  so_bipush m_39 (by decide) dX4_pieceAt_12,
  so_callS m_39 (gHn m_39) cal_89 q1550 q1551 dX4_pieceAt_14,
  so_ifeq m_39 (t := 24) (by decide) dX4_pieceAt_17,
  so_iconst m_39 (by decide) dX4_pieceAt_20,
  so_goto m_39 (t := 25) (by decide) dX4_pieceAt_21,
  so_iconst m_39 (by decide) dX4_pieceAt_24,
  so_istore_n m_39 rfl (by decide) (fun _ _ => rfl) dX4_pieceAt_25,
  so_aload_n m_39 dX4_pieceAt_26,
  so_iload_n m_39 dX4_pieceAt_27,
  so_ifne m_39 (t := 35) (by decide) dX4_pieceAt_28,
  so_iconst m_39 (by decide) dX4_pieceAt_31,
  so_goto m_39 (t := 55) (by decide) dX4_pieceAt_32,
  so_aload_n m_39 dX4_pieceAt_35,
  so_getf m_39 (c := 3) (k := 25) (C0 := RX4) (Tf := TX4) (N := 49) rfl (by decide) (by decide) in_X4 q1418 (fun _ _ _ _ h => h) dX4_pieceAt_36,
  so_bipush m_39 (by decide) dX4_pieceAt_39,
  so_iload_n m_39 dX4_pieceAt_41,
  so_imul m_39 dX4_pieceAt_42,
  so_iload_n m_39 dX4_pieceAt_43,
  so_iadd m_39 dX4_pieceAt_44,
  so_iald m_39 dX4_pieceAt_45,
  so_iconst m_39 (by decide) dX4_pieceAt_46,
  so_cmpne m_39 (t := 54) (by decide) dX4_pieceAt_47,
  so_iconst m_39 (by decide) dX4_pieceAt_50,
  so_goto m_39 (t := 55) (by decide) dX4_pieceAt_51,
  so_iconst m_39 (by decide) dX4_pieceAt_54,
  so_callV m_39 (gHn m_39) cal_90 (q := (RX4, TX4, 49)) (by decide) rfl q1553 q1555 qs38 dX4_pieceAt_55,
  so_ifeq m_39 (t := 65) (by decide) dX4_pieceAt_58,
  so_iconst m_39 (by decide) dX4_pieceAt_61,
  so_goto m_39 (t := 76) (by decide) dX4_pieceAt_62,
  so_aload_n m_39 dX4_pieceAt_65,
  so_getf m_39 (c := 3) (k := 25) (C0 := RX4) (Tf := TX4) (N := 49) rfl (by decide) (by decide) in_X4 q1418 (fun _ _ _ _ h => h) dX4_pieceAt_66,
  so_bipush m_39 (by decide) dX4_pieceAt_69,
  so_iload_n m_39 dX4_pieceAt_71,
  so_imul m_39 dX4_pieceAt_72,
  so_iload_n m_39 dX4_pieceAt_73,
  so_iadd m_39 dX4_pieceAt_74,
  so_iald m_39 dX4_pieceAt_75,
  so_iret m_39 (by decide) rfl dX4_pieceAt_76, trivial⟩
theorem hk_40 {Z : gZ} {K : gK} : gHok Z K gT gHd 40 5 [(0, 10, 13, 13), (0, 10, 17, 15)] := by
  intro k hk
  match k, hk with
  | 0, _ => exact ⟨1, 4, 15, 16, rfl, so_astore m_40 (by decide) (fun _ _ => rfl) dX0_pieceByPieces_13, so_iconst m_40 (by decide) dX0_pieceByPieces_15, so_iret m_40 (by decide) rfl dX0_pieceByPieces_16⟩
  | 1, _ => exact ⟨2, 4, 19, 20, rfl, so_astore m_40 (by decide) (fun _ _ => rfl) dX0_pieceByPieces_17, so_iconst m_40 (by decide) dX0_pieceByPieces_19, so_iret m_40 (by decide) rfl dX0_pieceByPieces_20⟩
  | 2, _ => exact rfl
  | 3, _ => exact rfl
  | 4, _ => exact rfl
  | 5, _ => exact rfl
  | k + 6, h => exact absurd h (by omega)
def gL_40 (K : gK) : List (Nat × gS) := [(0, o_aload 3 1), (1, o_push (.int 0) 2), (2, o_aload 0 3), (3, o_iload 1 4), (4, o_iload 2 5), (5, o_callV 0 117 2 8), (8, o_i2l 9), (9, o_last 10), (10, o_goto 21), (13, o_astore 4 15), (15, o_push (.int 1) 16), (16, o_iret), (17, o_astore 4 19), (19, o_push (.int 2) 20), (20, o_iret), (21, o_push (.int 0) 22), (22, o_iret)]
theorem s_40 {Z : gZ} {K : gK} : gAll Z K 40 (gL_40 K) := ⟨so_aload_n m_40 dX0_pieceByPieces_0,
  so_iconst m_40 (by decide) dX0_pieceByPieces_1,
  so_aload_n m_40 dX0_pieceByPieces_2,
  so_iload_n m_40 dX0_pieceByPieces_3,
  so_iload_n m_40 dX0_pieceByPieces_4,
  so_callVH m_40 (by decide) (hk_40) cal_117 (q := (RX1, TX1, 16)) (by decide) rfl q1097 q1098 q1099 dX0_pieceByPieces_5,
  so_i2l m_40 dX0_pieceByPieces_8,
  so_last m_40 dX0_pieceByPieces_9,
  so_goto m_40 (t := 21) (by decide) dX0_pieceByPieces_10,
  so_astore m_40 (by decide) (fun _ _ => rfl) dX0_pieceByPieces_13,
  so_iconst m_40 (by decide) dX0_pieceByPieces_15,
  so_iret m_40 (by decide) rfl dX0_pieceByPieces_16,
  so_astore m_40 (by decide) (fun _ _ => rfl) dX0_pieceByPieces_17,
  so_iconst m_40 (by decide) dX0_pieceByPieces_19,
  so_iret m_40 (by decide) rfl dX0_pieceByPieces_20,
  so_iconst m_40 (by decide) dX0_pieceByPieces_21,
  so_iret m_40 (by decide) rfl dX0_pieceByPieces_22, trivial⟩
def gL_41 (K : gK) : List (Nat × gS) := [(0, o_aload 0 1), (1, o_iload 1 2), (2, o_iload 2 3), (3, o_callV 3 39 2 6), (6, o_iret)]
theorem s_41 {Z : gZ} {K : gK} : gAll Z K 41 (gL_41 K) := ⟨so_aload_n m_41 dX4_pieceByPieces_0,
  so_iload_n m_41 dX4_pieceByPieces_1,
  so_iload_n m_41 dX4_pieceByPieces_2,
  so_callV m_41 (gHn m_41) cal_39 (q := (RX4, TX4, 49)) (by decide) rfl q1699 q1692 q1693 dX4_pieceByPieces_3,
  so_iret m_41 (by decide) rfl dX4_pieceByPieces_6, trivial⟩
def gL_42 (K : gK) : List (Nat × gS) := [(0, o_aload 0 1), (1, o_getf 0 6 4), (4, o_getf 2 2 7), (7, o_iret)]
theorem s_42 {Z : gZ} {K : gK} : gAll Z K 42 (gL_42 K) := ⟨so_aload_n m_42 dX1_length_0,
  so_getf m_42 (c := 0) (k := 6) (C0 := RX1) (Tf := TX1) (N := 16) rfl (by decide) (by decide) in_X1 q323 (fun _ _ _ _ h => h) dX1_length_1,
  so_getfN m_42 (c := 2) (k := 2) (C0 := RX3) (Tf := TX3) (N := 4) rfl (by decide) (by decide) in_X3 q187 (fun _ _ _ _ h => h) dX1_length_4,
  so_iret m_42 (by decide) rfl dX1_length_7, trivial⟩
def gL_43 (K : gK) : List (Nat × gS) := [(0, o_aload 0 1), (1, o_push (.int 0) 2), (2, o_putf 3 0 .int 5), (5, o_aload 0 6), (6, o_callV 3 109 0 9), (9, o_iret)]
theorem s_43 {Z : gZ} {K : gK} : gAll Z K 43 (gL_43 K) := ⟨so_aload_n m_43 dX4_length_0,
  so_iconst m_43 (by decide) dX4_length_1,
  so_putf m_43 (c := 3) (k := 0) (C0 := RX4) (Tf := TX4) (N := 49) rfl (by decide) (by decide) in_X4 tyX4 tyX4_ok nmX4 (tyX4_ok 0 (by decide)) (Or.inl q1393) (fun _ _ _ _ h => h) rfl dX4_length_2,
  so_aload_n m_43 dX4_length_5,
  so_callV m_43 (gHn m_43) cal_109 (q := (RX4, TX4, 49)) (by decide) rfl q1667 q1669 qs54 dX4_length_6,
  so_iret m_43 (by decide) rfl dX4_length_9, trivial⟩
def gL_44 (K : gK) : List (Nat × gS) := [(0, o_aload 0 1), (1, o_callV 0 118 0 4), (4, o_iret)]
theorem s_44 {Z : gZ} {K : gK} : gAll Z K 44 (gL_44 K) := ⟨so_aload_n m_44 dX1_used_0,
  so_callV m_44 (gHn m_44) cal_118 (q := (RX1, TX1, 16)) (by decide) rfl q400 q402 qs12 dX1_used_1,
  so_iret m_44 (by decide) rfl dX1_used_4, trivial⟩
def gL_45 (K : gK) : List (Nat × gS) := [(0, o_aload 0 1), (1, o_push (.int 0) 2), (2, o_putf 3 0 .int 5), (5, o_aload 0 6), (6, o_callV 3 119 0 9), (9, o_iret)]
theorem s_45 {Z : gZ} {K : gK} : gAll Z K 45 (gL_45 K) := ⟨so_aload_n m_45 dX4_used_0,
  so_iconst m_45 (by decide) dX4_used_1,
  so_putf m_45 (c := 3) (k := 0) (C0 := RX4) (Tf := TX4) (N := 49) rfl (by decide) (by decide) in_X4 tyX4 tyX4_ok nmX4 (tyX4_ok 0 (by decide)) (Or.inl q1393) (fun _ _ _ _ h => h) rfl dX4_used_2,
  so_aload_n m_45 dX4_used_5,
  so_callV m_45 (gHn m_45) cal_119 (q := (RX4, TX4, 49)) (by decide) rfl q1708 q1710 qs55 dX4_used_6,
  so_iret m_45 (by decide) rfl dX4_used_9, trivial⟩
theorem hk_46 {Z : gZ} {K : gK} : gHok Z K gT gHd 46 4 [(0, 9, 12, 13), (0, 9, 15, 15)] := by
  intro k hk
  match k, hk with
  | 0, _ => exact ⟨1, 3, 13, 14, rfl, so_astore_n m_46 rfl (by decide) (fun _ _ => rfl) dX0_phase_12, so_iconst m_46 (by decide) dX0_phase_13, so_iret m_46 (by decide) rfl dX0_phase_14⟩
  | 1, _ => exact ⟨2, 3, 16, 17, rfl, so_astore_n m_46 rfl (by decide) (fun _ _ => rfl) dX0_phase_15, so_iconst m_46 (by decide) dX0_phase_16, so_iret m_46 (by decide) rfl dX0_phase_17⟩
  | 2, _ => exact rfl
  | 3, _ => exact rfl
  | 4, _ => exact rfl
  | 5, _ => exact rfl
  | k + 6, h => exact absurd h (by omega)
def gL_46 (K : gK) : List (Nat × gS) := [(0, o_aload 2 1), (1, o_push (.int 0) 2), (2, o_aload 0 3), (3, o_iload 1 4), (4, o_callV 0 120 1 7), (7, o_i2l 8), (8, o_last 9), (9, o_goto 18), (12, o_astore 3 13), (13, o_push (.int 1) 14), (14, o_iret), (15, o_astore 3 16), (16, o_push (.int 2) 17), (17, o_iret), (18, o_push (.int 0) 19), (19, o_iret)]
theorem s_46 {Z : gZ} {K : gK} : gAll Z K 46 (gL_46 K) := ⟨so_aload_n m_46 dX0_phase_0,
  so_iconst m_46 (by decide) dX0_phase_1,
  so_aload_n m_46 dX0_phase_2,
  so_iload_n m_46 dX0_phase_3,
  so_callVH m_46 (by decide) (hk_46) cal_120 (q := (RX1, TX1, 16)) (by decide) rfl q1104 q1105 q1106 dX0_phase_4,
  so_i2l m_46 dX0_phase_7,
  so_last m_46 dX0_phase_8,
  so_goto m_46 (t := 18) (by decide) dX0_phase_9,
  so_astore_n m_46 rfl (by decide) (fun _ _ => rfl) dX0_phase_12,
  so_iconst m_46 (by decide) dX0_phase_13,
  so_iret m_46 (by decide) rfl dX0_phase_14,
  so_astore_n m_46 rfl (by decide) (fun _ _ => rfl) dX0_phase_15,
  so_iconst m_46 (by decide) dX0_phase_16,
  so_iret m_46 (by decide) rfl dX0_phase_17,
  so_iconst m_46 (by decide) dX0_phase_18,
  so_iret m_46 (by decide) rfl dX0_phase_19, trivial⟩
def gL_47 (K : gK) : List (Nat × gS) := [(0, o_aload 0 1), (1, o_iload 1 2), (2, o_push (.int 0) 3), (3, o_push (.int 3) 4), (4, o_callS 89 3 7), (7, o_ifne 14 10), (10, o_push (.int 1) 11), (11, o_goto 36), (14, o_aload 0 15), (15, o_getf 3 4 18), (18, o_push (.int 2) 19), (19, o_cmplt 31 22), (22, o_aload 0 23), (23, o_getf 3 27 26), (26, o_iload 1 27), (27, o_iald 0 28), (28, o_ifne 35 31), (31, o_push (.int 2) 32), (32, o_goto 36), (35, o_push (.int 0) 36), (36, o_callV 3 90 1 39), (39, o_ifeq 46 42), (42, o_push (.int 0) 43), (43, o_goto 52), (46, o_aload 0 47), (47, o_getf 3 26 50), (50, o_iload 1 51), (51, o_iald 0 52), (52, o_iret)]
theorem s_47 {Z : gZ} {K : gK} : gAll Z K 47 (gL_47 K) := ⟨so_aload_n m_47 dX4_phase_0,
  so_iload_n m_47 dX4_phase_1,
  so_iconst m_47 (by decide) dX4_phase_2,
  so_iconst m_47 (by decide) dX4_phase_3,
  so_callS m_47 (gHn m_47) cal_89 q1550 q1551 dX4_phase_4,
  so_ifne m_47 (t := 14) (by decide) dX4_phase_7,
  so_iconst m_47 (by decide) dX4_phase_10,
  so_goto m_47 (t := 36) (by decide) dX4_phase_11,
  so_aload_n m_47 dX4_phase_14,
  so_getf m_47 (c := 3) (k := 4) (C0 := RX4) (Tf := TX4) (N := 49) rfl (by decide) (by decide) in_X4 q1397 (fun _ _ _ _ h => h) dX4_phase_15,
  so_iconst m_47 (by decide) dX4_phase_18,
  so_cmplt m_47 (t := 31) (by decide) dX4_phase_19,
  so_aload_n m_47 dX4_phase_22,
  so_getf m_47 (c := 3) (k := 27) (C0 := RX4) (Tf := TX4) (N := 49) rfl (by decide) (by decide) in_X4 q1420 (fun _ _ _ _ h => h) dX4_phase_23,
  so_iload_n m_47 dX4_phase_26,
  so_iald m_47 dX4_phase_27,
  so_ifne m_47 (t := 35) (by decide) dX4_phase_28,
  so_iconst m_47 (by decide) dX4_phase_31,
  so_goto m_47 (t := 36) (by decide) dX4_phase_32,
  so_iconst m_47 (by decide) dX4_phase_35,
  so_callV m_47 (gHn m_47) cal_90 (q := (RX4, TX4, 49)) (by decide) rfl q1553 q1555 qs38 dX4_phase_36,
  so_ifeq m_47 (t := 46) (by decide) dX4_phase_39,
  so_iconst m_47 (by decide) dX4_phase_42,
  so_goto m_47 (t := 52) (by decide) dX4_phase_43,
  so_aload_n m_47 dX4_phase_46,
  so_getf m_47 (c := 3) (k := 26) (C0 := RX4) (Tf := TX4) (N := 49) rfl (by decide) (by decide) in_X4 q1419 (fun _ _ _ _ h => h) dX4_phase_47,
  so_iload_n m_47 dX4_phase_50,
  so_iald m_47 dX4_phase_51,
  so_iret m_47 (by decide) rfl dX4_phase_52, trivial⟩
theorem hk_48 {Z : gZ} {K : gK} : gHok Z K gT gHd 48 3 [(0, 8, 11, 15)] := by
  intro k hk
  match k, hk with
  | 0, _ => exact rfl
  | 1, _ => exact ⟨1, 2, 12, 13, rfl, so_astore_n m_48 rfl (by decide) (fun _ _ => rfl) dX0_addStyle_11, so_iconst m_48 (by decide) dX0_addStyle_12, so_iret m_48 (by decide) rfl dX0_addStyle_13⟩
  | 2, _ => exact rfl
  | 3, _ => exact rfl
  | 4, _ => exact rfl
  | 5, _ => exact rfl
  | k + 6, h => exact absurd h (by omega)
def gL_48 (K : gK) : List (Nat × gS) := [(0, o_aload 1 1), (1, o_push (.int 0) 2), (2, o_aload 0 3), (3, o_callV 0 121 0 6), (6, o_i2l 7), (7, o_last 8), (8, o_goto 14), (11, o_astore 2 12), (12, o_push (.int 1) 13), (13, o_iret), (14, o_push (.int 0) 15), (15, o_iret)]
theorem s_48 {Z : gZ} {K : gK} : gAll Z K 48 (gL_48 K) := ⟨so_aload_n m_48 dX0_addStyle_0,
  so_iconst m_48 (by decide) dX0_addStyle_1,
  so_aload_n m_48 dX0_addStyle_2,
  so_callVH m_48 (by decide) (hk_48) cal_121 (q := (RX1, TX1, 16)) (by decide) rfl q1111 q1112 q1113 dX0_addStyle_3,
  so_i2l m_48 dX0_addStyle_6,
  so_last m_48 dX0_addStyle_7,
  so_goto m_48 (t := 14) (by decide) dX0_addStyle_8,
  so_astore_n m_48 rfl (by decide) (fun _ _ => rfl) dX0_addStyle_11,
  so_iconst m_48 (by decide) dX0_addStyle_12,
  so_iret m_48 (by decide) rfl dX0_addStyle_13,
  so_iconst m_48 (by decide) dX0_addStyle_14,
  so_iret m_48 (by decide) rfl dX0_addStyle_15, trivial⟩
def gL_49 (K : gK) : List (Nat × gS) := [(0, o_aload 0 1), (1, o_aload 0 2), (2, o_getf 3 28 5), (5, o_push (.int 4) 6), (6, o_cmpne 13 9), (9, o_push (.int 1) 10), (10, o_goto 14), (13, o_push (.int 0) 14), (14, o_callV 3 90 1 17), (17, o_ifeq 22 20), (20, o_push (.int 0) 21), (21, o_iret), (22, o_aload 0 23), (23, o_dup 24), (24, o_getf 3 28 27), (27, o_push (.int 1) 28), (28, o_iadd 29), (29, o_putf 3 28 .int 32), (32, o_aload 0 33), (33, o_getf 3 28 36), (36, o_push (.int 1) 37), (37, o_isub 38), (38, o_iret)]
theorem s_49 {Z : gZ} {K : gK} : gAll Z K 49 (gL_49 K) := ⟨so_aload_n m_49 dX4_addStyle_0,
  so_aload_n m_49 dX4_addStyle_1,
  so_getf m_49 (c := 3) (k := 28) (C0 := RX4) (Tf := TX4) (N := 49) rfl (by decide) (by decide) in_X4 q1421 (fun _ _ _ _ h => h) dX4_addStyle_2,
  so_iconst m_49 (by decide) dX4_addStyle_5,
  so_cmpne m_49 (t := 13) (by decide) dX4_addStyle_6,
  so_iconst m_49 (by decide) dX4_addStyle_9,
  so_goto m_49 (t := 14) (by decide) dX4_addStyle_10,
  so_iconst m_49 (by decide) dX4_addStyle_13,
  so_callV m_49 (gHn m_49) cal_90 (q := (RX4, TX4, 49)) (by decide) rfl q1553 q1555 qs38 dX4_addStyle_14,
  so_ifeq m_49 (t := 22) (by decide) dX4_addStyle_17,
  so_iconst m_49 (by decide) dX4_addStyle_20,
  so_iret m_49 (by decide) rfl dX4_addStyle_21,
  so_aload_n m_49 dX4_addStyle_22,
  so_dup m_49 dX4_addStyle_23,
  so_getf m_49 (c := 3) (k := 28) (C0 := RX4) (Tf := TX4) (N := 49) rfl (by decide) (by decide) in_X4 q1421 (fun _ _ _ _ h => h) dX4_addStyle_24,
  so_iconst m_49 (by decide) dX4_addStyle_27,
  so_iadd m_49 dX4_addStyle_28,
  so_putf m_49 (c := 3) (k := 28) (C0 := RX4) (Tf := TX4) (N := 49) rfl (by decide) (by decide) in_X4 tyX4 tyX4_ok nmX4 (tyX4_ok 28 (by decide)) (Or.inl q1421) (fun _ _ _ _ h => h) rfl dX4_addStyle_29,
  so_aload_n m_49 dX4_addStyle_32,
  so_getf m_49 (c := 3) (k := 28) (C0 := RX4) (Tf := TX4) (N := 49) rfl (by decide) (by decide) in_X4 q1421 (fun _ _ _ _ h => h) dX4_addStyle_33,
  so_iconst m_49 (by decide) dX4_addStyle_36,
  so_isub m_49 dX4_addStyle_37,
  so_iret m_49 (by decide) rfl dX4_addStyle_38, trivial⟩
theorem hk_50 {Z : gZ} {K : gK} : gHok Z K gT gHd 50 7 [(0, 12, 15, 35), (0, 12, 19, 13), (0, 12, 23, 25)] := by
  intro k hk
  match k, hk with
  | 0, _ => exact ⟨2, 5, 21, 22, rfl, so_astore m_50 (by decide) (fun _ _ => rfl) dX0_addPart_19, so_iconst m_50 (by decide) dX0_addPart_21, so_iret m_50 (by decide) rfl dX0_addPart_22⟩
  | 1, _ => exact rfl
  | 2, _ => exact ⟨3, 5, 25, 26, rfl, so_astore m_50 (by decide) (fun _ _ => rfl) dX0_addPart_23, so_iconst m_50 (by decide) dX0_addPart_25, so_iret m_50 (by decide) rfl dX0_addPart_26⟩
  | 3, _ => exact ⟨1, 5, 17, 18, rfl, so_astore m_50 (by decide) (fun _ _ => rfl) dX0_addPart_15, so_iconst m_50 (by decide) dX0_addPart_17, so_iret m_50 (by decide) rfl dX0_addPart_18⟩
  | 4, _ => exact rfl
  | 5, _ => exact rfl
  | k + 6, h => exact absurd h (by omega)
def gL_50 (K : gK) : List (Nat × gS) := [(0, o_aload 4 2), (2, o_push (.int 0) 3), (3, o_aload 0 4), (4, o_iload 1 5), (5, o_iload 2 6), (6, o_iload 3 7), (7, o_callV 0 122 3 10), (10, o_i2l 11), (11, o_last 12), (12, o_goto 27), (15, o_astore 5 17), (17, o_push (.int 1) 18), (18, o_iret), (19, o_astore 5 21), (21, o_push (.int 2) 22), (22, o_iret), (23, o_astore 5 25), (25, o_push (.int 3) 26), (26, o_iret), (27, o_push (.int 0) 28), (28, o_iret)]
theorem s_50 {Z : gZ} {K : gK} : gAll Z K 50 (gL_50 K) := ⟨so_aload m_50 dX0_addPart_0,
  so_iconst m_50 (by decide) dX0_addPart_2,
  so_aload_n m_50 dX0_addPart_3,
  so_iload_n m_50 dX0_addPart_4,
  so_iload_n m_50 dX0_addPart_5,
  so_iload_n m_50 dX0_addPart_6,
  so_callVH m_50 (by decide) (hk_50) cal_122 (q := (RX1, TX1, 16)) (by decide) rfl q1133 q1134 q1135 dX0_addPart_7,
  so_i2l m_50 dX0_addPart_10,
  so_last m_50 dX0_addPart_11,
  so_goto m_50 (t := 27) (by decide) dX0_addPart_12,
  so_astore m_50 (by decide) (fun _ _ => rfl) dX0_addPart_15,
  so_iconst m_50 (by decide) dX0_addPart_17,
  so_iret m_50 (by decide) rfl dX0_addPart_18,
  so_astore m_50 (by decide) (fun _ _ => rfl) dX0_addPart_19,
  so_iconst m_50 (by decide) dX0_addPart_21,
  so_iret m_50 (by decide) rfl dX0_addPart_22,
  so_astore m_50 (by decide) (fun _ _ => rfl) dX0_addPart_23,
  so_iconst m_50 (by decide) dX0_addPart_25,
  so_iret m_50 (by decide) rfl dX0_addPart_26,
  so_iconst m_50 (by decide) dX0_addPart_27,
  so_iret m_50 (by decide) rfl dX0_addPart_28, trivial⟩
def gL_51_0 (K : gK) : List (Nat × gS) := [(0, o_aload 0 1), (1, o_iload 1 2), (2, o_callV 3 123 1 5), (5, o_ifeq 20 8), (8, o_aload 0 9), (9, o_iload 2 10), (10, o_callV 3 96 1 13), (13, o_ifeq 20 16), (16, o_push (.int 1) 17), (17, o_goto 21), (20, o_push (.int 0) 21), (21, o_istore 4 23), (23, o_aload 0 24), (24, o_iload 4 26), (26, o_ifne 33 29), (29, o_push (.int 1) 30), (30, o_goto 74), (33, o_iload 3 34), (34, o_push (.int 1) 35), (35, o_push (.int 4) 36), (36, o_callS 89 3 39), (39, o_ifne 46 42), (42, o_push (.int 2) 43), (43, o_goto 74), (46, o_aload 0 47), (47, o_getf 3 29 50), (50, o_push (.int 8) 52), (52, o_iload 1 53), (53, o_imul 54), (54, o_iload 2 55), (55, o_iadd 56), (56, o_iald 0 57), (57, o_ifgt 69 60), (60, o_aload 0 61), (61, o_getf 3 30 64), (64, o_iload 1 65), (65, o_iald 0 66), (66, o_ifle 73 69), (69, o_push (.int 3) 70), (70, o_goto 74), (73, o_push (.int 0) 74), (74, o_callV 3 90 1 77), (77, o_ifeq 82 80), (80, o_push (.int 0) 81), (81, o_iret), (82, o_aload 0 83), (83, o_getf 3 29 86), (86, o_push (.int 8) 88), (88, o_iload 1 89), (89, o_imul 90)]
theorem s_51_0 {Z : gZ} {K : gK} : gAll Z K 51 (gL_51_0 K) := ⟨so_aload_n m_51 dX4_addPart_0,
  so_iload_n m_51 dX4_addPart_1,
  so_callV m_51 (gHn m_51) cal_123 (q := (RX4, TX4, 49)) (by decide) rfl q1724 q1726 qs56 dX4_addPart_2,
  so_ifeq m_51 (t := 20) (by decide) dX4_addPart_5,
  so_aload_n m_51 dX4_addPart_8,
  so_iload_n m_51 dX4_addPart_9,
  so_callV m_51 (gHn m_51) cal_96 (q := (RX4, TX4, 49)) (by decide) rfl q1581 q1583 qs40 dX4_addPart_10,
  so_ifeq m_51 (t := 20) (by decide) dX4_addPart_13,
  so_iconst m_51 (by decide) dX4_addPart_16,
  so_goto m_51 (t := 21) (by decide) dX4_addPart_17,
  so_iconst m_51 (by decide) dX4_addPart_20,
  so_istore m_51 (by decide) (fun _ _ => rfl) dX4_addPart_21,
  so_aload_n m_51 dX4_addPart_23,
  so_iload m_51 dX4_addPart_24,
  so_ifne m_51 (t := 33) (by decide) dX4_addPart_26,
  so_iconst m_51 (by decide) dX4_addPart_29,
  so_goto m_51 (t := 74) (by decide) dX4_addPart_30,
  so_iload_n m_51 dX4_addPart_33,
  so_iconst m_51 (by decide) dX4_addPart_34,
  so_iconst m_51 (by decide) dX4_addPart_35,
  so_callS m_51 (gHn m_51) cal_89 q1550 q1551 dX4_addPart_36,
  so_ifne m_51 (t := 46) (by decide) dX4_addPart_39,
  so_iconst m_51 (by decide) dX4_addPart_42,
  so_goto m_51 (t := 74) (by decide) dX4_addPart_43,
  so_aload_n m_51 dX4_addPart_46,
  so_getf m_51 (c := 3) (k := 29) (C0 := RX4) (Tf := TX4) (N := 49) rfl (by decide) (by decide) in_X4 q1422 (fun _ _ _ _ h => h) dX4_addPart_47,
  so_bipush m_51 (by decide) dX4_addPart_50,
  so_iload_n m_51 dX4_addPart_52,
  so_imul m_51 dX4_addPart_53,
  so_iload_n m_51 dX4_addPart_54,
  so_iadd m_51 dX4_addPart_55,
  so_iald m_51 dX4_addPart_56,
  so_ifgt m_51 (t := 69) (by decide) dX4_addPart_57,
  so_aload_n m_51 dX4_addPart_60,
  so_getf m_51 (c := 3) (k := 30) (C0 := RX4) (Tf := TX4) (N := 49) rfl (by decide) (by decide) in_X4 q1423 (fun _ _ _ _ h => h) dX4_addPart_61,
  so_iload_n m_51 dX4_addPart_64,
  so_iald m_51 dX4_addPart_65,
  so_ifle m_51 (t := 73) (by decide) dX4_addPart_66,
  so_iconst m_51 (by decide) dX4_addPart_69,
  so_goto m_51 (t := 74) (by decide) dX4_addPart_70,
  so_iconst m_51 (by decide) dX4_addPart_73,
  so_callV m_51 (gHn m_51) cal_90 (q := (RX4, TX4, 49)) (by decide) rfl q1553 q1555 qs38 dX4_addPart_74,
  so_ifeq m_51 (t := 82) (by decide) dX4_addPart_77,
  so_iconst m_51 (by decide) dX4_addPart_80,
  so_iret m_51 (by decide) rfl dX4_addPart_81,
  so_aload_n m_51 dX4_addPart_82,
  so_getf m_51 (c := 3) (k := 29) (C0 := RX4) (Tf := TX4) (N := 49) rfl (by decide) (by decide) in_X4 q1422 (fun _ _ _ _ h => h) dX4_addPart_83,
  so_bipush m_51 (by decide) dX4_addPart_86,
  so_iload_n m_51 dX4_addPart_88,
  so_imul m_51 dX4_addPart_89, trivial⟩
def gL_51_1 (K : gK) : List (Nat × gS) := [(90, o_iload 2 91), (91, o_iadd 92), (92, o_iload 3 93), (93, o_iast 94), (94, o_aload 0 95), (95, o_iload 1 96), (96, o_callV 3 124 1 99), (99, o_iret)]
theorem s_51_1 {Z : gZ} {K : gK} : gAll Z K 51 (gL_51_1 K) := ⟨so_iload_n m_51 dX4_addPart_90,
  so_iadd m_51 dX4_addPart_91,
  so_iload_n m_51 dX4_addPart_92,
  so_iast m_51 dX4_addPart_93,
  so_aload_n m_51 dX4_addPart_94,
  so_iload_n m_51 dX4_addPart_95,
  so_callV m_51 (gHn m_51) cal_124 (q := (RX4, TX4, 49)) (by decide) rfl q1728 q1730 qs57 dX4_addPart_96,
  so_iret m_51 (by decide) rfl dX4_addPart_99, trivial⟩
def gL_51 (K : gK) : List (Nat × gS) := gL_51_0 K ++ (gL_51_1 K)
theorem s_51 {Z : gZ} {K : gK} : gAll Z K 51 (gL_51 K) := gAll_app s_51_0 s_51_1
theorem hk_52 {Z : gZ} {K : gK} : gHok Z K gT gHd 52 4 [(0, 9, 12, 35)] := by
  intro k hk
  match k, hk with
  | 0, _ => exact rfl
  | 1, _ => exact rfl
  | 2, _ => exact rfl
  | 3, _ => exact ⟨1, 3, 13, 14, rfl, so_astore_n m_52 rfl (by decide) (fun _ _ => rfl) dX0_piecesFor_12, so_iconst m_52 (by decide) dX0_piecesFor_13, so_iret m_52 (by decide) rfl dX0_piecesFor_14⟩
  | 4, _ => exact rfl
  | 5, _ => exact rfl
  | k + 6, h => exact absurd h (by omega)
def gL_52 (K : gK) : List (Nat × gS) := [(0, o_aload 2 1), (1, o_push (.int 0) 2), (2, o_aload 0 3), (3, o_iload 1 4), (4, o_callV 0 125 1 7), (7, o_i2l 8), (8, o_last 9), (9, o_goto 15), (12, o_astore 3 13), (13, o_push (.int 1) 14), (14, o_iret), (15, o_push (.int 0) 16), (16, o_iret)]
theorem s_52 {Z : gZ} {K : gK} : gAll Z K 52 (gL_52 K) := ⟨so_aload_n m_52 dX0_piecesFor_0,
  so_iconst m_52 (by decide) dX0_piecesFor_1,
  so_aload_n m_52 dX0_piecesFor_2,
  so_iload_n m_52 dX0_piecesFor_3,
  so_callVH m_52 (by decide) (hk_52) cal_125 (q := (RX1, TX1, 16)) (by decide) rfl q1165 q1166 q1167 dX0_piecesFor_4,
  so_i2l m_52 dX0_piecesFor_7,
  so_last m_52 dX0_piecesFor_8,
  so_goto m_52 (t := 15) (by decide) dX0_piecesFor_9,
  so_astore_n m_52 rfl (by decide) (fun _ _ => rfl) dX0_piecesFor_12,
  so_iconst m_52 (by decide) dX0_piecesFor_13,
  so_iret m_52 (by decide) rfl dX0_piecesFor_14,
  so_iconst m_52 (by decide) dX0_piecesFor_15,
  so_iret m_52 (by decide) rfl dX0_piecesFor_16, trivial⟩
def gL_53 (K : gK) : List (Nat × gS) := [(0, o_aload 0 1), (1, o_aload 0 2), (2, o_iload 1 3), (3, o_callV 3 123 1 6), (6, o_ifeq 13 9), (9, o_push (.int 0) 10), (10, o_goto 14), (13, o_push (.int 1) 14), (14, o_callV 3 90 1 17), (17, o_ifeq 24 20), (20, o_push (.int 0) 21), (21, o_goto 29), (24, o_aload 0 25), (25, o_iload 1 26), (26, o_callV 3 124 1 29), (29, o_iret)]
theorem s_53 {Z : gZ} {K : gK} : gAll Z K 53 (gL_53 K) := ⟨so_aload_n m_53 dX4_piecesFor_0,
  so_aload_n m_53 dX4_piecesFor_1,
  so_iload_n m_53 dX4_piecesFor_2,
  so_callV m_53 (gHn m_53) cal_123 (q := (RX4, TX4, 49)) (by decide) rfl q1724 q1726 qs56 dX4_piecesFor_3,
  so_ifeq m_53 (t := 13) (by decide) dX4_piecesFor_6,
  so_iconst m_53 (by decide) dX4_piecesFor_9,
  so_goto m_53 (t := 14) (by decide) dX4_piecesFor_10,
  so_iconst m_53 (by decide) dX4_piecesFor_13,
  so_callV m_53 (gHn m_53) cal_90 (q := (RX4, TX4, 49)) (by decide) rfl q1553 q1555 qs38 dX4_piecesFor_14,
  so_ifeq m_53 (t := 24) (by decide) dX4_piecesFor_17,
  so_iconst m_53 (by decide) dX4_piecesFor_20,
  so_goto m_53 (t := 29) (by decide) dX4_piecesFor_21,
  so_aload_n m_53 dX4_piecesFor_24,
  so_iload_n m_53 dX4_piecesFor_25,
  so_callV m_53 (gHn m_53) cal_124 (q := (RX4, TX4, 49)) (by decide) rfl q1728 q1730 qs57 dX4_piecesFor_26,
  so_iret m_53 (by decide) rfl dX4_piecesFor_29, trivial⟩
theorem hk_54 {Z : gZ} {K : gK} : gHok Z K gT gHd 54 4 [(0, 9, 12, 35), (0, 9, 15, 25), (0, 9, 18, 15)] := by
  intro k hk
  match k, hk with
  | 0, _ => exact rfl
  | 1, _ => exact ⟨3, 3, 19, 20, rfl, so_astore_n m_54 rfl (by decide) (fun _ _ => rfl) dX0_nestedLength_18, so_iconst m_54 (by decide) dX0_nestedLength_19, so_iret m_54 (by decide) rfl dX0_nestedLength_20⟩
  | 2, _ => exact ⟨2, 3, 16, 17, rfl, so_astore_n m_54 rfl (by decide) (fun _ _ => rfl) dX0_nestedLength_15, so_iconst m_54 (by decide) dX0_nestedLength_16, so_iret m_54 (by decide) rfl dX0_nestedLength_17⟩
  | 3, _ => exact ⟨1, 3, 13, 14, rfl, so_astore_n m_54 rfl (by decide) (fun _ _ => rfl) dX0_nestedLength_12, so_iconst m_54 (by decide) dX0_nestedLength_13, so_iret m_54 (by decide) rfl dX0_nestedLength_14⟩
  | 4, _ => exact rfl
  | 5, _ => exact rfl
  | k + 6, h => exact absurd h (by omega)
def gL_54 (K : gK) : List (Nat × gS) := [(0, o_aload 2 1), (1, o_push (.int 0) 2), (2, o_aload 0 3), (3, o_iload 1 4), (4, o_callV 0 126 1 7), (7, o_i2l 8), (8, o_last 9), (9, o_goto 21), (12, o_astore 3 13), (13, o_push (.int 1) 14), (14, o_iret), (15, o_astore 3 16), (16, o_push (.int 2) 17), (17, o_iret), (18, o_astore 3 19), (19, o_push (.int 3) 20), (20, o_iret), (21, o_push (.int 0) 22), (22, o_iret)]
theorem s_54 {Z : gZ} {K : gK} : gAll Z K 54 (gL_54 K) := ⟨so_aload_n m_54 dX0_nestedLength_0,
  so_iconst m_54 (by decide) dX0_nestedLength_1,
  so_aload_n m_54 dX0_nestedLength_2,
  so_iload_n m_54 dX0_nestedLength_3,
  so_callVH m_54 (by decide) (hk_54) cal_126 (q := (RX1, TX1, 16)) (by decide) rfl q1172 q1173 q1174 dX0_nestedLength_4,
  so_i2l m_54 dX0_nestedLength_7,
  so_last m_54 dX0_nestedLength_8,
  so_goto m_54 (t := 21) (by decide) dX0_nestedLength_9,
  so_astore_n m_54 rfl (by decide) (fun _ _ => rfl) dX0_nestedLength_12,
  so_iconst m_54 (by decide) dX0_nestedLength_13,
  so_iret m_54 (by decide) rfl dX0_nestedLength_14,
  so_astore_n m_54 rfl (by decide) (fun _ _ => rfl) dX0_nestedLength_15,
  so_iconst m_54 (by decide) dX0_nestedLength_16,
  so_iret m_54 (by decide) rfl dX0_nestedLength_17,
  so_astore_n m_54 rfl (by decide) (fun _ _ => rfl) dX0_nestedLength_18,
  so_iconst m_54 (by decide) dX0_nestedLength_19,
  so_iret m_54 (by decide) rfl dX0_nestedLength_20,
  so_iconst m_54 (by decide) dX0_nestedLength_21,
  so_iret m_54 (by decide) rfl dX0_nestedLength_22, trivial⟩
def gL_55 (K : gK) : List (Nat × gS) := [(0, o_aload 0 1), (1, o_aload 0 2), (2, o_iload 1 3), (3, o_callV 3 123 1 6), (6, o_ifne 13 9), (9, o_push (.int 1) 10), (10, o_goto 26), (13, o_aload 0 14), (14, o_iload 1 15), (15, o_callV 3 127 1 18), (18, o_ifeq 25 21), (21, o_push (.int 0) 22), (22, o_goto 26), (25, o_push (.int 2) 26), (26, o_callV 3 90 1 29), (29, o_ifeq 34 32), (32, o_push (.int 0) 33), (33, o_iret), (34, o_aload 0 35), (35, o_callV 3 128 0 38), (38, o_istore 2 39), (39, o_aload 0 40), (40, o_iload 2 41), (41, o_push (.int 60) 43), (43, o_cmple 50 46), (46, o_push (.int 3) 47), (47, o_goto 51), (50, o_push (.int 0) 51), (51, o_callV 3 90 1 54), (54, o_ifeq 61 57), (57, o_push (.int 0) 58), (58, o_goto 62), (61, o_iload 2 62), (62, o_iret)]
theorem s_55 {Z : gZ} {K : gK} : gAll Z K 55 (gL_55 K) := ⟨so_aload_n m_55 dX4_nestedLength_0,
  so_aload_n m_55 dX4_nestedLength_1,
  so_iload_n m_55 dX4_nestedLength_2,
  so_callV m_55 (gHn m_55) cal_123 (q := (RX4, TX4, 49)) (by decide) rfl q1724 q1726 qs56 dX4_nestedLength_3,
  so_ifne m_55 (t := 13) (by decide) dX4_nestedLength_6,
  so_iconst m_55 (by decide) dX4_nestedLength_9,
  so_goto m_55 (t := 26) (by decide) dX4_nestedLength_10,
  so_aload_n m_55 dX4_nestedLength_13,
  so_iload_n m_55 dX4_nestedLength_14,
  so_callV m_55 (gHn m_55) cal_127 (q := (RX4, TX4, 49)) (by decide) rfl q1740 q1742 qs58 dX4_nestedLength_15,
  so_ifeq m_55 (t := 25) (by decide) dX4_nestedLength_18,
  so_iconst m_55 (by decide) dX4_nestedLength_21,
  so_goto m_55 (t := 26) (by decide) dX4_nestedLength_22,
  so_iconst m_55 (by decide) dX4_nestedLength_25,
  so_callV m_55 (gHn m_55) cal_90 (q := (RX4, TX4, 49)) (by decide) rfl q1553 q1555 qs38 dX4_nestedLength_26,
  so_ifeq m_55 (t := 34) (by decide) dX4_nestedLength_29,
  so_iconst m_55 (by decide) dX4_nestedLength_32,
  so_iret m_55 (by decide) rfl dX4_nestedLength_33,
  so_aload_n m_55 dX4_nestedLength_34,
  so_callV m_55 (gHn m_55) cal_128 (q := (RX4, TX4, 49)) (by decide) rfl q1744 q1746 qs59 dX4_nestedLength_35,
  so_istore_n m_55 rfl (by decide) (fun _ _ => rfl) dX4_nestedLength_38,
  so_aload_n m_55 dX4_nestedLength_39,
  so_iload_n m_55 dX4_nestedLength_40,
  so_bipush m_55 (by decide) dX4_nestedLength_41,
  so_cmple m_55 (t := 50) (by decide) dX4_nestedLength_43,
  so_iconst m_55 (by decide) dX4_nestedLength_46,
  so_goto m_55 (t := 51) (by decide) dX4_nestedLength_47,
  so_iconst m_55 (by decide) dX4_nestedLength_50,
  so_callV m_55 (gHn m_55) cal_90 (q := (RX4, TX4, 49)) (by decide) rfl q1553 q1555 qs38 dX4_nestedLength_51,
  so_ifeq m_55 (t := 61) (by decide) dX4_nestedLength_54,
  so_iconst m_55 (by decide) dX4_nestedLength_57,
  so_goto m_55 (t := 62) (by decide) dX4_nestedLength_58,
  so_iload_n m_55 dX4_nestedLength_61,
  so_iret m_55 (by decide) rfl dX4_nestedLength_62, trivial⟩
theorem hk_56 {Z : gZ} {K : gK} : gHok Z K gT gHd 56 4 [(0, 9, 12, 35), (0, 9, 15, 25), (0, 9, 18, 15)] := by
  intro k hk
  match k, hk with
  | 0, _ => exact rfl
  | 1, _ => exact ⟨3, 3, 19, 20, rfl, so_astore_n m_56 rfl (by decide) (fun _ _ => rfl) dX0_nestedByTrying_18, so_iconst m_56 (by decide) dX0_nestedByTrying_19, so_iret m_56 (by decide) rfl dX0_nestedByTrying_20⟩
  | 2, _ => exact ⟨2, 3, 16, 17, rfl, so_astore_n m_56 rfl (by decide) (fun _ _ => rfl) dX0_nestedByTrying_15, so_iconst m_56 (by decide) dX0_nestedByTrying_16, so_iret m_56 (by decide) rfl dX0_nestedByTrying_17⟩
  | 3, _ => exact ⟨1, 3, 13, 14, rfl, so_astore_n m_56 rfl (by decide) (fun _ _ => rfl) dX0_nestedByTrying_12, so_iconst m_56 (by decide) dX0_nestedByTrying_13, so_iret m_56 (by decide) rfl dX0_nestedByTrying_14⟩
  | 4, _ => exact rfl
  | 5, _ => exact rfl
  | k + 6, h => exact absurd h (by omega)
def gL_56 (K : gK) : List (Nat × gS) := [(0, o_aload 2 1), (1, o_push (.int 0) 2), (2, o_aload 0 3), (3, o_iload 1 4), (4, o_callV 0 129 1 7), (7, o_i2l 8), (8, o_last 9), (9, o_goto 21), (12, o_astore 3 13), (13, o_push (.int 1) 14), (14, o_iret), (15, o_astore 3 16), (16, o_push (.int 2) 17), (17, o_iret), (18, o_astore 3 19), (19, o_push (.int 3) 20), (20, o_iret), (21, o_push (.int 0) 22), (22, o_iret)]
theorem s_56 {Z : gZ} {K : gK} : gAll Z K 56 (gL_56 K) := ⟨so_aload_n m_56 dX0_nestedByTrying_0,
  so_iconst m_56 (by decide) dX0_nestedByTrying_1,
  so_aload_n m_56 dX0_nestedByTrying_2,
  so_iload_n m_56 dX0_nestedByTrying_3,
  so_callVH m_56 (by decide) (hk_56) cal_129 (q := (RX1, TX1, 16)) (by decide) rfl q1251 q1252 q1253 dX0_nestedByTrying_4,
  so_i2l m_56 dX0_nestedByTrying_7,
  so_last m_56 dX0_nestedByTrying_8,
  so_goto m_56 (t := 21) (by decide) dX0_nestedByTrying_9,
  so_astore_n m_56 rfl (by decide) (fun _ _ => rfl) dX0_nestedByTrying_12,
  so_iconst m_56 (by decide) dX0_nestedByTrying_13,
  so_iret m_56 (by decide) rfl dX0_nestedByTrying_14,
  so_astore_n m_56 rfl (by decide) (fun _ _ => rfl) dX0_nestedByTrying_15,
  so_iconst m_56 (by decide) dX0_nestedByTrying_16,
  so_iret m_56 (by decide) rfl dX0_nestedByTrying_17,
  so_astore_n m_56 rfl (by decide) (fun _ _ => rfl) dX0_nestedByTrying_18,
  so_iconst m_56 (by decide) dX0_nestedByTrying_19,
  so_iret m_56 (by decide) rfl dX0_nestedByTrying_20,
  so_iconst m_56 (by decide) dX0_nestedByTrying_21,
  so_iret m_56 (by decide) rfl dX0_nestedByTrying_22, trivial⟩
def gL_57 (K : gK) : List (Nat × gS) := [(0, o_aload 0 1), (1, o_iload 1 2), (2, o_callV 3 55 1 5), (5, o_iret)]
theorem s_57 {Z : gZ} {K : gK} : gAll Z K 57 (gL_57 K) := ⟨so_aload_n m_57 dX4_nestedByTrying_0,
  so_iload_n m_57 dX4_nestedByTrying_1,
  so_callV m_57 (gHn m_57) cal_55 (q := (RX4, TX4, 49)) (by decide) rfl q1756 q1737 q1738 dX4_nestedByTrying_2,
  so_iret m_57 (by decide) rfl dX4_nestedByTrying_5, trivial⟩
theorem hk_58 {Z : gZ} {K : gK} : gHok Z K gT gHd 58 4 [(0, 9, 12, 13)] := by
  intro k hk
  match k, hk with
  | 0, _ => exact ⟨1, 3, 13, 14, rfl, so_astore_n m_58 rfl (by decide) (fun _ _ => rfl) dX0_addCloth_12, so_iconst m_58 (by decide) dX0_addCloth_13, so_iret m_58 (by decide) rfl dX0_addCloth_14⟩
  | 1, _ => exact rfl
  | 2, _ => exact rfl
  | 3, _ => exact rfl
  | 4, _ => exact rfl
  | 5, _ => exact rfl
  | k + 6, h => exact absurd h (by omega)
def gL_58 (K : gK) : List (Nat × gS) := [(0, o_aload 2 1), (1, o_push (.int 0) 2), (2, o_aload 0 3), (3, o_iload 1 4), (4, o_callV 0 130 1 7), (7, o_i2l 8), (8, o_last 9), (9, o_goto 15), (12, o_astore 3 13), (13, o_push (.int 1) 14), (14, o_iret), (15, o_push (.int 0) 16), (16, o_iret)]
theorem s_58 {Z : gZ} {K : gK} : gAll Z K 58 (gL_58 K) := ⟨so_aload_n m_58 dX0_addCloth_0,
  so_iconst m_58 (by decide) dX0_addCloth_1,
  so_aload_n m_58 dX0_addCloth_2,
  so_iload_n m_58 dX0_addCloth_3,
  so_callVH m_58 (by decide) (hk_58) cal_130 (q := (RX1, TX1, 16)) (by decide) rfl q1258 q1259 q1260 dX0_addCloth_4,
  so_i2l m_58 dX0_addCloth_7,
  so_last m_58 dX0_addCloth_8,
  so_goto m_58 (t := 15) (by decide) dX0_addCloth_9,
  so_astore_n m_58 rfl (by decide) (fun _ _ => rfl) dX0_addCloth_12,
  so_iconst m_58 (by decide) dX0_addCloth_13,
  so_iret m_58 (by decide) rfl dX0_addCloth_14,
  so_iconst m_58 (by decide) dX0_addCloth_15,
  so_iret m_58 (by decide) rfl dX0_addCloth_16, trivial⟩
def gL_59 (K : gK) : List (Nat × gS) := [(0, o_aload 0 1), (1, o_iload 1 2), (2, o_push (.int 1) 3), (3, o_push (.int 9999) 6), (6, o_callS 89 3 9), (9, o_ifeq 24 12), (12, o_aload 0 13), (13, o_getf 3 31 16), (16, o_iload 1 17), (17, o_iadd 18), (18, o_push (.int 999999) 21), (21, o_cmple 28 24), (24, o_push (.int 1) 25), (25, o_goto 29), (28, o_push (.int 0) 29), (29, o_callV 3 90 1 32), (32, o_ifeq 37 35), (35, o_push (.int 0) 36), (36, o_iret), (37, o_aload 0 38), (38, o_dup 39), (39, o_getf 3 31 42), (42, o_iload 1 43), (43, o_iadd 44), (44, o_putf 3 31 .int 47), (47, o_aload 0 48), (48, o_getf 3 31 51), (51, o_iret)]
theorem s_59 {Z : gZ} {K : gK} : gAll Z K 59 (gL_59 K) := ⟨so_aload_n m_59 dX4_addCloth_0,
  so_iload_n m_59 dX4_addCloth_1,
  so_iconst m_59 (by decide) dX4_addCloth_2,
  so_sipush m_59 (by decide) dX4_addCloth_3,
  so_callS m_59 (gHn m_59) cal_89 q1550 q1551 dX4_addCloth_6,
  so_ifeq m_59 (t := 24) (by decide) dX4_addCloth_9,
  so_aload_n m_59 dX4_addCloth_12,
  so_getf m_59 (c := 3) (k := 31) (C0 := RX4) (Tf := TX4) (N := 49) rfl (by decide) (by decide) in_X4 q1424 (fun _ _ _ _ h => h) dX4_addCloth_13,
  so_iload_n m_59 dX4_addCloth_16,
  so_iadd m_59 dX4_addCloth_17,
  so_ldcw m_59 q1761 dX4_addCloth_18,
  so_cmple m_59 (t := 28) (by decide) dX4_addCloth_21,
  so_iconst m_59 (by decide) dX4_addCloth_24,
  so_goto m_59 (t := 29) (by decide) dX4_addCloth_25,
  so_iconst m_59 (by decide) dX4_addCloth_28,
  so_callV m_59 (gHn m_59) cal_90 (q := (RX4, TX4, 49)) (by decide) rfl q1553 q1555 qs38 dX4_addCloth_29,
  so_ifeq m_59 (t := 37) (by decide) dX4_addCloth_32,
  so_iconst m_59 (by decide) dX4_addCloth_35,
  so_iret m_59 (by decide) rfl dX4_addCloth_36,
  so_aload_n m_59 dX4_addCloth_37,
  so_dup m_59 dX4_addCloth_38,
  so_getf m_59 (c := 3) (k := 31) (C0 := RX4) (Tf := TX4) (N := 49) rfl (by decide) (by decide) in_X4 q1424 (fun _ _ _ _ h => h) dX4_addCloth_39,
  so_iload_n m_59 dX4_addCloth_42,
  so_iadd m_59 dX4_addCloth_43,
  so_putf m_59 (c := 3) (k := 31) (C0 := RX4) (Tf := TX4) (N := 49) rfl (by decide) (by decide) in_X4 tyX4 tyX4_ok nmX4 (tyX4_ok 31 (by decide)) (Or.inl q1424) (fun _ _ _ _ h => h) rfl dX4_addCloth_44,
  so_aload_n m_59 dX4_addCloth_47,
  so_getf m_59 (c := 3) (k := 31) (C0 := RX4) (Tf := TX4) (N := 49) rfl (by decide) (by decide) in_X4 q1424 (fun _ _ _ _ h => h) dX4_addCloth_48,
  so_iret m_59 (by decide) rfl dX4_addCloth_51, trivial⟩
def gL_60 (K : gK) : List (Nat × gS) := [(0, o_aload 0 1), (1, o_getf 0 14 4), (4, o_iret)]
theorem s_60 {Z : gZ} {K : gK} : gAll Z K 60 (gL_60 K) := ⟨so_aload_n m_60 dX1_roll_0,
  so_getf m_60 (c := 0) (k := 14) (C0 := RX1) (Tf := TX1) (N := 16) rfl (by decide) (by decide) in_X1 q333 (fun _ _ _ _ h => h) dX1_roll_1,
  so_iret m_60 (by decide) rfl dX1_roll_4, trivial⟩
def gL_61 (K : gK) : List (Nat × gS) := [(0, o_aload 0 1), (1, o_push (.int 0) 2), (2, o_putf 3 0 .int 5), (5, o_aload 0 6), (6, o_getf 3 31 9), (9, o_iret)]
theorem s_61 {Z : gZ} {K : gK} : gAll Z K 61 (gL_61 K) := ⟨so_aload_n m_61 dX4_roll_0,
  so_iconst m_61 (by decide) dX4_roll_1,
  so_putf m_61 (c := 3) (k := 0) (C0 := RX4) (Tf := TX4) (N := 49) rfl (by decide) (by decide) in_X4 tyX4 tyX4_ok nmX4 (tyX4_ok 0 (by decide)) (Or.inl q1393) (fun _ _ _ _ h => h) rfl dX4_roll_2,
  so_aload_n m_61 dX4_roll_5,
  so_getf m_61 (c := 3) (k := 31) (C0 := RX4) (Tf := TX4) (N := 49) rfl (by decide) (by decide) in_X4 q1424 (fun _ _ _ _ h => h) dX4_roll_6,
  so_iret m_61 (by decide) rfl dX4_roll_9, trivial⟩
theorem hk_62 {Z : gZ} {K : gK} : gHok Z K gT gHd 62 4 [(0, 9, 12, 13), (0, 9, 15, 25), (0, 9, 18, 15)] := by
  intro k hk
  match k, hk with
  | 0, _ => exact ⟨1, 3, 13, 14, rfl, so_astore_n m_62 rfl (by decide) (fun _ _ => rfl) dX0_spread_12, so_iconst m_62 (by decide) dX0_spread_13, so_iret m_62 (by decide) rfl dX0_spread_14⟩
  | 1, _ => exact ⟨3, 3, 19, 20, rfl, so_astore_n m_62 rfl (by decide) (fun _ _ => rfl) dX0_spread_18, so_iconst m_62 (by decide) dX0_spread_19, so_iret m_62 (by decide) rfl dX0_spread_20⟩
  | 2, _ => exact ⟨2, 3, 16, 17, rfl, so_astore_n m_62 rfl (by decide) (fun _ _ => rfl) dX0_spread_15, so_iconst m_62 (by decide) dX0_spread_16, so_iret m_62 (by decide) rfl dX0_spread_17⟩
  | 3, _ => exact rfl
  | 4, _ => exact rfl
  | 5, _ => exact rfl
  | k + 6, h => exact absurd h (by omega)
def gL_62 (K : gK) : List (Nat × gS) := [(0, o_aload 2 1), (1, o_push (.int 0) 2), (2, o_aload 0 3), (3, o_iload 1 4), (4, o_callV 0 131 1 7), (7, o_i2l 8), (8, o_last 9), (9, o_goto 21), (12, o_astore 3 13), (13, o_push (.int 1) 14), (14, o_iret), (15, o_astore 3 16), (16, o_push (.int 2) 17), (17, o_iret), (18, o_astore 3 19), (19, o_push (.int 3) 20), (20, o_iret), (21, o_push (.int 0) 22), (22, o_iret)]
theorem s_62 {Z : gZ} {K : gK} : gAll Z K 62 (gL_62 K) := ⟨so_aload_n m_62 dX0_spread_0,
  so_iconst m_62 (by decide) dX0_spread_1,
  so_aload_n m_62 dX0_spread_2,
  so_iload_n m_62 dX0_spread_3,
  so_callVH m_62 (by decide) (hk_62) cal_131 (q := (RX1, TX1, 16)) (by decide) rfl q1266 q1267 q1268 dX0_spread_4,
  so_i2l m_62 dX0_spread_7,
  so_last m_62 dX0_spread_8,
  so_goto m_62 (t := 21) (by decide) dX0_spread_9,
  so_astore_n m_62 rfl (by decide) (fun _ _ => rfl) dX0_spread_12,
  so_iconst m_62 (by decide) dX0_spread_13,
  so_iret m_62 (by decide) rfl dX0_spread_14,
  so_astore_n m_62 rfl (by decide) (fun _ _ => rfl) dX0_spread_15,
  so_iconst m_62 (by decide) dX0_spread_16,
  so_iret m_62 (by decide) rfl dX0_spread_17,
  so_astore_n m_62 rfl (by decide) (fun _ _ => rfl) dX0_spread_18,
  so_iconst m_62 (by decide) dX0_spread_19,
  so_iret m_62 (by decide) rfl dX0_spread_20,
  so_iconst m_62 (by decide) dX0_spread_21,
  so_iret m_62 (by decide) rfl dX0_spread_22, trivial⟩
def gL_63_0 (K : gK) : List (Nat × gS) := [(0, o_aload 0 1), (1, o_iload 1 2), (2, o_push (.int 1) 3), (3, o_push (.int 50) 5), (5, o_callS 89 3 8), (8, o_ifne 15 11), (11, o_push (.int 1) 12), (12, o_goto 51), (15, o_aload 0 16), (16, o_getf 3 17 19), (19, o_ifne 26 22), (22, o_push (.int 2) 23), (23, o_goto 51), (26, o_aload 0 27), (27, o_iload 1 28), (28, o_callV 3 132 1 31), (31, o_aload 0 32), (32, o_getf 3 31 35), (35, o_cmpgt 46 38), (38, o_aload 0 39), (39, o_iload 1 40), (40, o_callV 3 133 1 43), (43, o_ifeq 50 46), (46, o_push (.int 3) 47), (47, o_goto 51), (50, o_push (.int 0) 51), (51, o_callV 3 90 1 54), (54, o_ifeq 59 57), (57, o_push (.int 0) 58), (58, o_iret), (59, o_aload 0 60), (60, o_dup 61), (61, o_getf 3 31 64), (64, o_aload 0 65), (65, o_iload 1 66), (66, o_callV 3 132 1 69), (69, o_isub 70), (70, o_putf 3 31 .int 73), (73, o_push (.int 0) 74), (74, o_istore 2 75), (75, o_iload 2 76), (76, o_push (.int 2) 77), (77, o_aload 0 78), (78, o_getf 3 7 81), (81, o_imul 82), (82, o_cmpge 162 85), (85, o_iload 1 86), (86, o_aload 0 87), (87, o_iload 2 88), (88, o_push (.int 2) 89)]
theorem s_63_0 {Z : gZ} {K : gK} : gAll Z K 63 (gL_63_0 K) := ⟨so_aload_n m_63 dX4_spread_0,
  so_iload_n m_63 dX4_spread_1,
  so_iconst m_63 (by decide) dX4_spread_2,
  so_bipush m_63 (by decide) dX4_spread_3,
  so_callS m_63 (gHn m_63) cal_89 q1550 q1551 dX4_spread_5,
  so_ifne m_63 (t := 15) (by decide) dX4_spread_8,
  so_iconst m_63 (by decide) dX4_spread_11,
  so_goto m_63 (t := 51) (by decide) dX4_spread_12,
  so_aload_n m_63 dX4_spread_15,
  so_getf m_63 (c := 3) (k := 17) (C0 := RX4) (Tf := TX4) (N := 49) rfl (by decide) (by decide) in_X4 q1410 (fun _ _ _ _ h => h) dX4_spread_16,
  so_ifne m_63 (t := 26) (by decide) dX4_spread_19,
  so_iconst m_63 (by decide) dX4_spread_22,
  so_goto m_63 (t := 51) (by decide) dX4_spread_23,
  so_aload_n m_63 dX4_spread_26,
  so_iload_n m_63 dX4_spread_27,
  so_callV m_63 (gHn m_63) cal_132 (q := (RX4, TX4, 49)) (by decide) rfl q1770 q1772 qs61 dX4_spread_28,
  so_aload_n m_63 dX4_spread_31,
  so_getf m_63 (c := 3) (k := 31) (C0 := RX4) (Tf := TX4) (N := 49) rfl (by decide) (by decide) in_X4 q1424 (fun _ _ _ _ h => h) dX4_spread_32,
  so_cmpgt m_63 (t := 46) (by decide) dX4_spread_35,
  so_aload_n m_63 dX4_spread_38,
  so_iload_n m_63 dX4_spread_39,
  so_callV m_63 (gHn m_63) cal_133 (q := (RX4, TX4, 49)) (by decide) rfl q1774 q1776 qs62 dX4_spread_40,
  so_ifeq m_63 (t := 50) (by decide) dX4_spread_43,
  so_iconst m_63 (by decide) dX4_spread_46,
  so_goto m_63 (t := 51) (by decide) dX4_spread_47,
  so_iconst m_63 (by decide) dX4_spread_50,
  so_callV m_63 (gHn m_63) cal_90 (q := (RX4, TX4, 49)) (by decide) rfl q1553 q1555 qs38 dX4_spread_51,
  so_ifeq m_63 (t := 59) (by decide) dX4_spread_54,
  so_iconst m_63 (by decide) dX4_spread_57,
  so_iret m_63 (by decide) rfl dX4_spread_58,
  so_aload_n m_63 dX4_spread_59,
  so_dup m_63 dX4_spread_60,
  so_getf m_63 (c := 3) (k := 31) (C0 := RX4) (Tf := TX4) (N := 49) rfl (by decide) (by decide) in_X4 q1424 (fun _ _ _ _ h => h) dX4_spread_61,
  so_aload_n m_63 dX4_spread_64,
  so_iload_n m_63 dX4_spread_65,
  so_callV m_63 (gHn m_63) cal_132 (q := (RX4, TX4, 49)) (by decide) rfl q1770 q1772 qs61 dX4_spread_66,
  so_isub m_63 dX4_spread_69,
  so_putf m_63 (c := 3) (k := 31) (C0 := RX4) (Tf := TX4) (N := 49) rfl (by decide) (by decide) in_X4 tyX4 tyX4_ok nmX4 (tyX4_ok 31 (by decide)) (Or.inl q1424) (fun _ _ _ _ h => h) rfl dX4_spread_70,
  so_iconst m_63 (by decide) dX4_spread_73,
  so_istore_n m_63 rfl (by decide) (fun _ _ => rfl) dX4_spread_74,
  so_iload_n m_63 dX4_spread_75,
  so_iconst m_63 (by decide) dX4_spread_76,
  so_aload_n m_63 dX4_spread_77,
  so_getf m_63 (c := 3) (k := 7) (C0 := RX4) (Tf := TX4) (N := 49) rfl (by decide) (by decide) in_X4 q1400 (fun _ _ _ _ h => h) dX4_spread_78,
  so_imul m_63 dX4_spread_81,
  so_cmpge m_63 (t := 162) (by decide) dX4_spread_82,
  so_iload_n m_63 dX4_spread_85,
  so_aload_n m_63 dX4_spread_86,
  so_iload_n m_63 dX4_spread_87,
  so_iconst m_63 (by decide) dX4_spread_88, trivial⟩
def gL_63_1 (K : gK) : List (Nat × gS) := [(89, o_idiv 90), (90, o_iload 2 91), (91, o_push (.int 2) 92), (92, o_irem 93), (93, o_push (.int 1) 94), (94, o_cmpne 101 97), (97, o_push (.int 1) 98), (98, o_goto 102), (101, o_push (.int 0) 102), (102, o_callV 3 134 2 105), (105, o_imul 106), (106, o_istore 3 107), (107, o_aload 0 108), (108, o_getf 3 16 111), (111, o_iload 2 112), (112, o_dup2 113), (113, o_iald 0 114), (114, o_iload 3 115), (115, o_iadd 116), (116, o_iast 117), (117, o_aload 0 118), (118, o_dup 119), (119, o_getf 3 32 122), (122, o_iload 3 123), (123, o_i2l 124), (124, o_ladd 125), (125, o_putf 3 32 .long 128), (128, o_aload 0 129), (129, o_getf 3 15 132), (132, o_iload 2 133), (133, o_push (.int 2) 134), (134, o_idiv 135), (135, o_aload 0 136), (136, o_getf 3 15 139), (139, o_iload 2 140), (140, o_push (.int 2) 141), (141, o_idiv 142), (142, o_iald 1 143), (143, o_ifne 150 146), (146, o_iload 3 147), (147, o_ifle 154 150), (150, o_push (.int 1) 151), (151, o_goto 155), (154, o_push (.int 0) 155), (155, o_zast 156), (156, o_iinc 2 1 159), (159, o_goto 75), (162, o_aload 0 163), (163, o_getf 3 31 166), (166, o_iret)]
theorem s_63_1 {Z : gZ} {K : gK} : gAll Z K 63 (gL_63_1 K) := ⟨so_idiv m_63 dX4_spread_89,
  so_iload_n m_63 dX4_spread_90,
  so_iconst m_63 (by decide) dX4_spread_91,
  so_irem m_63 dX4_spread_92,
  so_iconst m_63 (by decide) dX4_spread_93,
  so_cmpne m_63 (t := 101) (by decide) dX4_spread_94,
  so_iconst m_63 (by decide) dX4_spread_97,
  so_goto m_63 (t := 102) (by decide) dX4_spread_98,
  so_iconst m_63 (by decide) dX4_spread_101,
  so_callV m_63 (gHn m_63) cal_134 (q := (RX4, TX4, 49)) (by decide) rfl q1778 q1780 qs63 dX4_spread_102,
  so_imul m_63 dX4_spread_105,
  so_istore_n m_63 rfl (by decide) (fun _ _ => rfl) dX4_spread_106,
  so_aload_n m_63 dX4_spread_107,
  so_getf m_63 (c := 3) (k := 16) (C0 := RX4) (Tf := TX4) (N := 49) rfl (by decide) (by decide) in_X4 q1409 (fun _ _ _ _ h => h) dX4_spread_108,
  so_iload_n m_63 dX4_spread_111,
  so_dup2 m_63 dX4_spread_112,
  so_iald m_63 dX4_spread_113,
  so_iload_n m_63 dX4_spread_114,
  so_iadd m_63 dX4_spread_115,
  so_iast m_63 dX4_spread_116,
  so_aload_n m_63 dX4_spread_117,
  so_dup m_63 dX4_spread_118,
  so_getf m_63 (c := 3) (k := 32) (C0 := RX4) (Tf := TX4) (N := 49) rfl (by decide) (by decide) in_X4 q1425 (fun _ _ _ _ h => h) dX4_spread_119,
  so_iload_n m_63 dX4_spread_122,
  so_i2l m_63 dX4_spread_123,
  so_ladd m_63 dX4_spread_124,
  so_putf m_63 (c := 3) (k := 32) (C0 := RX4) (Tf := TX4) (N := 49) rfl (by decide) (by decide) in_X4 tyX4 tyX4_ok nmX4 (tyX4_ok 32 (by decide)) (Or.inl q1425) (fun _ _ _ _ h => h) rfl dX4_spread_125,
  so_aload_n m_63 dX4_spread_128,
  so_getf m_63 (c := 3) (k := 15) (C0 := RX4) (Tf := TX4) (N := 49) rfl (by decide) (by decide) in_X4 q1408 (fun _ _ _ _ h => h) dX4_spread_129,
  so_iload_n m_63 dX4_spread_132,
  so_iconst m_63 (by decide) dX4_spread_133,
  so_idiv m_63 dX4_spread_134,
  so_aload_n m_63 dX4_spread_135,
  so_getf m_63 (c := 3) (k := 15) (C0 := RX4) (Tf := TX4) (N := 49) rfl (by decide) (by decide) in_X4 q1408 (fun _ _ _ _ h => h) dX4_spread_136,
  so_iload_n m_63 dX4_spread_139,
  so_iconst m_63 (by decide) dX4_spread_140,
  so_idiv m_63 dX4_spread_141,
  so_zald m_63 dX4_spread_142,
  so_ifne m_63 (t := 150) (by decide) dX4_spread_143,
  so_iload_n m_63 dX4_spread_146,
  so_ifle m_63 (t := 154) (by decide) dX4_spread_147,
  so_iconst m_63 (by decide) dX4_spread_150,
  so_goto m_63 (t := 155) (by decide) dX4_spread_151,
  so_iconst m_63 (by decide) dX4_spread_154,
  so_zast m_63 dX4_spread_155,
  so_iinc m_63 (by decide) (by decide) (fun _ _ => rfl) dX4_spread_156,
  so_goto m_63 (t := 75) (by decide) dX4_spread_159,
  so_aload_n m_63 dX4_spread_162,
  so_getf m_63 (c := 3) (k := 31) (C0 := RX4) (Tf := TX4) (N := 49) rfl (by decide) (by decide) in_X4 q1424 (fun _ _ _ _ h => h) dX4_spread_163,
  so_iret m_63 (by decide) rfl dX4_spread_166, trivial⟩
def gL_63 (K : gK) : List (Nat × gS) := gL_63_0 K ++ (gL_63_1 K)
theorem s_63 {Z : gZ} {K : gK} : gAll Z K 63 (gL_63 K) := gAll_app s_63_0 s_63_1
theorem hk_64 {Z : gZ} {K : gK} : gHok Z K gT gHd 64 5 [(0, 10, 13, 35), (0, 10, 17, 25)] := by
  intro k hk
  match k, hk with
  | 0, _ => exact rfl
  | 1, _ => exact rfl
  | 2, _ => exact ⟨2, 4, 19, 20, rfl, so_astore m_64 (by decide) (fun _ _ => rfl) dX0_pieces_17, so_iconst m_64 (by decide) dX0_pieces_19, so_iret m_64 (by decide) rfl dX0_pieces_20⟩
  | 3, _ => exact ⟨1, 4, 15, 16, rfl, so_astore m_64 (by decide) (fun _ _ => rfl) dX0_pieces_13, so_iconst m_64 (by decide) dX0_pieces_15, so_iret m_64 (by decide) rfl dX0_pieces_16⟩
  | 4, _ => exact rfl
  | 5, _ => exact rfl
  | k + 6, h => exact absurd h (by omega)
def gL_64 (K : gK) : List (Nat × gS) := [(0, o_aload 3 1), (1, o_push (.int 0) 2), (2, o_aload 0 3), (3, o_iload 1 4), (4, o_iload 2 5), (5, o_callV 0 135 2 8), (8, o_i2l 9), (9, o_last 10), (10, o_goto 21), (13, o_astore 4 15), (15, o_push (.int 1) 16), (16, o_iret), (17, o_astore 4 19), (19, o_push (.int 2) 20), (20, o_iret), (21, o_push (.int 0) 22), (22, o_iret)]
theorem s_64 {Z : gZ} {K : gK} : gAll Z K 64 (gL_64 K) := ⟨so_aload_n m_64 dX0_pieces_0,
  so_iconst m_64 (by decide) dX0_pieces_1,
  so_aload_n m_64 dX0_pieces_2,
  so_iload_n m_64 dX0_pieces_3,
  so_iload_n m_64 dX0_pieces_4,
  so_callVH m_64 (by decide) (hk_64) cal_135 (q := (RX1, TX1, 16)) (by decide) rfl q1281 q1282 q1283 dX0_pieces_5,
  so_i2l m_64 dX0_pieces_8,
  so_last m_64 dX0_pieces_9,
  so_goto m_64 (t := 21) (by decide) dX0_pieces_10,
  so_astore m_64 (by decide) (fun _ _ => rfl) dX0_pieces_13,
  so_iconst m_64 (by decide) dX0_pieces_15,
  so_iret m_64 (by decide) rfl dX0_pieces_16,
  so_astore m_64 (by decide) (fun _ _ => rfl) dX0_pieces_17,
  so_iconst m_64 (by decide) dX0_pieces_19,
  so_iret m_64 (by decide) rfl dX0_pieces_20,
  so_iconst m_64 (by decide) dX0_pieces_21,
  so_iret m_64 (by decide) rfl dX0_pieces_22, trivial⟩
def gL_65 (K : gK) : List (Nat × gS) := [(0, o_aload 0 1), (1, o_aload 0 2), (2, o_iload 1 3), (3, o_callV 3 96 1 6), (6, o_ifne 13 9), (9, o_push (.int 1) 10), (10, o_goto 31), (13, o_iload 2 14), (14, o_ifeq 30 17), (17, o_aload 0 18), (18, o_getf 3 9 21), (21, o_iload 1 22), (22, o_iald 1 23), (23, o_ifne 30 26), (26, o_push (.int 2) 27), (27, o_goto 31), (30, o_push (.int 0) 31), (31, o_callV 3 90 1 34), (34, o_ifeq 41 37), (37, o_push (.int 0) 38), (38, o_goto 59), (41, o_aload 0 42), (42, o_getf 3 16 45), (45, o_push (.int 2) 46), (46, o_iload 1 47), (47, o_imul 48), (48, o_iload 2 49), (49, o_ifeq 56 52), (52, o_push (.int 1) 53), (53, o_goto 57), (56, o_push (.int 0) 57), (57, o_iadd 58), (58, o_iald 0 59), (59, o_iret)]
theorem s_65 {Z : gZ} {K : gK} : gAll Z K 65 (gL_65 K) := ⟨so_aload_n m_65 dX4_pieces_0,
  so_aload_n m_65 dX4_pieces_1,
  so_iload_n m_65 dX4_pieces_2,
  so_callV m_65 (gHn m_65) cal_96 (q := (RX4, TX4, 49)) (by decide) rfl q1581 q1583 qs40 dX4_pieces_3,
  so_ifne m_65 (t := 13) (by decide) dX4_pieces_6,
  so_iconst m_65 (by decide) dX4_pieces_9,
  so_goto m_65 (t := 31) (by decide) dX4_pieces_10,
  so_iload_n m_65 dX4_pieces_13,
  so_ifeq m_65 (t := 30) (by decide) dX4_pieces_14,
  so_aload_n m_65 dX4_pieces_17,
  so_getf m_65 (c := 3) (k := 9) (C0 := RX4) (Tf := TX4) (N := 49) rfl (by decide) (by decide) in_X4 q1402 (fun _ _ _ _ h => h) dX4_pieces_18,
  so_iload_n m_65 dX4_pieces_21,
  so_zald m_65 dX4_pieces_22,
  so_ifne m_65 (t := 30) (by decide) dX4_pieces_23,
  so_iconst m_65 (by decide) dX4_pieces_26,
  so_goto m_65 (t := 31) (by decide) dX4_pieces_27,
  so_iconst m_65 (by decide) dX4_pieces_30,
  so_callV m_65 (gHn m_65) cal_90 (q := (RX4, TX4, 49)) (by decide) rfl q1553 q1555 qs38 dX4_pieces_31,
  so_ifeq m_65 (t := 41) (by decide) dX4_pieces_34,
  so_iconst m_65 (by decide) dX4_pieces_37,
  so_goto m_65 (t := 59) (by decide) dX4_pieces_38,
  so_aload_n m_65 dX4_pieces_41,
  so_getf m_65 (c := 3) (k := 16) (C0 := RX4) (Tf := TX4) (N := 49) rfl (by decide) (by decide) in_X4 q1409 (fun _ _ _ _ h => h) dX4_pieces_42,
  so_iconst m_65 (by decide) dX4_pieces_45,
  so_iload_n m_65 dX4_pieces_46,
  so_imul m_65 dX4_pieces_47,
  so_iload_n m_65 dX4_pieces_48,
  so_ifeq m_65 (t := 56) (by decide) dX4_pieces_49,
  so_iconst m_65 (by decide) dX4_pieces_52,
  so_goto m_65 (t := 57) (by decide) dX4_pieces_53,
  so_iconst m_65 (by decide) dX4_pieces_56,
  so_iadd m_65 dX4_pieces_57,
  so_iald m_65 dX4_pieces_58,
  so_iret m_65 (by decide) rfl dX4_pieces_59, trivial⟩
theorem hk_66 {Z : gZ} {K : gK} : gHok Z K gT gHd 66 4 [(0, 9, 12, 35), (0, 9, 15, 25)] := by
  intro k hk
  match k, hk with
  | 0, _ => exact rfl
  | 1, _ => exact rfl
  | 2, _ => exact ⟨2, 3, 16, 17, rfl, so_astore_n m_66 rfl (by decide) (fun _ _ => rfl) dX0_canMake_15, so_iconst m_66 (by decide) dX0_canMake_16, so_iret m_66 (by decide) rfl dX0_canMake_17⟩
  | 3, _ => exact ⟨1, 3, 13, 14, rfl, so_astore_n m_66 rfl (by decide) (fun _ _ => rfl) dX0_canMake_12, so_iconst m_66 (by decide) dX0_canMake_13, so_iret m_66 (by decide) rfl dX0_canMake_14⟩
  | 4, _ => exact rfl
  | 5, _ => exact rfl
  | k + 6, h => exact absurd h (by omega)
def gL_66 (K : gK) : List (Nat × gS) := [(0, o_aload 2 1), (1, o_push (.int 0) 2), (2, o_aload 0 3), (3, o_iload 1 4), (4, o_callV 0 136 1 7), (7, o_i2l 8), (8, o_last 9), (9, o_goto 18), (12, o_astore 3 13), (13, o_push (.int 1) 14), (14, o_iret), (15, o_astore 3 16), (16, o_push (.int 2) 17), (17, o_iret), (18, o_push (.int 0) 19), (19, o_iret)]
theorem s_66 {Z : gZ} {K : gK} : gAll Z K 66 (gL_66 K) := ⟨so_aload_n m_66 dX0_canMake_0,
  so_iconst m_66 (by decide) dX0_canMake_1,
  so_aload_n m_66 dX0_canMake_2,
  so_iload_n m_66 dX0_canMake_3,
  so_callVH m_66 (by decide) (hk_66) cal_136 (q := (RX1, TX1, 16)) (by decide) rfl q1288 q1289 q1290 dX0_canMake_4,
  so_i2l m_66 dX0_canMake_7,
  so_last m_66 dX0_canMake_8,
  so_goto m_66 (t := 18) (by decide) dX0_canMake_9,
  so_astore_n m_66 rfl (by decide) (fun _ _ => rfl) dX0_canMake_12,
  so_iconst m_66 (by decide) dX0_canMake_13,
  so_iret m_66 (by decide) rfl dX0_canMake_14,
  so_astore_n m_66 rfl (by decide) (fun _ _ => rfl) dX0_canMake_15,
  so_iconst m_66 (by decide) dX0_canMake_16,
  so_iret m_66 (by decide) rfl dX0_canMake_17,
  so_iconst m_66 (by decide) dX0_canMake_18,
  so_iret m_66 (by decide) rfl dX0_canMake_19, trivial⟩
def gL_67 (K : gK) : List (Nat × gS) := [(0, o_aload 0 1), (1, o_aload 0 2), (2, o_iload 1 3), (3, o_callV 3 123 1 6), (6, o_ifne 13 9), (9, o_push (.int 1) 10), (10, o_goto 26), (13, o_aload 0 14), (14, o_iload 1 15), (15, o_callV 3 124 1 18), (18, o_ifne 25 21), (21, o_push (.int 2) 22), (22, o_goto 26), (25, o_push (.int 0) 26), (26, o_callV 3 90 1 29), (29, o_ifeq 36 32), (32, o_push (.int 0) 33), (33, o_goto 42), (36, o_aload 0 37), (37, o_iload 1 38), (38, o_push (.int 0) 39), (39, o_callV 3 137 2 42), (42, o_iret)]
theorem s_67 {Z : gZ} {K : gK} : gAll Z K 67 (gL_67 K) := ⟨so_aload_n m_67 dX4_canMake_0,
  so_aload_n m_67 dX4_canMake_1,
  so_iload_n m_67 dX4_canMake_2,
  so_callV m_67 (gHn m_67) cal_123 (q := (RX4, TX4, 49)) (by decide) rfl q1724 q1726 qs56 dX4_canMake_3,
  so_ifne m_67 (t := 13) (by decide) dX4_canMake_6,
  so_iconst m_67 (by decide) dX4_canMake_9,
  so_goto m_67 (t := 26) (by decide) dX4_canMake_10,
  so_aload_n m_67 dX4_canMake_13,
  so_iload_n m_67 dX4_canMake_14,
  so_callV m_67 (gHn m_67) cal_124 (q := (RX4, TX4, 49)) (by decide) rfl q1728 q1730 qs57 dX4_canMake_15,
  so_ifne m_67 (t := 25) (by decide) dX4_canMake_18,
  so_iconst m_67 (by decide) dX4_canMake_21,
  so_goto m_67 (t := 26) (by decide) dX4_canMake_22,
  so_iconst m_67 (by decide) dX4_canMake_25,
  so_callV m_67 (gHn m_67) cal_90 (q := (RX4, TX4, 49)) (by decide) rfl q1553 q1555 qs38 dX4_canMake_26,
  so_ifeq m_67 (t := 36) (by decide) dX4_canMake_29,
  so_iconst m_67 (by decide) dX4_canMake_32,
  so_goto m_67 (t := 42) (by decide) dX4_canMake_33,
  so_aload_n m_67 dX4_canMake_36,
  so_iload_n m_67 dX4_canMake_37,
  so_iconst m_67 (by decide) dX4_canMake_38,
  so_callV m_67 (gHn m_67) cal_137 (q := (RX4, TX4, 49)) (by decide) rfl q1790 q1792 qs64 dX4_canMake_39,
  so_iret m_67 (by decide) rfl dX4_canMake_42, trivial⟩
theorem hk_68 {Z : gZ} {K : gK} : gHok Z K gT gHd 68 4 [(0, 9, 12, 35), (0, 9, 15, 25)] := by
  intro k hk
  match k, hk with
  | 0, _ => exact rfl
  | 1, _ => exact rfl
  | 2, _ => exact ⟨2, 3, 16, 17, rfl, so_astore_n m_68 rfl (by decide) (fun _ _ => rfl) dX0_canMakeByTaking_15, so_iconst m_68 (by decide) dX0_canMakeByTaking_16, so_iret m_68 (by decide) rfl dX0_canMakeByTaking_17⟩
  | 3, _ => exact ⟨1, 3, 13, 14, rfl, so_astore_n m_68 rfl (by decide) (fun _ _ => rfl) dX0_canMakeByTaking_12, so_iconst m_68 (by decide) dX0_canMakeByTaking_13, so_iret m_68 (by decide) rfl dX0_canMakeByTaking_14⟩
  | 4, _ => exact rfl
  | 5, _ => exact rfl
  | k + 6, h => exact absurd h (by omega)
def gL_68 (K : gK) : List (Nat × gS) := [(0, o_aload 2 1), (1, o_push (.int 0) 2), (2, o_aload 0 3), (3, o_iload 1 4), (4, o_callV 0 138 1 7), (7, o_i2l 8), (8, o_last 9), (9, o_goto 18), (12, o_astore 3 13), (13, o_push (.int 1) 14), (14, o_iret), (15, o_astore 3 16), (16, o_push (.int 2) 17), (17, o_iret), (18, o_push (.int 0) 19), (19, o_iret)]
theorem s_68 {Z : gZ} {K : gK} : gAll Z K 68 (gL_68 K) := ⟨so_aload_n m_68 dX0_canMakeByTaking_0,
  so_iconst m_68 (by decide) dX0_canMakeByTaking_1,
  so_aload_n m_68 dX0_canMakeByTaking_2,
  so_iload_n m_68 dX0_canMakeByTaking_3,
  so_callVH m_68 (by decide) (hk_68) cal_138 (q := (RX1, TX1, 16)) (by decide) rfl q1309 q1310 q1311 dX0_canMakeByTaking_4,
  so_i2l m_68 dX0_canMakeByTaking_7,
  so_last m_68 dX0_canMakeByTaking_8,
  so_goto m_68 (t := 18) (by decide) dX0_canMakeByTaking_9,
  so_astore_n m_68 rfl (by decide) (fun _ _ => rfl) dX0_canMakeByTaking_12,
  so_iconst m_68 (by decide) dX0_canMakeByTaking_13,
  so_iret m_68 (by decide) rfl dX0_canMakeByTaking_14,
  so_astore_n m_68 rfl (by decide) (fun _ _ => rfl) dX0_canMakeByTaking_15,
  so_iconst m_68 (by decide) dX0_canMakeByTaking_16,
  so_iret m_68 (by decide) rfl dX0_canMakeByTaking_17,
  so_iconst m_68 (by decide) dX0_canMakeByTaking_18,
  so_iret m_68 (by decide) rfl dX0_canMakeByTaking_19, trivial⟩
def gL_69 (K : gK) : List (Nat × gS) := [(0, o_aload 0 1), (1, o_iload 1 2), (2, o_callV 3 67 1 5), (5, o_iret)]
theorem s_69 {Z : gZ} {K : gK} : gAll Z K 69 (gL_69 K) := ⟨so_aload_n m_69 dX4_canMakeByTaking_0,
  so_iload_n m_69 dX4_canMakeByTaking_1,
  so_callV m_69 (gHn m_69) cal_67 (q := (RX4, TX4, 49)) (by decide) rfl q1799 q1787 q1788 dX4_canMakeByTaking_2,
  so_iret m_69 (by decide) rfl dX4_canMakeByTaking_5, trivial⟩
theorem hk_70 {Z : gZ} {K : gK} : gHok Z K gT gHd 70 5 [(0, 10, 13, 35), (0, 10, 17, 13), (0, 10, 21, 25), (0, 10, 25, 15)] := by
  intro k hk
  match k, hk with
  | 0, _ => exact ⟨2, 4, 19, 20, rfl, so_astore m_70 (by decide) (fun _ _ => rfl) dX0_make_17, so_iconst m_70 (by decide) dX0_make_19, so_iret m_70 (by decide) rfl dX0_make_20⟩
  | 1, _ => exact ⟨4, 4, 27, 28, rfl, so_astore m_70 (by decide) (fun _ _ => rfl) dX0_make_25, so_iconst m_70 (by decide) dX0_make_27, so_iret m_70 (by decide) rfl dX0_make_28⟩
  | 2, _ => exact ⟨3, 4, 23, 24, rfl, so_astore m_70 (by decide) (fun _ _ => rfl) dX0_make_21, so_iconst m_70 (by decide) dX0_make_23, so_iret m_70 (by decide) rfl dX0_make_24⟩
  | 3, _ => exact ⟨1, 4, 15, 16, rfl, so_astore m_70 (by decide) (fun _ _ => rfl) dX0_make_13, so_iconst m_70 (by decide) dX0_make_15, so_iret m_70 (by decide) rfl dX0_make_16⟩
  | 4, _ => exact rfl
  | 5, _ => exact rfl
  | k + 6, h => exact absurd h (by omega)
def gL_70 (K : gK) : List (Nat × gS) := [(0, o_aload 3 1), (1, o_push (.int 0) 2), (2, o_aload 0 3), (3, o_iload 1 4), (4, o_iload 2 5), (5, o_callV 0 139 2 8), (8, o_i2l 9), (9, o_last 10), (10, o_goto 29), (13, o_astore 4 15), (15, o_push (.int 1) 16), (16, o_iret), (17, o_astore 4 19), (19, o_push (.int 2) 20), (20, o_iret), (21, o_astore 4 23), (23, o_push (.int 3) 24), (24, o_iret), (25, o_astore 4 27), (27, o_push (.int 4) 28), (28, o_iret), (29, o_push (.int 0) 30), (30, o_iret)]
theorem s_70 {Z : gZ} {K : gK} : gAll Z K 70 (gL_70 K) := ⟨so_aload_n m_70 dX0_make_0,
  so_iconst m_70 (by decide) dX0_make_1,
  so_aload_n m_70 dX0_make_2,
  so_iload_n m_70 dX0_make_3,
  so_iload_n m_70 dX0_make_4,
  so_callVH m_70 (by decide) (hk_70) cal_139 (q := (RX1, TX1, 16)) (by decide) rfl q1320 q1321 q1322 dX0_make_5,
  so_i2l m_70 dX0_make_8,
  so_last m_70 dX0_make_9,
  so_goto m_70 (t := 29) (by decide) dX0_make_10,
  so_astore m_70 (by decide) (fun _ _ => rfl) dX0_make_13,
  so_iconst m_70 (by decide) dX0_make_15,
  so_iret m_70 (by decide) rfl dX0_make_16,
  so_astore m_70 (by decide) (fun _ _ => rfl) dX0_make_17,
  so_iconst m_70 (by decide) dX0_make_19,
  so_iret m_70 (by decide) rfl dX0_make_20,
  so_astore m_70 (by decide) (fun _ _ => rfl) dX0_make_21,
  so_iconst m_70 (by decide) dX0_make_23,
  so_iret m_70 (by decide) rfl dX0_make_24,
  so_astore m_70 (by decide) (fun _ _ => rfl) dX0_make_25,
  so_iconst m_70 (by decide) dX0_make_27,
  so_iret m_70 (by decide) rfl dX0_make_28,
  so_iconst m_70 (by decide) dX0_make_29,
  so_iret m_70 (by decide) rfl dX0_make_30, trivial⟩
def gL_71_0 (K : gK) : List (Nat × gS) := [(0, o_aload 0 1), (1, o_aload 0 2), (2, o_iload 1 3), (3, o_callV 3 123 1 6), (6, o_ifne 13 9), (9, o_push (.int 1) 10), (10, o_goto 54), (13, o_iload 2 14), (14, o_push (.int 1) 15), (15, o_push (.int 99) 17), (17, o_callS 89 3 20), (20, o_ifne 27 23), (23, o_push (.int 2) 24), (24, o_goto 54), (27, o_aload 0 28), (28, o_iload 1 29), (29, o_callV 3 124 1 32), (32, o_ifne 39 35), (35, o_push (.int 3) 36), (36, o_goto 54), (39, o_aload 0 40), (40, o_iload 1 41), (41, o_push (.int 0) 42), (42, o_callV 3 137 2 45), (45, o_iload 2 46), (46, o_cmpge 53 49), (49, o_push (.int 4) 50), (50, o_goto 54), (53, o_push (.int 0) 54), (54, o_callV 3 90 1 57), (57, o_ifeq 62 60), (60, o_push (.int 0) 61), (61, o_iret), (62, o_push (.int 0) 63), (63, o_istore 3 64), (64, o_iload 3 65), (65, o_aload 0 66), (66, o_getf 3 7 69), (69, o_cmpge 134 72), (72, o_iload 2 73), (73, o_aload 0 74), (74, o_getf 3 29 77), (77, o_push (.int 8) 79), (79, o_iload 1 80), (80, o_imul 81), (81, o_iload 3 82), (82, o_iadd 83), (83, o_iald 0 84), (84, o_imul 85), (85, o_istore 4 87)]
theorem s_71_0 {Z : gZ} {K : gK} : gAll Z K 71 (gL_71_0 K) := ⟨so_aload_n m_71 dX4_make_0,
  so_aload_n m_71 dX4_make_1,
  so_iload_n m_71 dX4_make_2,
  so_callV m_71 (gHn m_71) cal_123 (q := (RX4, TX4, 49)) (by decide) rfl q1724 q1726 qs56 dX4_make_3,
  so_ifne m_71 (t := 13) (by decide) dX4_make_6,
  so_iconst m_71 (by decide) dX4_make_9,
  so_goto m_71 (t := 54) (by decide) dX4_make_10,
  so_iload_n m_71 dX4_make_13,
  so_iconst m_71 (by decide) dX4_make_14,
  so_bipush m_71 (by decide) dX4_make_15,
  so_callS m_71 (gHn m_71) cal_89 q1550 q1551 dX4_make_17,
  so_ifne m_71 (t := 27) (by decide) dX4_make_20,
  so_iconst m_71 (by decide) dX4_make_23,
  so_goto m_71 (t := 54) (by decide) dX4_make_24,
  so_aload_n m_71 dX4_make_27,
  so_iload_n m_71 dX4_make_28,
  so_callV m_71 (gHn m_71) cal_124 (q := (RX4, TX4, 49)) (by decide) rfl q1728 q1730 qs57 dX4_make_29,
  so_ifne m_71 (t := 39) (by decide) dX4_make_32,
  so_iconst m_71 (by decide) dX4_make_35,
  so_goto m_71 (t := 54) (by decide) dX4_make_36,
  so_aload_n m_71 dX4_make_39,
  so_iload_n m_71 dX4_make_40,
  so_iconst m_71 (by decide) dX4_make_41,
  so_callV m_71 (gHn m_71) cal_137 (q := (RX4, TX4, 49)) (by decide) rfl q1790 q1792 qs64 dX4_make_42,
  so_iload_n m_71 dX4_make_45,
  so_cmpge m_71 (t := 53) (by decide) dX4_make_46,
  so_iconst m_71 (by decide) dX4_make_49,
  so_goto m_71 (t := 54) (by decide) dX4_make_50,
  so_iconst m_71 (by decide) dX4_make_53,
  so_callV m_71 (gHn m_71) cal_90 (q := (RX4, TX4, 49)) (by decide) rfl q1553 q1555 qs38 dX4_make_54,
  so_ifeq m_71 (t := 62) (by decide) dX4_make_57,
  so_iconst m_71 (by decide) dX4_make_60,
  so_iret m_71 (by decide) rfl dX4_make_61,
  so_iconst m_71 (by decide) dX4_make_62,
  so_istore_n m_71 rfl (by decide) (fun _ _ => rfl) dX4_make_63,
  so_iload_n m_71 dX4_make_64,
  so_aload_n m_71 dX4_make_65,
  so_getf m_71 (c := 3) (k := 7) (C0 := RX4) (Tf := TX4) (N := 49) rfl (by decide) (by decide) in_X4 q1400 (fun _ _ _ _ h => h) dX4_make_66,
  so_cmpge m_71 (t := 134) (by decide) dX4_make_69,
  so_iload_n m_71 dX4_make_72,
  so_aload_n m_71 dX4_make_73,
  so_getf m_71 (c := 3) (k := 29) (C0 := RX4) (Tf := TX4) (N := 49) rfl (by decide) (by decide) in_X4 q1422 (fun _ _ _ _ h => h) dX4_make_74,
  so_bipush m_71 (by decide) dX4_make_77,
  so_iload_n m_71 dX4_make_79,
  so_imul m_71 dX4_make_80,
  so_iload_n m_71 dX4_make_81,
  so_iadd m_71 dX4_make_82,
  so_iald m_71 dX4_make_83,
  so_imul m_71 dX4_make_84,
  so_istore m_71 (by decide) (fun _ _ => rfl) dX4_make_85, trivial⟩
def gL_71_1 (K : gK) : List (Nat × gS) := [(87, o_aload 0 88), (88, o_getf 3 16 91), (91, o_push (.int 2) 92), (92, o_iload 3 93), (93, o_imul 94), (94, o_dup2 95), (95, o_iald 0 96), (96, o_iload 4 98), (98, o_isub 99), (99, o_iast 100), (100, o_aload 0 101), (101, o_getf 3 16 104), (104, o_push (.int 2) 105), (105, o_iload 3 106), (106, o_imul 107), (107, o_push (.int 1) 108), (108, o_iadd 109), (109, o_dup2 110), (110, o_iald 0 111), (111, o_aload 0 112), (112, o_getf 3 9 115), (115, o_iload 3 116), (116, o_iald 1 117), (117, o_ifeq 125 120), (120, o_iload 4 122), (122, o_goto 126), (125, o_push (.int 0) 126), (126, o_isub 127), (127, o_iast 128), (128, o_iinc 3 1 131), (131, o_goto 64), (134, o_aload 0 135), (135, o_getf 3 30 138), (138, o_iload 1 139), (139, o_dup2 140), (140, o_iald 0 141), (141, o_iload 2 142), (142, o_iadd 143), (143, o_iast 144), (144, o_aload 0 145), (145, o_getf 3 30 148), (148, o_iload 1 149), (149, o_iald 0 150), (150, o_iret)]
theorem s_71_1 {Z : gZ} {K : gK} : gAll Z K 71 (gL_71_1 K) := ⟨so_aload_n m_71 dX4_make_87,
  so_getf m_71 (c := 3) (k := 16) (C0 := RX4) (Tf := TX4) (N := 49) rfl (by decide) (by decide) in_X4 q1409 (fun _ _ _ _ h => h) dX4_make_88,
  so_iconst m_71 (by decide) dX4_make_91,
  so_iload_n m_71 dX4_make_92,
  so_imul m_71 dX4_make_93,
  so_dup2 m_71 dX4_make_94,
  so_iald m_71 dX4_make_95,
  so_iload m_71 dX4_make_96,
  so_isub m_71 dX4_make_98,
  so_iast m_71 dX4_make_99,
  so_aload_n m_71 dX4_make_100,
  so_getf m_71 (c := 3) (k := 16) (C0 := RX4) (Tf := TX4) (N := 49) rfl (by decide) (by decide) in_X4 q1409 (fun _ _ _ _ h => h) dX4_make_101,
  so_iconst m_71 (by decide) dX4_make_104,
  so_iload_n m_71 dX4_make_105,
  so_imul m_71 dX4_make_106,
  so_iconst m_71 (by decide) dX4_make_107,
  so_iadd m_71 dX4_make_108,
  so_dup2 m_71 dX4_make_109,
  so_iald m_71 dX4_make_110,
  so_aload_n m_71 dX4_make_111,
  so_getf m_71 (c := 3) (k := 9) (C0 := RX4) (Tf := TX4) (N := 49) rfl (by decide) (by decide) in_X4 q1402 (fun _ _ _ _ h => h) dX4_make_112,
  so_iload_n m_71 dX4_make_115,
  so_zald m_71 dX4_make_116,
  so_ifeq m_71 (t := 125) (by decide) dX4_make_117,
  so_iload m_71 dX4_make_120,
  so_goto m_71 (t := 126) (by decide) dX4_make_122,
  so_iconst m_71 (by decide) dX4_make_125,
  so_isub m_71 dX4_make_126,
  so_iast m_71 dX4_make_127,
  so_iinc m_71 (by decide) (by decide) (fun _ _ => rfl) dX4_make_128,
  so_goto m_71 (t := 64) (by decide) dX4_make_131,
  so_aload_n m_71 dX4_make_134,
  so_getf m_71 (c := 3) (k := 30) (C0 := RX4) (Tf := TX4) (N := 49) rfl (by decide) (by decide) in_X4 q1423 (fun _ _ _ _ h => h) dX4_make_135,
  so_iload_n m_71 dX4_make_138,
  so_dup2 m_71 dX4_make_139,
  so_iald m_71 dX4_make_140,
  so_iload_n m_71 dX4_make_141,
  so_iadd m_71 dX4_make_142,
  so_iast m_71 dX4_make_143,
  so_aload_n m_71 dX4_make_144,
  so_getf m_71 (c := 3) (k := 30) (C0 := RX4) (Tf := TX4) (N := 49) rfl (by decide) (by decide) in_X4 q1423 (fun _ _ _ _ h => h) dX4_make_145,
  so_iload_n m_71 dX4_make_148,
  so_iald m_71 dX4_make_149,
  so_iret m_71 (by decide) rfl dX4_make_150, trivial⟩
def gL_71 (K : gK) : List (Nat × gS) := gL_71_0 K ++ (gL_71_1 K)
theorem s_71 {Z : gZ} {K : gK} : gAll Z K 71 (gL_71 K) := gAll_app s_71_0 s_71_1
