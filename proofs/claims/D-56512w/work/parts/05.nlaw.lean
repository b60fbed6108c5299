/-! CuttingRoomLaw -/
set_option maxRecDepth 100000
def RX0 : String := "CuttingRoomLaw"
abbrev cX0_setCloth : ByteArray := method_3_code
def yX0_setCloth : MethodName := ⟨RX0, "setCloth", "(LCuttingRoom;IZI[J)I"⟩
def dkwX0_setCloth_1 : List UInt8 := [172]
abbrev dktX0_setCloth_1 : List UInt8 := dkwX0_setCloth_1 ++ []
def dkwX0_setCloth_0 : List UInt8 := [25, 4, 3, 42, 27, 28, 29, 182, 0, 7, 133, 80, 167, 0, 11, 58, 5, 4, 172, 58, 5, 5, 172, 3]
abbrev dktX0_setCloth_0 : List UInt8 := dkwX0_setCloth_0 ++ dktX0_setCloth_1
theorem dksX0_setCloth_0 : cX0_setCloth.data.toList.drop 0 = dktX0_setCloth_0 := by decide +kernel
theorem dksX0_setCloth_1 : cX0_setCloth.data.toList.drop 24 = dktX0_setCloth_1 := dk_seg dksX0_setCloth_0 24 rfl rfl
theorem dX0_setCloth_0 : decode cX0_setCloth 0 = .ok (.aload 4, 2) := dk_25 4 (dk_at dksX0_setCloth_0 0 rfl rfl)
theorem dX0_setCloth_2 : decode cX0_setCloth 2 = .ok (.iconst 0, 1) := dk_3 (dk_at dksX0_setCloth_0 2 rfl rfl)
theorem dX0_setCloth_3 : decode cX0_setCloth 3 = .ok (.aload_n 0, 1) := dk_42 (dk_at dksX0_setCloth_0 3 rfl rfl)
theorem dX0_setCloth_4 : decode cX0_setCloth 4 = .ok (.iload_n 1, 1) := dk_27 (dk_at dksX0_setCloth_0 4 rfl rfl)
theorem dX0_setCloth_5 : decode cX0_setCloth 5 = .ok (.iload_n 2, 1) := dk_28 (dk_at dksX0_setCloth_0 5 rfl rfl)
theorem dX0_setCloth_6 : decode cX0_setCloth 6 = .ok (.iload_n 3, 1) := dk_29 (dk_at dksX0_setCloth_0 6 rfl rfl)
theorem dX0_setCloth_7 : decode cX0_setCloth 7 = .ok (.invokevirtual 7, 3) := dk_182 0 7 (dk_at dksX0_setCloth_0 7 rfl rfl)
theorem dX0_setCloth_10 : decode cX0_setCloth 10 = .ok (.i2l, 1) := dk_133 (dk_at dksX0_setCloth_0 10 rfl rfl)
theorem dX0_setCloth_11 : decode cX0_setCloth 11 = .ok (.lastore, 1) := dk_80 (dk_at dksX0_setCloth_0 11 rfl rfl)
theorem dX0_setCloth_12 : decode cX0_setCloth 12 = .ok (.goto 11, 3) := dk_167 0 11 (dk_at dksX0_setCloth_0 12 rfl rfl)
theorem dX0_setCloth_15 : decode cX0_setCloth 15 = .ok (.astore 5, 2) := dk_58 5 (dk_at dksX0_setCloth_0 15 rfl rfl)
theorem dX0_setCloth_17 : decode cX0_setCloth 17 = .ok (.iconst 1, 1) := dk_4 (dk_at dksX0_setCloth_0 17 rfl rfl)
theorem dX0_setCloth_18 : decode cX0_setCloth 18 = .ok (.ireturn, 1) := dk_172 (dk_at dksX0_setCloth_0 18 rfl rfl)
theorem dX0_setCloth_19 : decode cX0_setCloth 19 = .ok (.astore 5, 2) := dk_58 5 (dk_at dksX0_setCloth_0 19 rfl rfl)
theorem dX0_setCloth_21 : decode cX0_setCloth 21 = .ok (.iconst 2, 1) := dk_5 (dk_at dksX0_setCloth_0 21 rfl rfl)
theorem dX0_setCloth_22 : decode cX0_setCloth 22 = .ok (.ireturn, 1) := dk_172 (dk_at dksX0_setCloth_0 22 rfl rfl)
theorem dX0_setCloth_23 : decode cX0_setCloth 23 = .ok (.iconst 0, 1) := dk_3 (dk_at dksX0_setCloth_0 23 rfl rfl)
theorem dX0_setCloth_24 : decode cX0_setCloth 24 = .ok (.ireturn, 1) := dk_172 (dk_at dksX0_setCloth_1 0 rfl rfl)
abbrev cX0_fold : ByteArray := method_4_code
def yX0_fold : MethodName := ⟨RX0, "fold", "(LCuttingRoom;Z[J)I"⟩
def dkwX0_fold_0 : List UInt8 := [44, 3, 42, 27, 182, 0, 17, 153, 0, 7, 10, 167, 0, 4, 9, 80, 167, 0, 6, 78, 4, 172, 3, 172]
abbrev dktX0_fold_0 : List UInt8 := dkwX0_fold_0 ++ []
theorem dksX0_fold_0 : cX0_fold.data.toList.drop 0 = dktX0_fold_0 := by decide +kernel
theorem dX0_fold_0 : decode cX0_fold 0 = .ok (.aload_n 2, 1) := dk_44 (dk_at dksX0_fold_0 0 rfl rfl)
theorem dX0_fold_1 : decode cX0_fold 1 = .ok (.iconst 0, 1) := dk_3 (dk_at dksX0_fold_0 1 rfl rfl)
theorem dX0_fold_2 : decode cX0_fold 2 = .ok (.aload_n 0, 1) := dk_42 (dk_at dksX0_fold_0 2 rfl rfl)
theorem dX0_fold_3 : decode cX0_fold 3 = .ok (.iload_n 1, 1) := dk_27 (dk_at dksX0_fold_0 3 rfl rfl)
theorem dX0_fold_4 : decode cX0_fold 4 = .ok (.invokevirtual 17, 3) := dk_182 0 17 (dk_at dksX0_fold_0 4 rfl rfl)
theorem dX0_fold_7 : decode cX0_fold 7 = .ok (.ifCond .eq 7, 3) := dk_153 0 7 (dk_at dksX0_fold_0 7 rfl rfl)
theorem dX0_fold_10 : decode cX0_fold 10 = .ok (.lconst 1, 1) := dk_10 (dk_at dksX0_fold_0 10 rfl rfl)
theorem dX0_fold_11 : decode cX0_fold 11 = .ok (.goto 4, 3) := dk_167 0 4 (dk_at dksX0_fold_0 11 rfl rfl)
theorem dX0_fold_14 : decode cX0_fold 14 = .ok (.lconst 0, 1) := dk_9 (dk_at dksX0_fold_0 14 rfl rfl)
theorem dX0_fold_15 : decode cX0_fold 15 = .ok (.lastore, 1) := dk_80 (dk_at dksX0_fold_0 15 rfl rfl)
theorem dX0_fold_16 : decode cX0_fold 16 = .ok (.goto 6, 3) := dk_167 0 6 (dk_at dksX0_fold_0 16 rfl rfl)
theorem dX0_fold_19 : decode cX0_fold 19 = .ok (.astore_n 3, 1) := dk_78 (dk_at dksX0_fold_0 19 rfl rfl)
theorem dX0_fold_20 : decode cX0_fold 20 = .ok (.iconst 1, 1) := dk_4 (dk_at dksX0_fold_0 20 rfl rfl)
theorem dX0_fold_21 : decode cX0_fold 21 = .ok (.ireturn, 1) := dk_172 (dk_at dksX0_fold_0 21 rfl rfl)
theorem dX0_fold_22 : decode cX0_fold 22 = .ok (.iconst 0, 1) := dk_3 (dk_at dksX0_fold_0 22 rfl rfl)
theorem dX0_fold_23 : decode cX0_fold 23 = .ok (.ireturn, 1) := dk_172 (dk_at dksX0_fold_0 23 rfl rfl)
abbrev cX0_addFlaw : ByteArray := method_5_code
def yX0_addFlaw : MethodName := ⟨RX0, "addFlaw", "(LCuttingRoom;II[J)I"⟩
def dkwX0_addFlaw_1 : List UInt8 := [172, 3, 172]
abbrev dktX0_addFlaw_1 : List UInt8 := dkwX0_addFlaw_1 ++ []
def dkwX0_addFlaw_0 : List UInt8 := [45, 3, 42, 27, 28, 182, 0, 21, 133, 80, 167, 0, 15, 58, 4, 4, 172, 58, 4, 5, 172, 58, 4, 6]
abbrev dktX0_addFlaw_0 : List UInt8 := dkwX0_addFlaw_0 ++ dktX0_addFlaw_1
theorem dksX0_addFlaw_0 : cX0_addFlaw.data.toList.drop 0 = dktX0_addFlaw_0 := by decide +kernel
theorem dksX0_addFlaw_1 : cX0_addFlaw.data.toList.drop 24 = dktX0_addFlaw_1 := dk_seg dksX0_addFlaw_0 24 rfl rfl
theorem dX0_addFlaw_0 : decode cX0_addFlaw 0 = .ok (.aload_n 3, 1) := dk_45 (dk_at dksX0_addFlaw_0 0 rfl rfl)
theorem dX0_addFlaw_1 : decode cX0_addFlaw 1 = .ok (.iconst 0, 1) := dk_3 (dk_at dksX0_addFlaw_0 1 rfl rfl)
theorem dX0_addFlaw_2 : decode cX0_addFlaw 2 = .ok (.aload_n 0, 1) := dk_42 (dk_at dksX0_addFlaw_0 2 rfl rfl)
theorem dX0_addFlaw_3 : decode cX0_addFlaw 3 = .ok (.iload_n 1, 1) := dk_27 (dk_at dksX0_addFlaw_0 3 rfl rfl)
theorem dX0_addFlaw_4 : decode cX0_addFlaw 4 = .ok (.iload_n 2, 1) := dk_28 (dk_at dksX0_addFlaw_0 4 rfl rfl)
theorem dX0_addFlaw_5 : decode cX0_addFlaw 5 = .ok (.invokevirtual 21, 3) := dk_182 0 21 (dk_at dksX0_addFlaw_0 5 rfl rfl)
theorem dX0_addFlaw_8 : decode cX0_addFlaw 8 = .ok (.i2l, 1) := dk_133 (dk_at dksX0_addFlaw_0 8 rfl rfl)
theorem dX0_addFlaw_9 : decode cX0_addFlaw 9 = .ok (.lastore, 1) := dk_80 (dk_at dksX0_addFlaw_0 9 rfl rfl)
theorem dX0_addFlaw_10 : decode cX0_addFlaw 10 = .ok (.goto 15, 3) := dk_167 0 15 (dk_at dksX0_addFlaw_0 10 rfl rfl)
theorem dX0_addFlaw_13 : decode cX0_addFlaw 13 = .ok (.astore 4, 2) := dk_58 4 (dk_at dksX0_addFlaw_0 13 rfl rfl)
theorem dX0_addFlaw_15 : decode cX0_addFlaw 15 = .ok (.iconst 1, 1) := dk_4 (dk_at dksX0_addFlaw_0 15 rfl rfl)
theorem dX0_addFlaw_16 : decode cX0_addFlaw 16 = .ok (.ireturn, 1) := dk_172 (dk_at dksX0_addFlaw_0 16 rfl rfl)
theorem dX0_addFlaw_17 : decode cX0_addFlaw 17 = .ok (.astore 4, 2) := dk_58 4 (dk_at dksX0_addFlaw_0 17 rfl rfl)
theorem dX0_addFlaw_19 : decode cX0_addFlaw 19 = .ok (.iconst 2, 1) := dk_5 (dk_at dksX0_addFlaw_0 19 rfl rfl)
theorem dX0_addFlaw_20 : decode cX0_addFlaw 20 = .ok (.ireturn, 1) := dk_172 (dk_at dksX0_addFlaw_0 20 rfl rfl)
theorem dX0_addFlaw_21 : decode cX0_addFlaw 21 = .ok (.astore 4, 2) := dk_58 4 (dk_at dksX0_addFlaw_0 21 rfl rfl)
theorem dX0_addFlaw_23 : decode cX0_addFlaw 23 = .ok (.iconst 3, 1) := dk_6 (dk_at dksX0_addFlaw_0 23 rfl rfl)
theorem dX0_addFlaw_24 : decode cX0_addFlaw 24 = .ok (.ireturn, 1) := dk_172 (dk_at dksX0_addFlaw_1 0 rfl rfl)
theorem dX0_addFlaw_25 : decode cX0_addFlaw 25 = .ok (.iconst 0, 1) := dk_3 (dk_at dksX0_addFlaw_1 1 rfl rfl)
theorem dX0_addFlaw_26 : decode cX0_addFlaw 26 = .ok (.ireturn, 1) := dk_172 (dk_at dksX0_addFlaw_1 2 rfl rfl)
abbrev cX0_addShape : ByteArray := method_6_code
def yX0_addShape : MethodName := ⟨RX0, "addShape", "(LCuttingRoom;CZ[J)I"⟩
def dkwX0_addShape_0 : List UInt8 := [45, 3, 42, 27, 28, 182, 0, 27, 133, 80, 167, 0, 11, 58, 4, 4, 172, 58, 4, 5, 172, 3, 172]
abbrev dktX0_addShape_0 : List UInt8 := dkwX0_addShape_0 ++ []
theorem dksX0_addShape_0 : cX0_addShape.data.toList.drop 0 = dktX0_addShape_0 := by decide +kernel
theorem dX0_addShape_0 : decode cX0_addShape 0 = .ok (.aload_n 3, 1) := dk_45 (dk_at dksX0_addShape_0 0 rfl rfl)
theorem dX0_addShape_1 : decode cX0_addShape 1 = .ok (.iconst 0, 1) := dk_3 (dk_at dksX0_addShape_0 1 rfl rfl)
theorem dX0_addShape_2 : decode cX0_addShape 2 = .ok (.aload_n 0, 1) := dk_42 (dk_at dksX0_addShape_0 2 rfl rfl)
theorem dX0_addShape_3 : decode cX0_addShape 3 = .ok (.iload_n 1, 1) := dk_27 (dk_at dksX0_addShape_0 3 rfl rfl)
theorem dX0_addShape_4 : decode cX0_addShape 4 = .ok (.iload_n 2, 1) := dk_28 (dk_at dksX0_addShape_0 4 rfl rfl)
theorem dX0_addShape_5 : decode cX0_addShape 5 = .ok (.invokevirtual 27, 3) := dk_182 0 27 (dk_at dksX0_addShape_0 5 rfl rfl)
theorem dX0_addShape_8 : decode cX0_addShape 8 = .ok (.i2l, 1) := dk_133 (dk_at dksX0_addShape_0 8 rfl rfl)
theorem dX0_addShape_9 : decode cX0_addShape 9 = .ok (.lastore, 1) := dk_80 (dk_at dksX0_addShape_0 9 rfl rfl)
theorem dX0_addShape_10 : decode cX0_addShape 10 = .ok (.goto 11, 3) := dk_167 0 11 (dk_at dksX0_addShape_0 10 rfl rfl)
theorem dX0_addShape_13 : decode cX0_addShape 13 = .ok (.astore 4, 2) := dk_58 4 (dk_at dksX0_addShape_0 13 rfl rfl)
theorem dX0_addShape_15 : decode cX0_addShape 15 = .ok (.iconst 1, 1) := dk_4 (dk_at dksX0_addShape_0 15 rfl rfl)
theorem dX0_addShape_16 : decode cX0_addShape 16 = .ok (.ireturn, 1) := dk_172 (dk_at dksX0_addShape_0 16 rfl rfl)
theorem dX0_addShape_17 : decode cX0_addShape 17 = .ok (.astore 4, 2) := dk_58 4 (dk_at dksX0_addShape_0 17 rfl rfl)
theorem dX0_addShape_19 : decode cX0_addShape 19 = .ok (.iconst 2, 1) := dk_5 (dk_at dksX0_addShape_0 19 rfl rfl)
theorem dX0_addShape_20 : decode cX0_addShape 20 = .ok (.ireturn, 1) := dk_172 (dk_at dksX0_addShape_0 20 rfl rfl)
theorem dX0_addShape_21 : decode cX0_addShape 21 = .ok (.iconst 0, 1) := dk_3 (dk_at dksX0_addShape_0 21 rfl rfl)
theorem dX0_addShape_22 : decode cX0_addShape 22 = .ok (.ireturn, 1) := dk_172 (dk_at dksX0_addShape_0 22 rfl rfl)
abbrev cX0_addCell : ByteArray := method_7_code
def yX0_addCell : MethodName := ⟨RX0, "addCell", "(LCuttingRoom;III[J)I"⟩
def dkwX0_addCell_1 : List UInt8 := [58, 5, 6, 172, 58, 5, 7, 172, 3, 172]
abbrev dktX0_addCell_1 : List UInt8 := dkwX0_addCell_1 ++ []
def dkwX0_addCell_0 : List UInt8 := [25, 4, 3, 42, 27, 28, 29, 182, 0, 31, 133, 80, 167, 0, 19, 58, 5, 4, 172, 58, 5, 5, 172]
abbrev dktX0_addCell_0 : List UInt8 := dkwX0_addCell_0 ++ dktX0_addCell_1
theorem dksX0_addCell_0 : cX0_addCell.data.toList.drop 0 = dktX0_addCell_0 := by decide +kernel
theorem dksX0_addCell_1 : cX0_addCell.data.toList.drop 23 = dktX0_addCell_1 := dk_seg dksX0_addCell_0 23 rfl rfl
theorem dX0_addCell_0 : decode cX0_addCell 0 = .ok (.aload 4, 2) := dk_25 4 (dk_at dksX0_addCell_0 0 rfl rfl)
theorem dX0_addCell_2 : decode cX0_addCell 2 = .ok (.iconst 0, 1) := dk_3 (dk_at dksX0_addCell_0 2 rfl rfl)
theorem dX0_addCell_3 : decode cX0_addCell 3 = .ok (.aload_n 0, 1) := dk_42 (dk_at dksX0_addCell_0 3 rfl rfl)
theorem dX0_addCell_4 : decode cX0_addCell 4 = .ok (.iload_n 1, 1) := dk_27 (dk_at dksX0_addCell_0 4 rfl rfl)
theorem dX0_addCell_5 : decode cX0_addCell 5 = .ok (.iload_n 2, 1) := dk_28 (dk_at dksX0_addCell_0 5 rfl rfl)
theorem dX0_addCell_6 : decode cX0_addCell 6 = .ok (.iload_n 3, 1) := dk_29 (dk_at dksX0_addCell_0 6 rfl rfl)
theorem dX0_addCell_7 : decode cX0_addCell 7 = .ok (.invokevirtual 31, 3) := dk_182 0 31 (dk_at dksX0_addCell_0 7 rfl rfl)
theorem dX0_addCell_10 : decode cX0_addCell 10 = .ok (.i2l, 1) := dk_133 (dk_at dksX0_addCell_0 10 rfl rfl)
theorem dX0_addCell_11 : decode cX0_addCell 11 = .ok (.lastore, 1) := dk_80 (dk_at dksX0_addCell_0 11 rfl rfl)
theorem dX0_addCell_12 : decode cX0_addCell 12 = .ok (.goto 19, 3) := dk_167 0 19 (dk_at dksX0_addCell_0 12 rfl rfl)
theorem dX0_addCell_15 : decode cX0_addCell 15 = .ok (.astore 5, 2) := dk_58 5 (dk_at dksX0_addCell_0 15 rfl rfl)
theorem dX0_addCell_17 : decode cX0_addCell 17 = .ok (.iconst 1, 1) := dk_4 (dk_at dksX0_addCell_0 17 rfl rfl)
theorem dX0_addCell_18 : decode cX0_addCell 18 = .ok (.ireturn, 1) := dk_172 (dk_at dksX0_addCell_0 18 rfl rfl)
theorem dX0_addCell_19 : decode cX0_addCell 19 = .ok (.astore 5, 2) := dk_58 5 (dk_at dksX0_addCell_0 19 rfl rfl)
theorem dX0_addCell_21 : decode cX0_addCell 21 = .ok (.iconst 2, 1) := dk_5 (dk_at dksX0_addCell_0 21 rfl rfl)
theorem dX0_addCell_22 : decode cX0_addCell 22 = .ok (.ireturn, 1) := dk_172 (dk_at dksX0_addCell_0 22 rfl rfl)
theorem dX0_addCell_23 : decode cX0_addCell 23 = .ok (.astore 5, 2) := dk_58 5 (dk_at dksX0_addCell_1 0 rfl rfl)
theorem dX0_addCell_25 : decode cX0_addCell 25 = .ok (.iconst 3, 1) := dk_6 (dk_at dksX0_addCell_1 2 rfl rfl)
theorem dX0_addCell_26 : decode cX0_addCell 26 = .ok (.ireturn, 1) := dk_172 (dk_at dksX0_addCell_1 3 rfl rfl)
theorem dX0_addCell_27 : decode cX0_addCell 27 = .ok (.astore 5, 2) := dk_58 5 (dk_at dksX0_addCell_1 4 rfl rfl)
theorem dX0_addCell_29 : decode cX0_addCell 29 = .ok (.iconst 4, 1) := dk_7 (dk_at dksX0_addCell_1 6 rfl rfl)
theorem dX0_addCell_30 : decode cX0_addCell 30 = .ok (.ireturn, 1) := dk_172 (dk_at dksX0_addCell_1 7 rfl rfl)
theorem dX0_addCell_31 : decode cX0_addCell 31 = .ok (.iconst 0, 1) := dk_3 (dk_at dksX0_addCell_1 8 rfl rfl)
theorem dX0_addCell_32 : decode cX0_addCell 32 = .ok (.ireturn, 1) := dk_172 (dk_at dksX0_addCell_1 9 rfl rfl)
abbrev cX0_setMark : ByteArray := method_8_code
def yX0_setMark : MethodName := ⟨RX0, "setMark", "(LCuttingRoom;IIII[J)I"⟩
def dkwX0_setMark_1 : List UInt8 := [172, 58, 6, 6, 172, 3, 172]
abbrev dktX0_setMark_1 : List UInt8 := dkwX0_setMark_1 ++ []
def dkwX0_setMark_0 : List UInt8 := [25, 5, 3, 42, 27, 28, 29, 21, 4, 182, 0, 37, 133, 80, 167, 0, 15, 58, 6, 4, 172, 58, 6, 5]
abbrev dktX0_setMark_0 : List UInt8 := dkwX0_setMark_0 ++ dktX0_setMark_1
theorem dksX0_setMark_0 : cX0_setMark.data.toList.drop 0 = dktX0_setMark_0 := by decide +kernel
theorem dksX0_setMark_1 : cX0_setMark.data.toList.drop 24 = dktX0_setMark_1 := dk_seg dksX0_setMark_0 24 rfl rfl
theorem dX0_setMark_0 : decode cX0_setMark 0 = .ok (.aload 5, 2) := dk_25 5 (dk_at dksX0_setMark_0 0 rfl rfl)
theorem dX0_setMark_2 : decode cX0_setMark 2 = .ok (.iconst 0, 1) := dk_3 (dk_at dksX0_setMark_0 2 rfl rfl)
theorem dX0_setMark_3 : decode cX0_setMark 3 = .ok (.aload_n 0, 1) := dk_42 (dk_at dksX0_setMark_0 3 rfl rfl)
theorem dX0_setMark_4 : decode cX0_setMark 4 = .ok (.iload_n 1, 1) := dk_27 (dk_at dksX0_setMark_0 4 rfl rfl)
theorem dX0_setMark_5 : decode cX0_setMark 5 = .ok (.iload_n 2, 1) := dk_28 (dk_at dksX0_setMark_0 5 rfl rfl)
theorem dX0_setMark_6 : decode cX0_setMark 6 = .ok (.iload_n 3, 1) := dk_29 (dk_at dksX0_setMark_0 6 rfl rfl)
theorem dX0_setMark_7 : decode cX0_setMark 7 = .ok (.iload 4, 2) := dk_21 4 (dk_at dksX0_setMark_0 7 rfl rfl)
theorem dX0_setMark_9 : decode cX0_setMark 9 = .ok (.invokevirtual 37, 3) := dk_182 0 37 (dk_at dksX0_setMark_0 9 rfl rfl)
theorem dX0_setMark_12 : decode cX0_setMark 12 = .ok (.i2l, 1) := dk_133 (dk_at dksX0_setMark_0 12 rfl rfl)
theorem dX0_setMark_13 : decode cX0_setMark 13 = .ok (.lastore, 1) := dk_80 (dk_at dksX0_setMark_0 13 rfl rfl)
theorem dX0_setMark_14 : decode cX0_setMark 14 = .ok (.goto 15, 3) := dk_167 0 15 (dk_at dksX0_setMark_0 14 rfl rfl)
theorem dX0_setMark_17 : decode cX0_setMark 17 = .ok (.astore 6, 2) := dk_58 6 (dk_at dksX0_setMark_0 17 rfl rfl)
theorem dX0_setMark_19 : decode cX0_setMark 19 = .ok (.iconst 1, 1) := dk_4 (dk_at dksX0_setMark_0 19 rfl rfl)
theorem dX0_setMark_20 : decode cX0_setMark 20 = .ok (.ireturn, 1) := dk_172 (dk_at dksX0_setMark_0 20 rfl rfl)
theorem dX0_setMark_21 : decode cX0_setMark 21 = .ok (.astore 6, 2) := dk_58 6 (dk_at dksX0_setMark_0 21 rfl rfl)
theorem dX0_setMark_23 : decode cX0_setMark 23 = .ok (.iconst 2, 1) := dk_5 (dk_at dksX0_setMark_0 23 rfl rfl)
theorem dX0_setMark_24 : decode cX0_setMark 24 = .ok (.ireturn, 1) := dk_172 (dk_at dksX0_setMark_1 0 rfl rfl)
theorem dX0_setMark_25 : decode cX0_setMark 25 = .ok (.astore 6, 2) := dk_58 6 (dk_at dksX0_setMark_1 1 rfl rfl)
theorem dX0_setMark_27 : decode cX0_setMark 27 = .ok (.iconst 3, 1) := dk_6 (dk_at dksX0_setMark_1 3 rfl rfl)
theorem dX0_setMark_28 : decode cX0_setMark 28 = .ok (.ireturn, 1) := dk_172 (dk_at dksX0_setMark_1 4 rfl rfl)
theorem dX0_setMark_29 : decode cX0_setMark 29 = .ok (.iconst 0, 1) := dk_3 (dk_at dksX0_setMark_1 5 rfl rfl)
theorem dX0_setMark_30 : decode cX0_setMark 30 = .ok (.ireturn, 1) := dk_172 (dk_at dksX0_setMark_1 6 rfl rfl)
abbrev cX0_cellsOf : ByteArray := method_9_code
def yX0_cellsOf : MethodName := ⟨RX0, "cellsOf", "(LCuttingRoom;I[J)I"⟩
def dkwX0_cellsOf_0 : List UInt8 := [44, 3, 42, 27, 182, 0, 41, 133, 80, 167, 0, 6, 78, 4, 172, 3, 172]
abbrev dktX0_cellsOf_0 : List UInt8 := dkwX0_cellsOf_0 ++ []
theorem dksX0_cellsOf_0 : cX0_cellsOf.data.toList.drop 0 = dktX0_cellsOf_0 := by decide +kernel
theorem dX0_cellsOf_0 : decode cX0_cellsOf 0 = .ok (.aload_n 2, 1) := dk_44 (dk_at dksX0_cellsOf_0 0 rfl rfl)
theorem dX0_cellsOf_1 : decode cX0_cellsOf 1 = .ok (.iconst 0, 1) := dk_3 (dk_at dksX0_cellsOf_0 1 rfl rfl)
theorem dX0_cellsOf_2 : decode cX0_cellsOf 2 = .ok (.aload_n 0, 1) := dk_42 (dk_at dksX0_cellsOf_0 2 rfl rfl)
theorem dX0_cellsOf_3 : decode cX0_cellsOf 3 = .ok (.iload_n 1, 1) := dk_27 (dk_at dksX0_cellsOf_0 3 rfl rfl)
theorem dX0_cellsOf_4 : decode cX0_cellsOf 4 = .ok (.invokevirtual 41, 3) := dk_182 0 41 (dk_at dksX0_cellsOf_0 4 rfl rfl)
theorem dX0_cellsOf_7 : decode cX0_cellsOf 7 = .ok (.i2l, 1) := dk_133 (dk_at dksX0_cellsOf_0 7 rfl rfl)
theorem dX0_cellsOf_8 : decode cX0_cellsOf 8 = .ok (.lastore, 1) := dk_80 (dk_at dksX0_cellsOf_0 8 rfl rfl)
theorem dX0_cellsOf_9 : decode cX0_cellsOf 9 = .ok (.goto 6, 3) := dk_167 0 6 (dk_at dksX0_cellsOf_0 9 rfl rfl)
theorem dX0_cellsOf_12 : decode cX0_cellsOf 12 = .ok (.astore_n 3, 1) := dk_78 (dk_at dksX0_cellsOf_0 12 rfl rfl)
theorem dX0_cellsOf_13 : decode cX0_cellsOf 13 = .ok (.iconst 1, 1) := dk_4 (dk_at dksX0_cellsOf_0 13 rfl rfl)
theorem dX0_cellsOf_14 : decode cX0_cellsOf 14 = .ok (.ireturn, 1) := dk_172 (dk_at dksX0_cellsOf_0 14 rfl rfl)
theorem dX0_cellsOf_15 : decode cX0_cellsOf 15 = .ok (.iconst 0, 1) := dk_3 (dk_at dksX0_cellsOf_0 15 rfl rfl)
theorem dX0_cellsOf_16 : decode cX0_cellsOf 16 = .ok (.ireturn, 1) := dk_172 (dk_at dksX0_cellsOf_0 16 rfl rfl)
abbrev cX0_lay : ByteArray := method_10_code
def yX0_lay : MethodName := ⟨RX0, "lay", "(LCuttingRoom;IIIIZ[J)I"⟩
def dkwX0_lay_1 : List UInt8 := [58, 7, 5, 172, 58, 7, 6, 172, 58, 7, 7, 172, 3, 172]
abbrev dktX0_lay_1 : List UInt8 := dkwX0_lay_1 ++ []
def dkwX0_lay_0 : List UInt8 := [25, 6, 3, 42, 27, 28, 29, 21, 4, 21, 5, 182, 0, 45, 133, 80, 167, 0, 19, 58, 7, 4, 172]
abbrev dktX0_lay_0 : List UInt8 := dkwX0_lay_0 ++ dktX0_lay_1
theorem dksX0_lay_0 : cX0_lay.data.toList.drop 0 = dktX0_lay_0 := by decide +kernel
theorem dksX0_lay_1 : cX0_lay.data.toList.drop 23 = dktX0_lay_1 := dk_seg dksX0_lay_0 23 rfl rfl
theorem dX0_lay_0 : decode cX0_lay 0 = .ok (.aload 6, 2) := dk_25 6 (dk_at dksX0_lay_0 0 rfl rfl)
theorem dX0_lay_2 : decode cX0_lay 2 = .ok (.iconst 0, 1) := dk_3 (dk_at dksX0_lay_0 2 rfl rfl)
theorem dX0_lay_3 : decode cX0_lay 3 = .ok (.aload_n 0, 1) := dk_42 (dk_at dksX0_lay_0 3 rfl rfl)
theorem dX0_lay_4 : decode cX0_lay 4 = .ok (.iload_n 1, 1) := dk_27 (dk_at dksX0_lay_0 4 rfl rfl)
theorem dX0_lay_5 : decode cX0_lay 5 = .ok (.iload_n 2, 1) := dk_28 (dk_at dksX0_lay_0 5 rfl rfl)
theorem dX0_lay_6 : decode cX0_lay 6 = .ok (.iload_n 3, 1) := dk_29 (dk_at dksX0_lay_0 6 rfl rfl)
theorem dX0_lay_7 : decode cX0_lay 7 = .ok (.iload 4, 2) := dk_21 4 (dk_at dksX0_lay_0 7 rfl rfl)
theorem dX0_lay_9 : decode cX0_lay 9 = .ok (.iload 5, 2) := dk_21 5 (dk_at dksX0_lay_0 9 rfl rfl)
theorem dX0_lay_11 : decode cX0_lay 11 = .ok (.invokevirtual 45, 3) := dk_182 0 45 (dk_at dksX0_lay_0 11 rfl rfl)
theorem dX0_lay_14 : decode cX0_lay 14 = .ok (.i2l, 1) := dk_133 (dk_at dksX0_lay_0 14 rfl rfl)
theorem dX0_lay_15 : decode cX0_lay 15 = .ok (.lastore, 1) := dk_80 (dk_at dksX0_lay_0 15 rfl rfl)
theorem dX0_lay_16 : decode cX0_lay 16 = .ok (.goto 19, 3) := dk_167 0 19 (dk_at dksX0_lay_0 16 rfl rfl)
theorem dX0_lay_19 : decode cX0_lay 19 = .ok (.astore 7, 2) := dk_58 7 (dk_at dksX0_lay_0 19 rfl rfl)
theorem dX0_lay_21 : decode cX0_lay 21 = .ok (.iconst 1, 1) := dk_4 (dk_at dksX0_lay_0 21 rfl rfl)
theorem dX0_lay_22 : decode cX0_lay 22 = .ok (.ireturn, 1) := dk_172 (dk_at dksX0_lay_0 22 rfl rfl)
theorem dX0_lay_23 : decode cX0_lay 23 = .ok (.astore 7, 2) := dk_58 7 (dk_at dksX0_lay_1 0 rfl rfl)
theorem dX0_lay_25 : decode cX0_lay 25 = .ok (.iconst 2, 1) := dk_5 (dk_at dksX0_lay_1 2 rfl rfl)
theorem dX0_lay_26 : decode cX0_lay 26 = .ok (.ireturn, 1) := dk_172 (dk_at dksX0_lay_1 3 rfl rfl)
theorem dX0_lay_27 : decode cX0_lay 27 = .ok (.astore 7, 2) := dk_58 7 (dk_at dksX0_lay_1 4 rfl rfl)
theorem dX0_lay_29 : decode cX0_lay 29 = .ok (.iconst 3, 1) := dk_6 (dk_at dksX0_lay_1 6 rfl rfl)
theorem dX0_lay_30 : decode cX0_lay 30 = .ok (.ireturn, 1) := dk_172 (dk_at dksX0_lay_1 7 rfl rfl)
theorem dX0_lay_31 : decode cX0_lay 31 = .ok (.astore 7, 2) := dk_58 7 (dk_at dksX0_lay_1 8 rfl rfl)
theorem dX0_lay_33 : decode cX0_lay 33 = .ok (.iconst 4, 1) := dk_7 (dk_at dksX0_lay_1 10 rfl rfl)
theorem dX0_lay_34 : decode cX0_lay 34 = .ok (.ireturn, 1) := dk_172 (dk_at dksX0_lay_1 11 rfl rfl)
theorem dX0_lay_35 : decode cX0_lay 35 = .ok (.iconst 0, 1) := dk_3 (dk_at dksX0_lay_1 12 rfl rfl)
theorem dX0_lay_36 : decode cX0_lay 36 = .ok (.ireturn, 1) := dk_172 (dk_at dksX0_lay_1 13 rfl rfl)
abbrev cX0_reason : ByteArray := method_11_code
def yX0_reason : MethodName := ⟨RX0, "reason", "(LCuttingRoom;IIIIZ[J)I"⟩
def dkwX0_reason_1 : List UInt8 := [58, 7, 5, 172, 3, 172]
abbrev dktX0_reason_1 : List UInt8 := dkwX0_reason_1 ++ []
def dkwX0_reason_0 : List UInt8 := [25, 6, 3, 42, 27, 28, 29, 21, 4, 21, 5, 182, 0, 49, 133, 80, 167, 0, 11, 58, 7, 4, 172]
abbrev dktX0_reason_0 : List UInt8 := dkwX0_reason_0 ++ dktX0_reason_1
theorem dksX0_reason_0 : cX0_reason.data.toList.drop 0 = dktX0_reason_0 := by decide +kernel
theorem dksX0_reason_1 : cX0_reason.data.toList.drop 23 = dktX0_reason_1 := dk_seg dksX0_reason_0 23 rfl rfl
theorem dX0_reason_0 : decode cX0_reason 0 = .ok (.aload 6, 2) := dk_25 6 (dk_at dksX0_reason_0 0 rfl rfl)
theorem dX0_reason_2 : decode cX0_reason 2 = .ok (.iconst 0, 1) := dk_3 (dk_at dksX0_reason_0 2 rfl rfl)
theorem dX0_reason_3 : decode cX0_reason 3 = .ok (.aload_n 0, 1) := dk_42 (dk_at dksX0_reason_0 3 rfl rfl)
theorem dX0_reason_4 : decode cX0_reason 4 = .ok (.iload_n 1, 1) := dk_27 (dk_at dksX0_reason_0 4 rfl rfl)
theorem dX0_reason_5 : decode cX0_reason 5 = .ok (.iload_n 2, 1) := dk_28 (dk_at dksX0_reason_0 5 rfl rfl)
theorem dX0_reason_6 : decode cX0_reason 6 = .ok (.iload_n 3, 1) := dk_29 (dk_at dksX0_reason_0 6 rfl rfl)
theorem dX0_reason_7 : decode cX0_reason 7 = .ok (.iload 4, 2) := dk_21 4 (dk_at dksX0_reason_0 7 rfl rfl)
theorem dX0_reason_9 : decode cX0_reason 9 = .ok (.iload 5, 2) := dk_21 5 (dk_at dksX0_reason_0 9 rfl rfl)
theorem dX0_reason_11 : decode cX0_reason 11 = .ok (.invokevirtual 49, 3) := dk_182 0 49 (dk_at dksX0_reason_0 11 rfl rfl)
theorem dX0_reason_14 : decode cX0_reason 14 = .ok (.i2l, 1) := dk_133 (dk_at dksX0_reason_0 14 rfl rfl)
theorem dX0_reason_15 : decode cX0_reason 15 = .ok (.lastore, 1) := dk_80 (dk_at dksX0_reason_0 15 rfl rfl)
theorem dX0_reason_16 : decode cX0_reason 16 = .ok (.goto 11, 3) := dk_167 0 11 (dk_at dksX0_reason_0 16 rfl rfl)
theorem dX0_reason_19 : decode cX0_reason 19 = .ok (.astore 7, 2) := dk_58 7 (dk_at dksX0_reason_0 19 rfl rfl)
theorem dX0_reason_21 : decode cX0_reason 21 = .ok (.iconst 1, 1) := dk_4 (dk_at dksX0_reason_0 21 rfl rfl)
theorem dX0_reason_22 : decode cX0_reason 22 = .ok (.ireturn, 1) := dk_172 (dk_at dksX0_reason_0 22 rfl rfl)
theorem dX0_reason_23 : decode cX0_reason 23 = .ok (.astore 7, 2) := dk_58 7 (dk_at dksX0_reason_1 0 rfl rfl)
theorem dX0_reason_25 : decode cX0_reason 25 = .ok (.iconst 2, 1) := dk_5 (dk_at dksX0_reason_1 2 rfl rfl)
theorem dX0_reason_26 : decode cX0_reason 26 = .ok (.ireturn, 1) := dk_172 (dk_at dksX0_reason_1 3 rfl rfl)
theorem dX0_reason_27 : decode cX0_reason 27 = .ok (.iconst 0, 1) := dk_3 (dk_at dksX0_reason_1 4 rfl rfl)
theorem dX0_reason_28 : decode cX0_reason 28 = .ok (.ireturn, 1) := dk_172 (dk_at dksX0_reason_1 5 rfl rfl)
abbrev cX0_nest : ByteArray := method_12_code
def yX0_nest : MethodName := ⟨RX0, "nest", "(LCuttingRoom;IZ[J)I"⟩
def dkwX0_nest_1 : List UInt8 := [172, 3, 172]
abbrev dktX0_nest_1 : List UInt8 := dkwX0_nest_1 ++ []
def dkwX0_nest_0 : List UInt8 := [45, 3, 42, 27, 28, 182, 0, 53, 133, 80, 167, 0, 15, 58, 4, 4, 172, 58, 4, 5, 172, 58, 4, 6]
abbrev dktX0_nest_0 : List UInt8 := dkwX0_nest_0 ++ dktX0_nest_1
theorem dksX0_nest_0 : cX0_nest.data.toList.drop 0 = dktX0_nest_0 := by decide +kernel
theorem dksX0_nest_1 : cX0_nest.data.toList.drop 24 = dktX0_nest_1 := dk_seg dksX0_nest_0 24 rfl rfl
theorem dX0_nest_0 : decode cX0_nest 0 = .ok (.aload_n 3, 1) := dk_45 (dk_at dksX0_nest_0 0 rfl rfl)
theorem dX0_nest_1 : decode cX0_nest 1 = .ok (.iconst 0, 1) := dk_3 (dk_at dksX0_nest_0 1 rfl rfl)
theorem dX0_nest_2 : decode cX0_nest 2 = .ok (.aload_n 0, 1) := dk_42 (dk_at dksX0_nest_0 2 rfl rfl)
theorem dX0_nest_3 : decode cX0_nest 3 = .ok (.iload_n 1, 1) := dk_27 (dk_at dksX0_nest_0 3 rfl rfl)
theorem dX0_nest_4 : decode cX0_nest 4 = .ok (.iload_n 2, 1) := dk_28 (dk_at dksX0_nest_0 4 rfl rfl)
theorem dX0_nest_5 : decode cX0_nest 5 = .ok (.invokevirtual 53, 3) := dk_182 0 53 (dk_at dksX0_nest_0 5 rfl rfl)
theorem dX0_nest_8 : decode cX0_nest 8 = .ok (.i2l, 1) := dk_133 (dk_at dksX0_nest_0 8 rfl rfl)
theorem dX0_nest_9 : decode cX0_nest 9 = .ok (.lastore, 1) := dk_80 (dk_at dksX0_nest_0 9 rfl rfl)
theorem dX0_nest_10 : decode cX0_nest 10 = .ok (.goto 15, 3) := dk_167 0 15 (dk_at dksX0_nest_0 10 rfl rfl)
theorem dX0_nest_13 : decode cX0_nest 13 = .ok (.astore 4, 2) := dk_58 4 (dk_at dksX0_nest_0 13 rfl rfl)
theorem dX0_nest_15 : decode cX0_nest 15 = .ok (.iconst 1, 1) := dk_4 (dk_at dksX0_nest_0 15 rfl rfl)
theorem dX0_nest_16 : decode cX0_nest 16 = .ok (.ireturn, 1) := dk_172 (dk_at dksX0_nest_0 16 rfl rfl)
theorem dX0_nest_17 : decode cX0_nest 17 = .ok (.astore 4, 2) := dk_58 4 (dk_at dksX0_nest_0 17 rfl rfl)
theorem dX0_nest_19 : decode cX0_nest 19 = .ok (.iconst 2, 1) := dk_5 (dk_at dksX0_nest_0 19 rfl rfl)
theorem dX0_nest_20 : decode cX0_nest 20 = .ok (.ireturn, 1) := dk_172 (dk_at dksX0_nest_0 20 rfl rfl)
theorem dX0_nest_21 : decode cX0_nest 21 = .ok (.astore 4, 2) := dk_58 4 (dk_at dksX0_nest_0 21 rfl rfl)
theorem dX0_nest_23 : decode cX0_nest 23 = .ok (.iconst 3, 1) := dk_6 (dk_at dksX0_nest_0 23 rfl rfl)
theorem dX0_nest_24 : decode cX0_nest 24 = .ok (.ireturn, 1) := dk_172 (dk_at dksX0_nest_1 0 rfl rfl)
theorem dX0_nest_25 : decode cX0_nest 25 = .ok (.iconst 0, 1) := dk_3 (dk_at dksX0_nest_1 1 rfl rfl)
theorem dX0_nest_26 : decode cX0_nest 26 = .ok (.ireturn, 1) := dk_172 (dk_at dksX0_nest_1 2 rfl rfl)
abbrev cX0_takeOff : ByteArray := method_13_code
def yX0_takeOff : MethodName := ⟨RX0, "takeOff", "(LCuttingRoom;I[J)I"⟩
def dkwX0_takeOff_0 : List UInt8 := [44, 3, 42, 27, 182, 0, 59, 133, 80, 167, 0, 6, 78, 4, 172, 3, 172]
abbrev dktX0_takeOff_0 : List UInt8 := dkwX0_takeOff_0 ++ []
theorem dksX0_takeOff_0 : cX0_takeOff.data.toList.drop 0 = dktX0_takeOff_0 := by decide +kernel
theorem dX0_takeOff_0 : decode cX0_takeOff 0 = .ok (.aload_n 2, 1) := dk_44 (dk_at dksX0_takeOff_0 0 rfl rfl)
theorem dX0_takeOff_1 : decode cX0_takeOff 1 = .ok (.iconst 0, 1) := dk_3 (dk_at dksX0_takeOff_0 1 rfl rfl)
theorem dX0_takeOff_2 : decode cX0_takeOff 2 = .ok (.aload_n 0, 1) := dk_42 (dk_at dksX0_takeOff_0 2 rfl rfl)
theorem dX0_takeOff_3 : decode cX0_takeOff 3 = .ok (.iload_n 1, 1) := dk_27 (dk_at dksX0_takeOff_0 3 rfl rfl)
theorem dX0_takeOff_4 : decode cX0_takeOff 4 = .ok (.invokevirtual 59, 3) := dk_182 0 59 (dk_at dksX0_takeOff_0 4 rfl rfl)
theorem dX0_takeOff_7 : decode cX0_takeOff 7 = .ok (.i2l, 1) := dk_133 (dk_at dksX0_takeOff_0 7 rfl rfl)
theorem dX0_takeOff_8 : decode cX0_takeOff 8 = .ok (.lastore, 1) := dk_80 (dk_at dksX0_takeOff_0 8 rfl rfl)
theorem dX0_takeOff_9 : decode cX0_takeOff 9 = .ok (.goto 6, 3) := dk_167 0 6 (dk_at dksX0_takeOff_0 9 rfl rfl)
theorem dX0_takeOff_12 : decode cX0_takeOff 12 = .ok (.astore_n 3, 1) := dk_78 (dk_at dksX0_takeOff_0 12 rfl rfl)
theorem dX0_takeOff_13 : decode cX0_takeOff 13 = .ok (.iconst 1, 1) := dk_4 (dk_at dksX0_takeOff_0 13 rfl rfl)
theorem dX0_takeOff_14 : decode cX0_takeOff 14 = .ok (.ireturn, 1) := dk_172 (dk_at dksX0_takeOff_0 14 rfl rfl)
theorem dX0_takeOff_15 : decode cX0_takeOff 15 = .ok (.iconst 0, 1) := dk_3 (dk_at dksX0_takeOff_0 15 rfl rfl)
theorem dX0_takeOff_16 : decode cX0_takeOff 16 = .ok (.ireturn, 1) := dk_172 (dk_at dksX0_takeOff_0 16 rfl rfl)
abbrev cX0_rowOf : ByteArray := method_14_code
def yX0_rowOf : MethodName := ⟨RX0, "rowOf", "(LCuttingRoom;I[J)I"⟩
def dkwX0_rowOf_0 : List UInt8 := [44, 3, 42, 27, 182, 0, 62, 133, 80, 167, 0, 6, 78, 4, 172, 3, 172]
abbrev dktX0_rowOf_0 : List UInt8 := dkwX0_rowOf_0 ++ []
theorem dksX0_rowOf_0 : cX0_rowOf.data.toList.drop 0 = dktX0_rowOf_0 := by decide +kernel
theorem dX0_rowOf_0 : decode cX0_rowOf 0 = .ok (.aload_n 2, 1) := dk_44 (dk_at dksX0_rowOf_0 0 rfl rfl)
theorem dX0_rowOf_1 : decode cX0_rowOf 1 = .ok (.iconst 0, 1) := dk_3 (dk_at dksX0_rowOf_0 1 rfl rfl)
theorem dX0_rowOf_2 : decode cX0_rowOf 2 = .ok (.aload_n 0, 1) := dk_42 (dk_at dksX0_rowOf_0 2 rfl rfl)
theorem dX0_rowOf_3 : decode cX0_rowOf 3 = .ok (.iload_n 1, 1) := dk_27 (dk_at dksX0_rowOf_0 3 rfl rfl)
theorem dX0_rowOf_4 : decode cX0_rowOf 4 = .ok (.invokevirtual 62, 3) := dk_182 0 62 (dk_at dksX0_rowOf_0 4 rfl rfl)
theorem dX0_rowOf_7 : decode cX0_rowOf 7 = .ok (.i2l, 1) := dk_133 (dk_at dksX0_rowOf_0 7 rfl rfl)
theorem dX0_rowOf_8 : decode cX0_rowOf 8 = .ok (.lastore, 1) := dk_80 (dk_at dksX0_rowOf_0 8 rfl rfl)
theorem dX0_rowOf_9 : decode cX0_rowOf 9 = .ok (.goto 6, 3) := dk_167 0 6 (dk_at dksX0_rowOf_0 9 rfl rfl)
theorem dX0_rowOf_12 : decode cX0_rowOf 12 = .ok (.astore_n 3, 1) := dk_78 (dk_at dksX0_rowOf_0 12 rfl rfl)
theorem dX0_rowOf_13 : decode cX0_rowOf 13 = .ok (.iconst 1, 1) := dk_4 (dk_at dksX0_rowOf_0 13 rfl rfl)
theorem dX0_rowOf_14 : decode cX0_rowOf 14 = .ok (.ireturn, 1) := dk_172 (dk_at dksX0_rowOf_0 14 rfl rfl)
theorem dX0_rowOf_15 : decode cX0_rowOf 15 = .ok (.iconst 0, 1) := dk_3 (dk_at dksX0_rowOf_0 15 rfl rfl)
theorem dX0_rowOf_16 : decode cX0_rowOf 16 = .ok (.ireturn, 1) := dk_172 (dk_at dksX0_rowOf_0 16 rfl rfl)
abbrev cX0_columnOf : ByteArray := method_15_code
def yX0_columnOf : MethodName := ⟨RX0, "columnOf", "(LCuttingRoom;I[J)I"⟩
def dkwX0_columnOf_0 : List UInt8 := [44, 3, 42, 27, 182, 0, 65, 133, 80, 167, 0, 6, 78, 4, 172, 3, 172]
abbrev dktX0_columnOf_0 : List UInt8 := dkwX0_columnOf_0 ++ []
theorem dksX0_columnOf_0 : cX0_columnOf.data.toList.drop 0 = dktX0_columnOf_0 := by decide +kernel
theorem dX0_columnOf_0 : decode cX0_columnOf 0 = .ok (.aload_n 2, 1) := dk_44 (dk_at dksX0_columnOf_0 0 rfl rfl)
theorem dX0_columnOf_1 : decode cX0_columnOf 1 = .ok (.iconst 0, 1) := dk_3 (dk_at dksX0_columnOf_0 1 rfl rfl)
theorem dX0_columnOf_2 : decode cX0_columnOf 2 = .ok (.aload_n 0, 1) := dk_42 (dk_at dksX0_columnOf_0 2 rfl rfl)
theorem dX0_columnOf_3 : decode cX0_columnOf 3 = .ok (.iload_n 1, 1) := dk_27 (dk_at dksX0_columnOf_0 3 rfl rfl)
theorem dX0_columnOf_4 : decode cX0_columnOf 4 = .ok (.invokevirtual 65, 3) := dk_182 0 65 (dk_at dksX0_columnOf_0 4 rfl rfl)
theorem dX0_columnOf_7 : decode cX0_columnOf 7 = .ok (.i2l, 1) := dk_133 (dk_at dksX0_columnOf_0 7 rfl rfl)
theorem dX0_columnOf_8 : decode cX0_columnOf 8 = .ok (.lastore, 1) := dk_80 (dk_at dksX0_columnOf_0 8 rfl rfl)
theorem dX0_columnOf_9 : decode cX0_columnOf 9 = .ok (.goto 6, 3) := dk_167 0 6 (dk_at dksX0_columnOf_0 9 rfl rfl)
theorem dX0_columnOf_12 : decode cX0_columnOf 12 = .ok (.astore_n 3, 1) := dk_78 (dk_at dksX0_columnOf_0 12 rfl rfl)
theorem dX0_columnOf_13 : decode cX0_columnOf 13 = .ok (.iconst 1, 1) := dk_4 (dk_at dksX0_columnOf_0 13 rfl rfl)
theorem dX0_columnOf_14 : decode cX0_columnOf 14 = .ok (.ireturn, 1) := dk_172 (dk_at dksX0_columnOf_0 14 rfl rfl)
theorem dX0_columnOf_15 : decode cX0_columnOf 15 = .ok (.iconst 0, 1) := dk_3 (dk_at dksX0_columnOf_0 15 rfl rfl)
theorem dX0_columnOf_16 : decode cX0_columnOf 16 = .ok (.ireturn, 1) := dk_172 (dk_at dksX0_columnOf_0 16 rfl rfl)
abbrev cX0_turnsOf : ByteArray := method_16_code
def yX0_turnsOf : MethodName := ⟨RX0, "turnsOf", "(LCuttingRoom;I[J)I"⟩
def dkwX0_turnsOf_0 : List UInt8 := [44, 3, 42, 27, 182, 0, 68, 133, 80, 167, 0, 6, 78, 4, 172, 3, 172]
abbrev dktX0_turnsOf_0 : List UInt8 := dkwX0_turnsOf_0 ++ []
theorem dksX0_turnsOf_0 : cX0_turnsOf.data.toList.drop 0 = dktX0_turnsOf_0 := by decide +kernel
theorem dX0_turnsOf_0 : decode cX0_turnsOf 0 = .ok (.aload_n 2, 1) := dk_44 (dk_at dksX0_turnsOf_0 0 rfl rfl)
theorem dX0_turnsOf_1 : decode cX0_turnsOf 1 = .ok (.iconst 0, 1) := dk_3 (dk_at dksX0_turnsOf_0 1 rfl rfl)
theorem dX0_turnsOf_2 : decode cX0_turnsOf 2 = .ok (.aload_n 0, 1) := dk_42 (dk_at dksX0_turnsOf_0 2 rfl rfl)
theorem dX0_turnsOf_3 : decode cX0_turnsOf 3 = .ok (.iload_n 1, 1) := dk_27 (dk_at dksX0_turnsOf_0 3 rfl rfl)
theorem dX0_turnsOf_4 : decode cX0_turnsOf 4 = .ok (.invokevirtual 68, 3) := dk_182 0 68 (dk_at dksX0_turnsOf_0 4 rfl rfl)
theorem dX0_turnsOf_7 : decode cX0_turnsOf 7 = .ok (.i2l, 1) := dk_133 (dk_at dksX0_turnsOf_0 7 rfl rfl)
theorem dX0_turnsOf_8 : decode cX0_turnsOf 8 = .ok (.lastore, 1) := dk_80 (dk_at dksX0_turnsOf_0 8 rfl rfl)
theorem dX0_turnsOf_9 : decode cX0_turnsOf 9 = .ok (.goto 6, 3) := dk_167 0 6 (dk_at dksX0_turnsOf_0 9 rfl rfl)
theorem dX0_turnsOf_12 : decode cX0_turnsOf 12 = .ok (.astore_n 3, 1) := dk_78 (dk_at dksX0_turnsOf_0 12 rfl rfl)
theorem dX0_turnsOf_13 : decode cX0_turnsOf 13 = .ok (.iconst 1, 1) := dk_4 (dk_at dksX0_turnsOf_0 13 rfl rfl)
theorem dX0_turnsOf_14 : decode cX0_turnsOf 14 = .ok (.ireturn, 1) := dk_172 (dk_at dksX0_turnsOf_0 14 rfl rfl)
theorem dX0_turnsOf_15 : decode cX0_turnsOf 15 = .ok (.iconst 0, 1) := dk_3 (dk_at dksX0_turnsOf_0 15 rfl rfl)
theorem dX0_turnsOf_16 : decode cX0_turnsOf 16 = .ok (.ireturn, 1) := dk_172 (dk_at dksX0_turnsOf_0 16 rfl rfl)
abbrev cX0_pieceAt : ByteArray := method_17_code
def yX0_pieceAt : MethodName := ⟨RX0, "pieceAt", "(LCuttingRoom;II[J)I"⟩
def dkwX0_pieceAt_0 : List UInt8 := [45, 3, 42, 27, 28, 182, 0, 71, 133, 80, 167, 0, 11, 58, 4, 4, 172, 58, 4, 5, 172, 3, 172]
abbrev dktX0_pieceAt_0 : List UInt8 := dkwX0_pieceAt_0 ++ []
theorem dksX0_pieceAt_0 : cX0_pieceAt.data.toList.drop 0 = dktX0_pieceAt_0 := by decide +kernel
theorem dX0_pieceAt_0 : decode cX0_pieceAt 0 = .ok (.aload_n 3, 1) := dk_45 (dk_at dksX0_pieceAt_0 0 rfl rfl)
theorem dX0_pieceAt_1 : decode cX0_pieceAt 1 = .ok (.iconst 0, 1) := dk_3 (dk_at dksX0_pieceAt_0 1 rfl rfl)
theorem dX0_pieceAt_2 : decode cX0_pieceAt 2 = .ok (.aload_n 0, 1) := dk_42 (dk_at dksX0_pieceAt_0 2 rfl rfl)
theorem dX0_pieceAt_3 : decode cX0_pieceAt 3 = .ok (.iload_n 1, 1) := dk_27 (dk_at dksX0_pieceAt_0 3 rfl rfl)
theorem dX0_pieceAt_4 : decode cX0_pieceAt 4 = .ok (.iload_n 2, 1) := dk_28 (dk_at dksX0_pieceAt_0 4 rfl rfl)
theorem dX0_pieceAt_5 : decode cX0_pieceAt 5 = .ok (.invokevirtual 71, 3) := dk_182 0 71 (dk_at dksX0_pieceAt_0 5 rfl rfl)
theorem dX0_pieceAt_8 : decode cX0_pieceAt 8 = .ok (.i2l, 1) := dk_133 (dk_at dksX0_pieceAt_0 8 rfl rfl)
theorem dX0_pieceAt_9 : decode cX0_pieceAt 9 = .ok (.lastore, 1) := dk_80 (dk_at dksX0_pieceAt_0 9 rfl rfl)
theorem dX0_pieceAt_10 : decode cX0_pieceAt 10 = .ok (.goto 11, 3) := dk_167 0 11 (dk_at dksX0_pieceAt_0 10 rfl rfl)
theorem dX0_pieceAt_13 : decode cX0_pieceAt 13 = .ok (.astore 4, 2) := dk_58 4 (dk_at dksX0_pieceAt_0 13 rfl rfl)
theorem dX0_pieceAt_15 : decode cX0_pieceAt 15 = .ok (.iconst 1, 1) := dk_4 (dk_at dksX0_pieceAt_0 15 rfl rfl)
theorem dX0_pieceAt_16 : decode cX0_pieceAt 16 = .ok (.ireturn, 1) := dk_172 (dk_at dksX0_pieceAt_0 16 rfl rfl)
theorem dX0_pieceAt_17 : decode cX0_pieceAt 17 = .ok (.astore 4, 2) := dk_58 4 (dk_at dksX0_pieceAt_0 17 rfl rfl)
theorem dX0_pieceAt_19 : decode cX0_pieceAt 19 = .ok (.iconst 2, 1) := dk_5 (dk_at dksX0_pieceAt_0 19 rfl rfl)
theorem dX0_pieceAt_20 : decode cX0_pieceAt 20 = .ok (.ireturn, 1) := dk_172 (dk_at dksX0_pieceAt_0 20 rfl rfl)
theorem dX0_pieceAt_21 : decode cX0_pieceAt 21 = .ok (.iconst 0, 1) := dk_3 (dk_at dksX0_pieceAt_0 21 rfl rfl)
theorem dX0_pieceAt_22 : decode cX0_pieceAt 22 = .ok (.ireturn, 1) := dk_172 (dk_at dksX0_pieceAt_0 22 rfl rfl)
abbrev cX0_pieceByPieces : ByteArray := method_18_code
def yX0_pieceByPieces : MethodName := ⟨RX0, "pieceByPieces", "(LCuttingRoom;II[J)I"⟩
def dkwX0_pieceByPieces_0 : List UInt8 := [45, 3, 42, 27, 28, 182, 0, 74, 133, 80, 167, 0, 11, 58, 4, 4, 172, 58, 4, 5, 172, 3, 172]
abbrev dktX0_pieceByPieces_0 : List UInt8 := dkwX0_pieceByPieces_0 ++ []
theorem dksX0_pieceByPieces_0 : cX0_pieceByPieces.data.toList.drop 0 = dktX0_pieceByPieces_0 := by decide +kernel
theorem dX0_pieceByPieces_0 : decode cX0_pieceByPieces 0 = .ok (.aload_n 3, 1) := dk_45 (dk_at dksX0_pieceByPieces_0 0 rfl rfl)
theorem dX0_pieceByPieces_1 : decode cX0_pieceByPieces 1 = .ok (.iconst 0, 1) := dk_3 (dk_at dksX0_pieceByPieces_0 1 rfl rfl)
theorem dX0_pieceByPieces_2 : decode cX0_pieceByPieces 2 = .ok (.aload_n 0, 1) := dk_42 (dk_at dksX0_pieceByPieces_0 2 rfl rfl)
theorem dX0_pieceByPieces_3 : decode cX0_pieceByPieces 3 = .ok (.iload_n 1, 1) := dk_27 (dk_at dksX0_pieceByPieces_0 3 rfl rfl)
theorem dX0_pieceByPieces_4 : decode cX0_pieceByPieces 4 = .ok (.iload_n 2, 1) := dk_28 (dk_at dksX0_pieceByPieces_0 4 rfl rfl)
theorem dX0_pieceByPieces_5 : decode cX0_pieceByPieces 5 = .ok (.invokevirtual 74, 3) := dk_182 0 74 (dk_at dksX0_pieceByPieces_0 5 rfl rfl)
theorem dX0_pieceByPieces_8 : decode cX0_pieceByPieces 8 = .ok (.i2l, 1) := dk_133 (dk_at dksX0_pieceByPieces_0 8 rfl rfl)
theorem dX0_pieceByPieces_9 : decode cX0_pieceByPieces 9 = .ok (.lastore, 1) := dk_80 (dk_at dksX0_pieceByPieces_0 9 rfl rfl)
theorem dX0_pieceByPieces_10 : decode cX0_pieceByPieces 10 = .ok (.goto 11, 3) := dk_167 0 11 (dk_at dksX0_pieceByPieces_0 10 rfl rfl)
theorem dX0_pieceByPieces_13 : decode cX0_pieceByPieces 13 = .ok (.astore 4, 2) := dk_58 4 (dk_at dksX0_pieceByPieces_0 13 rfl rfl)
theorem dX0_pieceByPieces_15 : decode cX0_pieceByPieces 15 = .ok (.iconst 1, 1) := dk_4 (dk_at dksX0_pieceByPieces_0 15 rfl rfl)
theorem dX0_pieceByPieces_16 : decode cX0_pieceByPieces 16 = .ok (.ireturn, 1) := dk_172 (dk_at dksX0_pieceByPieces_0 16 rfl rfl)
theorem dX0_pieceByPieces_17 : decode cX0_pieceByPieces 17 = .ok (.astore 4, 2) := dk_58 4 (dk_at dksX0_pieceByPieces_0 17 rfl rfl)
theorem dX0_pieceByPieces_19 : decode cX0_pieceByPieces 19 = .ok (.iconst 2, 1) := dk_5 (dk_at dksX0_pieceByPieces_0 19 rfl rfl)
theorem dX0_pieceByPieces_20 : decode cX0_pieceByPieces 20 = .ok (.ireturn, 1) := dk_172 (dk_at dksX0_pieceByPieces_0 20 rfl rfl)
theorem dX0_pieceByPieces_21 : decode cX0_pieceByPieces 21 = .ok (.iconst 0, 1) := dk_3 (dk_at dksX0_pieceByPieces_0 21 rfl rfl)
theorem dX0_pieceByPieces_22 : decode cX0_pieceByPieces 22 = .ok (.ireturn, 1) := dk_172 (dk_at dksX0_pieceByPieces_0 22 rfl rfl)
abbrev cX0_phase : ByteArray := method_19_code
def yX0_phase : MethodName := ⟨RX0, "phase", "(LCuttingRoom;I[J)I"⟩
def dkwX0_phase_0 : List UInt8 := [44, 3, 42, 27, 182, 0, 77, 133, 80, 167, 0, 9, 78, 4, 172, 78, 5, 172, 3, 172]
abbrev dktX0_phase_0 : List UInt8 := dkwX0_phase_0 ++ []
theorem dksX0_phase_0 : cX0_phase.data.toList.drop 0 = dktX0_phase_0 := by decide +kernel
theorem dX0_phase_0 : decode cX0_phase 0 = .ok (.aload_n 2, 1) := dk_44 (dk_at dksX0_phase_0 0 rfl rfl)
theorem dX0_phase_1 : decode cX0_phase 1 = .ok (.iconst 0, 1) := dk_3 (dk_at dksX0_phase_0 1 rfl rfl)
theorem dX0_phase_2 : decode cX0_phase 2 = .ok (.aload_n 0, 1) := dk_42 (dk_at dksX0_phase_0 2 rfl rfl)
theorem dX0_phase_3 : decode cX0_phase 3 = .ok (.iload_n 1, 1) := dk_27 (dk_at dksX0_phase_0 3 rfl rfl)
theorem dX0_phase_4 : decode cX0_phase 4 = .ok (.invokevirtual 77, 3) := dk_182 0 77 (dk_at dksX0_phase_0 4 rfl rfl)
theorem dX0_phase_7 : decode cX0_phase 7 = .ok (.i2l, 1) := dk_133 (dk_at dksX0_phase_0 7 rfl rfl)
theorem dX0_phase_8 : decode cX0_phase 8 = .ok (.lastore, 1) := dk_80 (dk_at dksX0_phase_0 8 rfl rfl)
theorem dX0_phase_9 : decode cX0_phase 9 = .ok (.goto 9, 3) := dk_167 0 9 (dk_at dksX0_phase_0 9 rfl rfl)
theorem dX0_phase_12 : decode cX0_phase 12 = .ok (.astore_n 3, 1) := dk_78 (dk_at dksX0_phase_0 12 rfl rfl)
theorem dX0_phase_13 : decode cX0_phase 13 = .ok (.iconst 1, 1) := dk_4 (dk_at dksX0_phase_0 13 rfl rfl)
theorem dX0_phase_14 : decode cX0_phase 14 = .ok (.ireturn, 1) := dk_172 (dk_at dksX0_phase_0 14 rfl rfl)
theorem dX0_phase_15 : decode cX0_phase 15 = .ok (.astore_n 3, 1) := dk_78 (dk_at dksX0_phase_0 15 rfl rfl)
theorem dX0_phase_16 : decode cX0_phase 16 = .ok (.iconst 2, 1) := dk_5 (dk_at dksX0_phase_0 16 rfl rfl)
theorem dX0_phase_17 : decode cX0_phase 17 = .ok (.ireturn, 1) := dk_172 (dk_at dksX0_phase_0 17 rfl rfl)
theorem dX0_phase_18 : decode cX0_phase 18 = .ok (.iconst 0, 1) := dk_3 (dk_at dksX0_phase_0 18 rfl rfl)
theorem dX0_phase_19 : decode cX0_phase 19 = .ok (.ireturn, 1) := dk_172 (dk_at dksX0_phase_0 19 rfl rfl)
abbrev cX0_addStyle : ByteArray := method_20_code
def yX0_addStyle : MethodName := ⟨RX0, "addStyle", "(LCuttingRoom;[J)I"⟩
def dkwX0_addStyle_0 : List UInt8 := [43, 3, 42, 182, 0, 80, 133, 80, 167, 0, 6, 77, 4, 172, 3, 172]
abbrev dktX0_addStyle_0 : List UInt8 := dkwX0_addStyle_0 ++ []
theorem dksX0_addStyle_0 : cX0_addStyle.data.toList.drop 0 = dktX0_addStyle_0 := by decide +kernel
theorem dX0_addStyle_0 : decode cX0_addStyle 0 = .ok (.aload_n 1, 1) := dk_43 (dk_at dksX0_addStyle_0 0 rfl rfl)
theorem dX0_addStyle_1 : decode cX0_addStyle 1 = .ok (.iconst 0, 1) := dk_3 (dk_at dksX0_addStyle_0 1 rfl rfl)
theorem dX0_addStyle_2 : decode cX0_addStyle 2 = .ok (.aload_n 0, 1) := dk_42 (dk_at dksX0_addStyle_0 2 rfl rfl)
theorem dX0_addStyle_3 : decode cX0_addStyle 3 = .ok (.invokevirtual 80, 3) := dk_182 0 80 (dk_at dksX0_addStyle_0 3 rfl rfl)
theorem dX0_addStyle_6 : decode cX0_addStyle 6 = .ok (.i2l, 1) := dk_133 (dk_at dksX0_addStyle_0 6 rfl rfl)
theorem dX0_addStyle_7 : decode cX0_addStyle 7 = .ok (.lastore, 1) := dk_80 (dk_at dksX0_addStyle_0 7 rfl rfl)
theorem dX0_addStyle_8 : decode cX0_addStyle 8 = .ok (.goto 6, 3) := dk_167 0 6 (dk_at dksX0_addStyle_0 8 rfl rfl)
theorem dX0_addStyle_11 : decode cX0_addStyle 11 = .ok (.astore_n 2, 1) := dk_77 (dk_at dksX0_addStyle_0 11 rfl rfl)
theorem dX0_addStyle_12 : decode cX0_addStyle 12 = .ok (.iconst 1, 1) := dk_4 (dk_at dksX0_addStyle_0 12 rfl rfl)
theorem dX0_addStyle_13 : decode cX0_addStyle 13 = .ok (.ireturn, 1) := dk_172 (dk_at dksX0_addStyle_0 13 rfl rfl)
theorem dX0_addStyle_14 : decode cX0_addStyle 14 = .ok (.iconst 0, 1) := dk_3 (dk_at dksX0_addStyle_0 14 rfl rfl)
theorem dX0_addStyle_15 : decode cX0_addStyle 15 = .ok (.ireturn, 1) := dk_172 (dk_at dksX0_addStyle_0 15 rfl rfl)
abbrev cX0_addPart : ByteArray := method_21_code
def yX0_addPart : MethodName := ⟨RX0, "addPart", "(LCuttingRoom;III[J)I"⟩
def dkwX0_addPart_1 : List UInt8 := [58, 5, 6, 172, 3, 172]
abbrev dktX0_addPart_1 : List UInt8 := dkwX0_addPart_1 ++ []
def dkwX0_addPart_0 : List UInt8 := [25, 4, 3, 42, 27, 28, 29, 182, 0, 84, 133, 80, 167, 0, 15, 58, 5, 4, 172, 58, 5, 5, 172]
abbrev dktX0_addPart_0 : List UInt8 := dkwX0_addPart_0 ++ dktX0_addPart_1
theorem dksX0_addPart_0 : cX0_addPart.data.toList.drop 0 = dktX0_addPart_0 := by decide +kernel
theorem dksX0_addPart_1 : cX0_addPart.data.toList.drop 23 = dktX0_addPart_1 := dk_seg dksX0_addPart_0 23 rfl rfl
theorem dX0_addPart_0 : decode cX0_addPart 0 = .ok (.aload 4, 2) := dk_25 4 (dk_at dksX0_addPart_0 0 rfl rfl)
theorem dX0_addPart_2 : decode cX0_addPart 2 = .ok (.iconst 0, 1) := dk_3 (dk_at dksX0_addPart_0 2 rfl rfl)
theorem dX0_addPart_3 : decode cX0_addPart 3 = .ok (.aload_n 0, 1) := dk_42 (dk_at dksX0_addPart_0 3 rfl rfl)
theorem dX0_addPart_4 : decode cX0_addPart 4 = .ok (.iload_n 1, 1) := dk_27 (dk_at dksX0_addPart_0 4 rfl rfl)
theorem dX0_addPart_5 : decode cX0_addPart 5 = .ok (.iload_n 2, 1) := dk_28 (dk_at dksX0_addPart_0 5 rfl rfl)
theorem dX0_addPart_6 : decode cX0_addPart 6 = .ok (.iload_n 3, 1) := dk_29 (dk_at dksX0_addPart_0 6 rfl rfl)
theorem dX0_addPart_7 : decode cX0_addPart 7 = .ok (.invokevirtual 84, 3) := dk_182 0 84 (dk_at dksX0_addPart_0 7 rfl rfl)
theorem dX0_addPart_10 : decode cX0_addPart 10 = .ok (.i2l, 1) := dk_133 (dk_at dksX0_addPart_0 10 rfl rfl)
theorem dX0_addPart_11 : decode cX0_addPart 11 = .ok (.lastore, 1) := dk_80 (dk_at dksX0_addPart_0 11 rfl rfl)
theorem dX0_addPart_12 : decode cX0_addPart 12 = .ok (.goto 15, 3) := dk_167 0 15 (dk_at dksX0_addPart_0 12 rfl rfl)
theorem dX0_addPart_15 : decode cX0_addPart 15 = .ok (.astore 5, 2) := dk_58 5 (dk_at dksX0_addPart_0 15 rfl rfl)
theorem dX0_addPart_17 : decode cX0_addPart 17 = .ok (.iconst 1, 1) := dk_4 (dk_at dksX0_addPart_0 17 rfl rfl)
theorem dX0_addPart_18 : decode cX0_addPart 18 = .ok (.ireturn, 1) := dk_172 (dk_at dksX0_addPart_0 18 rfl rfl)
theorem dX0_addPart_19 : decode cX0_addPart 19 = .ok (.astore 5, 2) := dk_58 5 (dk_at dksX0_addPart_0 19 rfl rfl)
theorem dX0_addPart_21 : decode cX0_addPart 21 = .ok (.iconst 2, 1) := dk_5 (dk_at dksX0_addPart_0 21 rfl rfl)
theorem dX0_addPart_22 : decode cX0_addPart 22 = .ok (.ireturn, 1) := dk_172 (dk_at dksX0_addPart_0 22 rfl rfl)
theorem dX0_addPart_23 : decode cX0_addPart 23 = .ok (.astore 5, 2) := dk_58 5 (dk_at dksX0_addPart_1 0 rfl rfl)
theorem dX0_addPart_25 : decode cX0_addPart 25 = .ok (.iconst 3, 1) := dk_6 (dk_at dksX0_addPart_1 2 rfl rfl)
theorem dX0_addPart_26 : decode cX0_addPart 26 = .ok (.ireturn, 1) := dk_172 (dk_at dksX0_addPart_1 3 rfl rfl)
theorem dX0_addPart_27 : decode cX0_addPart 27 = .ok (.iconst 0, 1) := dk_3 (dk_at dksX0_addPart_1 4 rfl rfl)
theorem dX0_addPart_28 : decode cX0_addPart 28 = .ok (.ireturn, 1) := dk_172 (dk_at dksX0_addPart_1 5 rfl rfl)
abbrev cX0_piecesFor : ByteArray := method_22_code
def yX0_piecesFor : MethodName := ⟨RX0, "piecesFor", "(LCuttingRoom;I[J)I"⟩
def dkwX0_piecesFor_0 : List UInt8 := [44, 3, 42, 27, 182, 0, 87, 133, 80, 167, 0, 6, 78, 4, 172, 3, 172]
abbrev dktX0_piecesFor_0 : List UInt8 := dkwX0_piecesFor_0 ++ []
theorem dksX0_piecesFor_0 : cX0_piecesFor.data.toList.drop 0 = dktX0_piecesFor_0 := by decide +kernel
theorem dX0_piecesFor_0 : decode cX0_piecesFor 0 = .ok (.aload_n 2, 1) := dk_44 (dk_at dksX0_piecesFor_0 0 rfl rfl)
theorem dX0_piecesFor_1 : decode cX0_piecesFor 1 = .ok (.iconst 0, 1) := dk_3 (dk_at dksX0_piecesFor_0 1 rfl rfl)
theorem dX0_piecesFor_2 : decode cX0_piecesFor 2 = .ok (.aload_n 0, 1) := dk_42 (dk_at dksX0_piecesFor_0 2 rfl rfl)
theorem dX0_piecesFor_3 : decode cX0_piecesFor 3 = .ok (.iload_n 1, 1) := dk_27 (dk_at dksX0_piecesFor_0 3 rfl rfl)
theorem dX0_piecesFor_4 : decode cX0_piecesFor 4 = .ok (.invokevirtual 87, 3) := dk_182 0 87 (dk_at dksX0_piecesFor_0 4 rfl rfl)
theorem dX0_piecesFor_7 : decode cX0_piecesFor 7 = .ok (.i2l, 1) := dk_133 (dk_at dksX0_piecesFor_0 7 rfl rfl)
theorem dX0_piecesFor_8 : decode cX0_piecesFor 8 = .ok (.lastore, 1) := dk_80 (dk_at dksX0_piecesFor_0 8 rfl rfl)
theorem dX0_piecesFor_9 : decode cX0_piecesFor 9 = .ok (.goto 6, 3) := dk_167 0 6 (dk_at dksX0_piecesFor_0 9 rfl rfl)
theorem dX0_piecesFor_12 : decode cX0_piecesFor 12 = .ok (.astore_n 3, 1) := dk_78 (dk_at dksX0_piecesFor_0 12 rfl rfl)
theorem dX0_piecesFor_13 : decode cX0_piecesFor 13 = .ok (.iconst 1, 1) := dk_4 (dk_at dksX0_piecesFor_0 13 rfl rfl)
theorem dX0_piecesFor_14 : decode cX0_piecesFor 14 = .ok (.ireturn, 1) := dk_172 (dk_at dksX0_piecesFor_0 14 rfl rfl)
theorem dX0_piecesFor_15 : decode cX0_piecesFor 15 = .ok (.iconst 0, 1) := dk_3 (dk_at dksX0_piecesFor_0 15 rfl rfl)
theorem dX0_piecesFor_16 : decode cX0_piecesFor 16 = .ok (.ireturn, 1) := dk_172 (dk_at dksX0_piecesFor_0 16 rfl rfl)
abbrev cX0_nestedLength : ByteArray := method_23_code
def yX0_nestedLength : MethodName := ⟨RX0, "nestedLength", "(LCuttingRoom;I[J)I"⟩
def dkwX0_nestedLength_0 : List UInt8 := [44, 3, 42, 27, 182, 0, 90, 133, 80, 167, 0, 12, 78, 4, 172, 78, 5, 172, 78, 6, 172, 3, 172]
abbrev dktX0_nestedLength_0 : List UInt8 := dkwX0_nestedLength_0 ++ []
theorem dksX0_nestedLength_0 : cX0_nestedLength.data.toList.drop 0 = dktX0_nestedLength_0 := by decide +kernel
theorem dX0_nestedLength_0 : decode cX0_nestedLength 0 = .ok (.aload_n 2, 1) := dk_44 (dk_at dksX0_nestedLength_0 0 rfl rfl)
theorem dX0_nestedLength_1 : decode cX0_nestedLength 1 = .ok (.iconst 0, 1) := dk_3 (dk_at dksX0_nestedLength_0 1 rfl rfl)
theorem dX0_nestedLength_2 : decode cX0_nestedLength 2 = .ok (.aload_n 0, 1) := dk_42 (dk_at dksX0_nestedLength_0 2 rfl rfl)
theorem dX0_nestedLength_3 : decode cX0_nestedLength 3 = .ok (.iload_n 1, 1) := dk_27 (dk_at dksX0_nestedLength_0 3 rfl rfl)
theorem dX0_nestedLength_4 : decode cX0_nestedLength 4 = .ok (.invokevirtual 90, 3) := dk_182 0 90 (dk_at dksX0_nestedLength_0 4 rfl rfl)
theorem dX0_nestedLength_7 : decode cX0_nestedLength 7 = .ok (.i2l, 1) := dk_133 (dk_at dksX0_nestedLength_0 7 rfl rfl)
theorem dX0_nestedLength_8 : decode cX0_nestedLength 8 = .ok (.lastore, 1) := dk_80 (dk_at dksX0_nestedLength_0 8 rfl rfl)
theorem dX0_nestedLength_9 : decode cX0_nestedLength 9 = .ok (.goto 12, 3) := dk_167 0 12 (dk_at dksX0_nestedLength_0 9 rfl rfl)
theorem dX0_nestedLength_12 : decode cX0_nestedLength 12 = .ok (.astore_n 3, 1) := dk_78 (dk_at dksX0_nestedLength_0 12 rfl rfl)
theorem dX0_nestedLength_13 : decode cX0_nestedLength 13 = .ok (.iconst 1, 1) := dk_4 (dk_at dksX0_nestedLength_0 13 rfl rfl)
theorem dX0_nestedLength_14 : decode cX0_nestedLength 14 = .ok (.ireturn, 1) := dk_172 (dk_at dksX0_nestedLength_0 14 rfl rfl)
theorem dX0_nestedLength_15 : decode cX0_nestedLength 15 = .ok (.astore_n 3, 1) := dk_78 (dk_at dksX0_nestedLength_0 15 rfl rfl)
theorem dX0_nestedLength_16 : decode cX0_nestedLength 16 = .ok (.iconst 2, 1) := dk_5 (dk_at dksX0_nestedLength_0 16 rfl rfl)
theorem dX0_nestedLength_17 : decode cX0_nestedLength 17 = .ok (.ireturn, 1) := dk_172 (dk_at dksX0_nestedLength_0 17 rfl rfl)
theorem dX0_nestedLength_18 : decode cX0_nestedLength 18 = .ok (.astore_n 3, 1) := dk_78 (dk_at dksX0_nestedLength_0 18 rfl rfl)
theorem dX0_nestedLength_19 : decode cX0_nestedLength 19 = .ok (.iconst 3, 1) := dk_6 (dk_at dksX0_nestedLength_0 19 rfl rfl)
theorem dX0_nestedLength_20 : decode cX0_nestedLength 20 = .ok (.ireturn, 1) := dk_172 (dk_at dksX0_nestedLength_0 20 rfl rfl)
theorem dX0_nestedLength_21 : decode cX0_nestedLength 21 = .ok (.iconst 0, 1) := dk_3 (dk_at dksX0_nestedLength_0 21 rfl rfl)
theorem dX0_nestedLength_22 : decode cX0_nestedLength 22 = .ok (.ireturn, 1) := dk_172 (dk_at dksX0_nestedLength_0 22 rfl rfl)
abbrev cX0_nestedByTrying : ByteArray := method_24_code
def yX0_nestedByTrying : MethodName := ⟨RX0, "nestedByTrying", "(LCuttingRoom;I[J)I"⟩
def dkwX0_nestedByTrying_0 : List UInt8 := [44, 3, 42, 27, 182, 0, 93, 133, 80, 167, 0, 12, 78, 4, 172, 78, 5, 172, 78, 6, 172, 3, 172]
abbrev dktX0_nestedByTrying_0 : List UInt8 := dkwX0_nestedByTrying_0 ++ []
theorem dksX0_nestedByTrying_0 : cX0_nestedByTrying.data.toList.drop 0 = dktX0_nestedByTrying_0 := by decide +kernel
theorem dX0_nestedByTrying_0 : decode cX0_nestedByTrying 0 = .ok (.aload_n 2, 1) := dk_44 (dk_at dksX0_nestedByTrying_0 0 rfl rfl)
theorem dX0_nestedByTrying_1 : decode cX0_nestedByTrying 1 = .ok (.iconst 0, 1) := dk_3 (dk_at dksX0_nestedByTrying_0 1 rfl rfl)
theorem dX0_nestedByTrying_2 : decode cX0_nestedByTrying 2 = .ok (.aload_n 0, 1) := dk_42 (dk_at dksX0_nestedByTrying_0 2 rfl rfl)
theorem dX0_nestedByTrying_3 : decode cX0_nestedByTrying 3 = .ok (.iload_n 1, 1) := dk_27 (dk_at dksX0_nestedByTrying_0 3 rfl rfl)
theorem dX0_nestedByTrying_4 : decode cX0_nestedByTrying 4 = .ok (.invokevirtual 93, 3) := dk_182 0 93 (dk_at dksX0_nestedByTrying_0 4 rfl rfl)
theorem dX0_nestedByTrying_7 : decode cX0_nestedByTrying 7 = .ok (.i2l, 1) := dk_133 (dk_at dksX0_nestedByTrying_0 7 rfl rfl)
theorem dX0_nestedByTrying_8 : decode cX0_nestedByTrying 8 = .ok (.lastore, 1) := dk_80 (dk_at dksX0_nestedByTrying_0 8 rfl rfl)
theorem dX0_nestedByTrying_9 : decode cX0_nestedByTrying 9 = .ok (.goto 12, 3) := dk_167 0 12 (dk_at dksX0_nestedByTrying_0 9 rfl rfl)
theorem dX0_nestedByTrying_12 : decode cX0_nestedByTrying 12 = .ok (.astore_n 3, 1) := dk_78 (dk_at dksX0_nestedByTrying_0 12 rfl rfl)
theorem dX0_nestedByTrying_13 : decode cX0_nestedByTrying 13 = .ok (.iconst 1, 1) := dk_4 (dk_at dksX0_nestedByTrying_0 13 rfl rfl)
theorem dX0_nestedByTrying_14 : decode cX0_nestedByTrying 14 = .ok (.ireturn, 1) := dk_172 (dk_at dksX0_nestedByTrying_0 14 rfl rfl)
theorem dX0_nestedByTrying_15 : decode cX0_nestedByTrying 15 = .ok (.astore_n 3, 1) := dk_78 (dk_at dksX0_nestedByTrying_0 15 rfl rfl)
theorem dX0_nestedByTrying_16 : decode cX0_nestedByTrying 16 = .ok (.iconst 2, 1) := dk_5 (dk_at dksX0_nestedByTrying_0 16 rfl rfl)
theorem dX0_nestedByTrying_17 : decode cX0_nestedByTrying 17 = .ok (.ireturn, 1) := dk_172 (dk_at dksX0_nestedByTrying_0 17 rfl rfl)
theorem dX0_nestedByTrying_18 : decode cX0_nestedByTrying 18 = .ok (.astore_n 3, 1) := dk_78 (dk_at dksX0_nestedByTrying_0 18 rfl rfl)
theorem dX0_nestedByTrying_19 : decode cX0_nestedByTrying 19 = .ok (.iconst 3, 1) := dk_6 (dk_at dksX0_nestedByTrying_0 19 rfl rfl)
theorem dX0_nestedByTrying_20 : decode cX0_nestedByTrying 20 = .ok (.ireturn, 1) := dk_172 (dk_at dksX0_nestedByTrying_0 20 rfl rfl)
theorem dX0_nestedByTrying_21 : decode cX0_nestedByTrying 21 = .ok (.iconst 0, 1) := dk_3 (dk_at dksX0_nestedByTrying_0 21 rfl rfl)
theorem dX0_nestedByTrying_22 : decode cX0_nestedByTrying 22 = .ok (.ireturn, 1) := dk_172 (dk_at dksX0_nestedByTrying_0 22 rfl rfl)
abbrev cX0_addCloth : ByteArray := method_25_code
def yX0_addCloth : MethodName := ⟨RX0, "addCloth", "(LCuttingRoom;I[J)I"⟩
def dkwX0_addCloth_0 : List UInt8 := [44, 3, 42, 27, 182, 0, 96, 133, 80, 167, 0, 6, 78, 4, 172, 3, 172]
abbrev dktX0_addCloth_0 : List UInt8 := dkwX0_addCloth_0 ++ []
theorem dksX0_addCloth_0 : cX0_addCloth.data.toList.drop 0 = dktX0_addCloth_0 := by decide +kernel
theorem dX0_addCloth_0 : decode cX0_addCloth 0 = .ok (.aload_n 2, 1) := dk_44 (dk_at dksX0_addCloth_0 0 rfl rfl)
theorem dX0_addCloth_1 : decode cX0_addCloth 1 = .ok (.iconst 0, 1) := dk_3 (dk_at dksX0_addCloth_0 1 rfl rfl)
theorem dX0_addCloth_2 : decode cX0_addCloth 2 = .ok (.aload_n 0, 1) := dk_42 (dk_at dksX0_addCloth_0 2 rfl rfl)
theorem dX0_addCloth_3 : decode cX0_addCloth 3 = .ok (.iload_n 1, 1) := dk_27 (dk_at dksX0_addCloth_0 3 rfl rfl)
theorem dX0_addCloth_4 : decode cX0_addCloth 4 = .ok (.invokevirtual 96, 3) := dk_182 0 96 (dk_at dksX0_addCloth_0 4 rfl rfl)
theorem dX0_addCloth_7 : decode cX0_addCloth 7 = .ok (.i2l, 1) := dk_133 (dk_at dksX0_addCloth_0 7 rfl rfl)
theorem dX0_addCloth_8 : decode cX0_addCloth 8 = .ok (.lastore, 1) := dk_80 (dk_at dksX0_addCloth_0 8 rfl rfl)
theorem dX0_addCloth_9 : decode cX0_addCloth 9 = .ok (.goto 6, 3) := dk_167 0 6 (dk_at dksX0_addCloth_0 9 rfl rfl)
theorem dX0_addCloth_12 : decode cX0_addCloth 12 = .ok (.astore_n 3, 1) := dk_78 (dk_at dksX0_addCloth_0 12 rfl rfl)
theorem dX0_addCloth_13 : decode cX0_addCloth 13 = .ok (.iconst 1, 1) := dk_4 (dk_at dksX0_addCloth_0 13 rfl rfl)
theorem dX0_addCloth_14 : decode cX0_addCloth 14 = .ok (.ireturn, 1) := dk_172 (dk_at dksX0_addCloth_0 14 rfl rfl)
theorem dX0_addCloth_15 : decode cX0_addCloth 15 = .ok (.iconst 0, 1) := dk_3 (dk_at dksX0_addCloth_0 15 rfl rfl)
theorem dX0_addCloth_16 : decode cX0_addCloth 16 = .ok (.ireturn, 1) := dk_172 (dk_at dksX0_addCloth_0 16 rfl rfl)
abbrev cX0_spread : ByteArray := method_26_code
def yX0_spread : MethodName := ⟨RX0, "spread", "(LCuttingRoom;I[J)I"⟩
def dkwX0_spread_0 : List UInt8 := [44, 3, 42, 27, 182, 0, 99, 133, 80, 167, 0, 12, 78, 4, 172, 78, 5, 172, 78, 6, 172, 3, 172]
abbrev dktX0_spread_0 : List UInt8 := dkwX0_spread_0 ++ []
theorem dksX0_spread_0 : cX0_spread.data.toList.drop 0 = dktX0_spread_0 := by decide +kernel
theorem dX0_spread_0 : decode cX0_spread 0 = .ok (.aload_n 2, 1) := dk_44 (dk_at dksX0_spread_0 0 rfl rfl)
theorem dX0_spread_1 : decode cX0_spread 1 = .ok (.iconst 0, 1) := dk_3 (dk_at dksX0_spread_0 1 rfl rfl)
theorem dX0_spread_2 : decode cX0_spread 2 = .ok (.aload_n 0, 1) := dk_42 (dk_at dksX0_spread_0 2 rfl rfl)
theorem dX0_spread_3 : decode cX0_spread 3 = .ok (.iload_n 1, 1) := dk_27 (dk_at dksX0_spread_0 3 rfl rfl)
theorem dX0_spread_4 : decode cX0_spread 4 = .ok (.invokevirtual 99, 3) := dk_182 0 99 (dk_at dksX0_spread_0 4 rfl rfl)
theorem dX0_spread_7 : decode cX0_spread 7 = .ok (.i2l, 1) := dk_133 (dk_at dksX0_spread_0 7 rfl rfl)
theorem dX0_spread_8 : decode cX0_spread 8 = .ok (.lastore, 1) := dk_80 (dk_at dksX0_spread_0 8 rfl rfl)
theorem dX0_spread_9 : decode cX0_spread 9 = .ok (.goto 12, 3) := dk_167 0 12 (dk_at dksX0_spread_0 9 rfl rfl)
theorem dX0_spread_12 : decode cX0_spread 12 = .ok (.astore_n 3, 1) := dk_78 (dk_at dksX0_spread_0 12 rfl rfl)
theorem dX0_spread_13 : decode cX0_spread 13 = .ok (.iconst 1, 1) := dk_4 (dk_at dksX0_spread_0 13 rfl rfl)
theorem dX0_spread_14 : decode cX0_spread 14 = .ok (.ireturn, 1) := dk_172 (dk_at dksX0_spread_0 14 rfl rfl)
theorem dX0_spread_15 : decode cX0_spread 15 = .ok (.astore_n 3, 1) := dk_78 (dk_at dksX0_spread_0 15 rfl rfl)
theorem dX0_spread_16 : decode cX0_spread 16 = .ok (.iconst 2, 1) := dk_5 (dk_at dksX0_spread_0 16 rfl rfl)
theorem dX0_spread_17 : decode cX0_spread 17 = .ok (.ireturn, 1) := dk_172 (dk_at dksX0_spread_0 17 rfl rfl)
theorem dX0_spread_18 : decode cX0_spread 18 = .ok (.astore_n 3, 1) := dk_78 (dk_at dksX0_spread_0 18 rfl rfl)
theorem dX0_spread_19 : decode cX0_spread 19 = .ok (.iconst 3, 1) := dk_6 (dk_at dksX0_spread_0 19 rfl rfl)
theorem dX0_spread_20 : decode cX0_spread 20 = .ok (.ireturn, 1) := dk_172 (dk_at dksX0_spread_0 20 rfl rfl)
theorem dX0_spread_21 : decode cX0_spread 21 = .ok (.iconst 0, 1) := dk_3 (dk_at dksX0_spread_0 21 rfl rfl)
theorem dX0_spread_22 : decode cX0_spread 22 = .ok (.ireturn, 1) := dk_172 (dk_at dksX0_spread_0 22 rfl rfl)
abbrev cX0_pieces : ByteArray := method_27_code
def yX0_pieces : MethodName := ⟨RX0, "pieces", "(LCuttingRoom;IZ[J)I"⟩
def dkwX0_pieces_0 : List UInt8 := [45, 3, 42, 27, 28, 182, 0, 102, 133, 80, 167, 0, 11, 58, 4, 4, 172, 58, 4, 5, 172, 3, 172]
abbrev dktX0_pieces_0 : List UInt8 := dkwX0_pieces_0 ++ []
theorem dksX0_pieces_0 : cX0_pieces.data.toList.drop 0 = dktX0_pieces_0 := by decide +kernel
theorem dX0_pieces_0 : decode cX0_pieces 0 = .ok (.aload_n 3, 1) := dk_45 (dk_at dksX0_pieces_0 0 rfl rfl)
theorem dX0_pieces_1 : decode cX0_pieces 1 = .ok (.iconst 0, 1) := dk_3 (dk_at dksX0_pieces_0 1 rfl rfl)
theorem dX0_pieces_2 : decode cX0_pieces 2 = .ok (.aload_n 0, 1) := dk_42 (dk_at dksX0_pieces_0 2 rfl rfl)
theorem dX0_pieces_3 : decode cX0_pieces 3 = .ok (.iload_n 1, 1) := dk_27 (dk_at dksX0_pieces_0 3 rfl rfl)
theorem dX0_pieces_4 : decode cX0_pieces 4 = .ok (.iload_n 2, 1) := dk_28 (dk_at dksX0_pieces_0 4 rfl rfl)
theorem dX0_pieces_5 : decode cX0_pieces 5 = .ok (.invokevirtual 102, 3) := dk_182 0 102 (dk_at dksX0_pieces_0 5 rfl rfl)
theorem dX0_pieces_8 : decode cX0_pieces 8 = .ok (.i2l, 1) := dk_133 (dk_at dksX0_pieces_0 8 rfl rfl)
theorem dX0_pieces_9 : decode cX0_pieces 9 = .ok (.lastore, 1) := dk_80 (dk_at dksX0_pieces_0 9 rfl rfl)
theorem dX0_pieces_10 : decode cX0_pieces 10 = .ok (.goto 11, 3) := dk_167 0 11 (dk_at dksX0_pieces_0 10 rfl rfl)
theorem dX0_pieces_13 : decode cX0_pieces 13 = .ok (.astore 4, 2) := dk_58 4 (dk_at dksX0_pieces_0 13 rfl rfl)
theorem dX0_pieces_15 : decode cX0_pieces 15 = .ok (.iconst 1, 1) := dk_4 (dk_at dksX0_pieces_0 15 rfl rfl)
theorem dX0_pieces_16 : decode cX0_pieces 16 = .ok (.ireturn, 1) := dk_172 (dk_at dksX0_pieces_0 16 rfl rfl)
theorem dX0_pieces_17 : decode cX0_pieces 17 = .ok (.astore 4, 2) := dk_58 4 (dk_at dksX0_pieces_0 17 rfl rfl)
theorem dX0_pieces_19 : decode cX0_pieces 19 = .ok (.iconst 2, 1) := dk_5 (dk_at dksX0_pieces_0 19 rfl rfl)
theorem dX0_pieces_20 : decode cX0_pieces 20 = .ok (.ireturn, 1) := dk_172 (dk_at dksX0_pieces_0 20 rfl rfl)
theorem dX0_pieces_21 : decode cX0_pieces 21 = .ok (.iconst 0, 1) := dk_3 (dk_at dksX0_pieces_0 21 rfl rfl)
theorem dX0_pieces_22 : decode cX0_pieces 22 = .ok (.ireturn, 1) := dk_172 (dk_at dksX0_pieces_0 22 rfl rfl)
abbrev cX0_canMake : ByteArray := method_28_code
def yX0_canMake : MethodName := ⟨RX0, "canMake", "(LCuttingRoom;I[J)I"⟩
def dkwX0_canMake_0 : List UInt8 := [44, 3, 42, 27, 182, 0, 105, 133, 80, 167, 0, 9, 78, 4, 172, 78, 5, 172, 3, 172]
abbrev dktX0_canMake_0 : List UInt8 := dkwX0_canMake_0 ++ []
theorem dksX0_canMake_0 : cX0_canMake.data.toList.drop 0 = dktX0_canMake_0 := by decide +kernel
theorem dX0_canMake_0 : decode cX0_canMake 0 = .ok (.aload_n 2, 1) := dk_44 (dk_at dksX0_canMake_0 0 rfl rfl)
theorem dX0_canMake_1 : decode cX0_canMake 1 = .ok (.iconst 0, 1) := dk_3 (dk_at dksX0_canMake_0 1 rfl rfl)
theorem dX0_canMake_2 : decode cX0_canMake 2 = .ok (.aload_n 0, 1) := dk_42 (dk_at dksX0_canMake_0 2 rfl rfl)
theorem dX0_canMake_3 : decode cX0_canMake 3 = .ok (.iload_n 1, 1) := dk_27 (dk_at dksX0_canMake_0 3 rfl rfl)
theorem dX0_canMake_4 : decode cX0_canMake 4 = .ok (.invokevirtual 105, 3) := dk_182 0 105 (dk_at dksX0_canMake_0 4 rfl rfl)
theorem dX0_canMake_7 : decode cX0_canMake 7 = .ok (.i2l, 1) := dk_133 (dk_at dksX0_canMake_0 7 rfl rfl)
theorem dX0_canMake_8 : decode cX0_canMake 8 = .ok (.lastore, 1) := dk_80 (dk_at dksX0_canMake_0 8 rfl rfl)
theorem dX0_canMake_9 : decode cX0_canMake 9 = .ok (.goto 9, 3) := dk_167 0 9 (dk_at dksX0_canMake_0 9 rfl rfl)
theorem dX0_canMake_12 : decode cX0_canMake 12 = .ok (.astore_n 3, 1) := dk_78 (dk_at dksX0_canMake_0 12 rfl rfl)
theorem dX0_canMake_13 : decode cX0_canMake 13 = .ok (.iconst 1, 1) := dk_4 (dk_at dksX0_canMake_0 13 rfl rfl)
theorem dX0_canMake_14 : decode cX0_canMake 14 = .ok (.ireturn, 1) := dk_172 (dk_at dksX0_canMake_0 14 rfl rfl)
theorem dX0_canMake_15 : decode cX0_canMake 15 = .ok (.astore_n 3, 1) := dk_78 (dk_at dksX0_canMake_0 15 rfl rfl)
theorem dX0_canMake_16 : decode cX0_canMake 16 = .ok (.iconst 2, 1) := dk_5 (dk_at dksX0_canMake_0 16 rfl rfl)
theorem dX0_canMake_17 : decode cX0_canMake 17 = .ok (.ireturn, 1) := dk_172 (dk_at dksX0_canMake_0 17 rfl rfl)
theorem dX0_canMake_18 : decode cX0_canMake 18 = .ok (.iconst 0, 1) := dk_3 (dk_at dksX0_canMake_0 18 rfl rfl)
theorem dX0_canMake_19 : decode cX0_canMake 19 = .ok (.ireturn, 1) := dk_172 (dk_at dksX0_canMake_0 19 rfl rfl)
abbrev cX0_canMakeByTaking : ByteArray := method_29_code
def yX0_canMakeByTaking : MethodName := ⟨RX0, "canMakeByTaking", "(LCuttingRoom;I[J)I"⟩
def dkwX0_canMakeByTaking_0 : List UInt8 := [44, 3, 42, 27, 182, 0, 108, 133, 80, 167, 0, 9, 78, 4, 172, 78, 5, 172, 3, 172]
abbrev dktX0_canMakeByTaking_0 : List UInt8 := dkwX0_canMakeByTaking_0 ++ []
theorem dksX0_canMakeByTaking_0 : cX0_canMakeByTaking.data.toList.drop 0 = dktX0_canMakeByTaking_0 := by decide +kernel
theorem dX0_canMakeByTaking_0 : decode cX0_canMakeByTaking 0 = .ok (.aload_n 2, 1) := dk_44 (dk_at dksX0_canMakeByTaking_0 0 rfl rfl)
theorem dX0_canMakeByTaking_1 : decode cX0_canMakeByTaking 1 = .ok (.iconst 0, 1) := dk_3 (dk_at dksX0_canMakeByTaking_0 1 rfl rfl)
theorem dX0_canMakeByTaking_2 : decode cX0_canMakeByTaking 2 = .ok (.aload_n 0, 1) := dk_42 (dk_at dksX0_canMakeByTaking_0 2 rfl rfl)
theorem dX0_canMakeByTaking_3 : decode cX0_canMakeByTaking 3 = .ok (.iload_n 1, 1) := dk_27 (dk_at dksX0_canMakeByTaking_0 3 rfl rfl)
theorem dX0_canMakeByTaking_4 : decode cX0_canMakeByTaking 4 = .ok (.invokevirtual 108, 3) := dk_182 0 108 (dk_at dksX0_canMakeByTaking_0 4 rfl rfl)
theorem dX0_canMakeByTaking_7 : decode cX0_canMakeByTaking 7 = .ok (.i2l, 1) := dk_133 (dk_at dksX0_canMakeByTaking_0 7 rfl rfl)
theorem dX0_canMakeByTaking_8 : decode cX0_canMakeByTaking 8 = .ok (.lastore, 1) := dk_80 (dk_at dksX0_canMakeByTaking_0 8 rfl rfl)
theorem dX0_canMakeByTaking_9 : decode cX0_canMakeByTaking 9 = .ok (.goto 9, 3) := dk_167 0 9 (dk_at dksX0_canMakeByTaking_0 9 rfl rfl)
theorem dX0_canMakeByTaking_12 : decode cX0_canMakeByTaking 12 = .ok (.astore_n 3, 1) := dk_78 (dk_at dksX0_canMakeByTaking_0 12 rfl rfl)
theorem dX0_canMakeByTaking_13 : decode cX0_canMakeByTaking 13 = .ok (.iconst 1, 1) := dk_4 (dk_at dksX0_canMakeByTaking_0 13 rfl rfl)
theorem dX0_canMakeByTaking_14 : decode cX0_canMakeByTaking 14 = .ok (.ireturn, 1) := dk_172 (dk_at dksX0_canMakeByTaking_0 14 rfl rfl)
theorem dX0_canMakeByTaking_15 : decode cX0_canMakeByTaking 15 = .ok (.astore_n 3, 1) := dk_78 (dk_at dksX0_canMakeByTaking_0 15 rfl rfl)
theorem dX0_canMakeByTaking_16 : decode cX0_canMakeByTaking 16 = .ok (.iconst 2, 1) := dk_5 (dk_at dksX0_canMakeByTaking_0 16 rfl rfl)
theorem dX0_canMakeByTaking_17 : decode cX0_canMakeByTaking 17 = .ok (.ireturn, 1) := dk_172 (dk_at dksX0_canMakeByTaking_0 17 rfl rfl)
theorem dX0_canMakeByTaking_18 : decode cX0_canMakeByTaking 18 = .ok (.iconst 0, 1) := dk_3 (dk_at dksX0_canMakeByTaking_0 18 rfl rfl)
theorem dX0_canMakeByTaking_19 : decode cX0_canMakeByTaking 19 = .ok (.ireturn, 1) := dk_172 (dk_at dksX0_canMakeByTaking_0 19 rfl rfl)
abbrev cX0_make : ByteArray := method_30_code
def yX0_make : MethodName := ⟨RX0, "make", "(LCuttingRoom;II[J)I"⟩
def dkwX0_make_1 : List UInt8 := [172, 58, 4, 7, 172, 3, 172]
abbrev dktX0_make_1 : List UInt8 := dkwX0_make_1 ++ []
def dkwX0_make_0 : List UInt8 := [45, 3, 42, 27, 28, 182, 0, 111, 133, 80, 167, 0, 19, 58, 4, 4, 172, 58, 4, 5, 172, 58, 4, 6]
abbrev dktX0_make_0 : List UInt8 := dkwX0_make_0 ++ dktX0_make_1
theorem dksX0_make_0 : cX0_make.data.toList.drop 0 = dktX0_make_0 := by decide +kernel
theorem dksX0_make_1 : cX0_make.data.toList.drop 24 = dktX0_make_1 := dk_seg dksX0_make_0 24 rfl rfl
theorem dX0_make_0 : decode cX0_make 0 = .ok (.aload_n 3, 1) := dk_45 (dk_at dksX0_make_0 0 rfl rfl)
theorem dX0_make_1 : decode cX0_make 1 = .ok (.iconst 0, 1) := dk_3 (dk_at dksX0_make_0 1 rfl rfl)
theorem dX0_make_2 : decode cX0_make 2 = .ok (.aload_n 0, 1) := dk_42 (dk_at dksX0_make_0 2 rfl rfl)
theorem dX0_make_3 : decode cX0_make 3 = .ok (.iload_n 1, 1) := dk_27 (dk_at dksX0_make_0 3 rfl rfl)
theorem dX0_make_4 : decode cX0_make 4 = .ok (.iload_n 2, 1) := dk_28 (dk_at dksX0_make_0 4 rfl rfl)
theorem dX0_make_5 : decode cX0_make 5 = .ok (.invokevirtual 111, 3) := dk_182 0 111 (dk_at dksX0_make_0 5 rfl rfl)
theorem dX0_make_8 : decode cX0_make 8 = .ok (.i2l, 1) := dk_133 (dk_at dksX0_make_0 8 rfl rfl)
theorem dX0_make_9 : decode cX0_make 9 = .ok (.lastore, 1) := dk_80 (dk_at dksX0_make_0 9 rfl rfl)
theorem dX0_make_10 : decode cX0_make 10 = .ok (.goto 19, 3) := dk_167 0 19 (dk_at dksX0_make_0 10 rfl rfl)
theorem dX0_make_13 : decode cX0_make 13 = .ok (.astore 4, 2) := dk_58 4 (dk_at dksX0_make_0 13 rfl rfl)
theorem dX0_make_15 : decode cX0_make 15 = .ok (.iconst 1, 1) := dk_4 (dk_at dksX0_make_0 15 rfl rfl)
theorem dX0_make_16 : decode cX0_make 16 = .ok (.ireturn, 1) := dk_172 (dk_at dksX0_make_0 16 rfl rfl)
theorem dX0_make_17 : decode cX0_make 17 = .ok (.astore 4, 2) := dk_58 4 (dk_at dksX0_make_0 17 rfl rfl)
theorem dX0_make_19 : decode cX0_make 19 = .ok (.iconst 2, 1) := dk_5 (dk_at dksX0_make_0 19 rfl rfl)
theorem dX0_make_20 : decode cX0_make 20 = .ok (.ireturn, 1) := dk_172 (dk_at dksX0_make_0 20 rfl rfl)
theorem dX0_make_21 : decode cX0_make 21 = .ok (.astore 4, 2) := dk_58 4 (dk_at dksX0_make_0 21 rfl rfl)
theorem dX0_make_23 : decode cX0_make 23 = .ok (.iconst 3, 1) := dk_6 (dk_at dksX0_make_0 23 rfl rfl)
theorem dX0_make_24 : decode cX0_make 24 = .ok (.ireturn, 1) := dk_172 (dk_at dksX0_make_1 0 rfl rfl)
theorem dX0_make_25 : decode cX0_make 25 = .ok (.astore 4, 2) := dk_58 4 (dk_at dksX0_make_1 1 rfl rfl)
theorem dX0_make_27 : decode cX0_make 27 = .ok (.iconst 4, 1) := dk_7 (dk_at dksX0_make_1 3 rfl rfl)
theorem dX0_make_28 : decode cX0_make 28 = .ok (.ireturn, 1) := dk_172 (dk_at dksX0_make_1 4 rfl rfl)
theorem dX0_make_29 : decode cX0_make 29 = .ok (.iconst 0, 1) := dk_3 (dk_at dksX0_make_1 5 rfl rfl)
theorem dX0_make_30 : decode cX0_make 30 = .ok (.ireturn, 1) := dk_172 (dk_at dksX0_make_1 6 rfl rfl)
abbrev cX0_made : ByteArray := method_31_code
def yX0_made : MethodName := ⟨RX0, "made", "(LCuttingRoom;I[J)I"⟩
def dkwX0_made_0 : List UInt8 := [44, 3, 42, 27, 182, 0, 114, 133, 80, 167, 0, 6, 78, 4, 172, 3, 172]
abbrev dktX0_made_0 : List UInt8 := dkwX0_made_0 ++ []
theorem dksX0_made_0 : cX0_made.data.toList.drop 0 = dktX0_made_0 := by decide +kernel
theorem dX0_made_0 : decode cX0_made 0 = .ok (.aload_n 2, 1) := dk_44 (dk_at dksX0_made_0 0 rfl rfl)
theorem dX0_made_1 : decode cX0_made 1 = .ok (.iconst 0, 1) := dk_3 (dk_at dksX0_made_0 1 rfl rfl)
theorem dX0_made_2 : decode cX0_made 2 = .ok (.aload_n 0, 1) := dk_42 (dk_at dksX0_made_0 2 rfl rfl)
theorem dX0_made_3 : decode cX0_made 3 = .ok (.iload_n 1, 1) := dk_27 (dk_at dksX0_made_0 3 rfl rfl)
theorem dX0_made_4 : decode cX0_made 4 = .ok (.invokevirtual 114, 3) := dk_182 0 114 (dk_at dksX0_made_0 4 rfl rfl)
theorem dX0_made_7 : decode cX0_made 7 = .ok (.i2l, 1) := dk_133 (dk_at dksX0_made_0 7 rfl rfl)
theorem dX0_made_8 : decode cX0_made 8 = .ok (.lastore, 1) := dk_80 (dk_at dksX0_made_0 8 rfl rfl)
theorem dX0_made_9 : decode cX0_made 9 = .ok (.goto 6, 3) := dk_167 0 6 (dk_at dksX0_made_0 9 rfl rfl)
theorem dX0_made_12 : decode cX0_made 12 = .ok (.astore_n 3, 1) := dk_78 (dk_at dksX0_made_0 12 rfl rfl)
theorem dX0_made_13 : decode cX0_made 13 = .ok (.iconst 1, 1) := dk_4 (dk_at dksX0_made_0 13 rfl rfl)
theorem dX0_made_14 : decode cX0_made 14 = .ok (.ireturn, 1) := dk_172 (dk_at dksX0_made_0 14 rfl rfl)
theorem dX0_made_15 : decode cX0_made 15 = .ok (.iconst 0, 1) := dk_3 (dk_at dksX0_made_0 15 rfl rfl)
theorem dX0_made_16 : decode cX0_made 16 = .ok (.ireturn, 1) := dk_172 (dk_at dksX0_made_0 16 rfl rfl)
abbrev cX0_pliesFor : ByteArray := method_32_code
def yX0_pliesFor : MethodName := ⟨RX0, "pliesFor", "(LCuttingRoom;II[J)I"⟩
def dkwX0_pliesFor_1 : List UInt8 := [172, 58, 4, 7, 172, 3, 172]
abbrev dktX0_pliesFor_1 : List UInt8 := dkwX0_pliesFor_1 ++ []
def dkwX0_pliesFor_0 : List UInt8 := [45, 3, 42, 27, 28, 182, 0, 117, 133, 80, 167, 0, 19, 58, 4, 4, 172, 58, 4, 5, 172, 58, 4, 6]
abbrev dktX0_pliesFor_0 : List UInt8 := dkwX0_pliesFor_0 ++ dktX0_pliesFor_1
theorem dksX0_pliesFor_0 : cX0_pliesFor.data.toList.drop 0 = dktX0_pliesFor_0 := by decide +kernel
theorem dksX0_pliesFor_1 : cX0_pliesFor.data.toList.drop 24 = dktX0_pliesFor_1 := dk_seg dksX0_pliesFor_0 24 rfl rfl
theorem dX0_pliesFor_0 : decode cX0_pliesFor 0 = .ok (.aload_n 3, 1) := dk_45 (dk_at dksX0_pliesFor_0 0 rfl rfl)
theorem dX0_pliesFor_1 : decode cX0_pliesFor 1 = .ok (.iconst 0, 1) := dk_3 (dk_at dksX0_pliesFor_0 1 rfl rfl)
theorem dX0_pliesFor_2 : decode cX0_pliesFor 2 = .ok (.aload_n 0, 1) := dk_42 (dk_at dksX0_pliesFor_0 2 rfl rfl)
theorem dX0_pliesFor_3 : decode cX0_pliesFor 3 = .ok (.iload_n 1, 1) := dk_27 (dk_at dksX0_pliesFor_0 3 rfl rfl)
theorem dX0_pliesFor_4 : decode cX0_pliesFor 4 = .ok (.iload_n 2, 1) := dk_28 (dk_at dksX0_pliesFor_0 4 rfl rfl)
theorem dX0_pliesFor_5 : decode cX0_pliesFor 5 = .ok (.invokevirtual 117, 3) := dk_182 0 117 (dk_at dksX0_pliesFor_0 5 rfl rfl)
theorem dX0_pliesFor_8 : decode cX0_pliesFor 8 = .ok (.i2l, 1) := dk_133 (dk_at dksX0_pliesFor_0 8 rfl rfl)
theorem dX0_pliesFor_9 : decode cX0_pliesFor 9 = .ok (.lastore, 1) := dk_80 (dk_at dksX0_pliesFor_0 9 rfl rfl)
theorem dX0_pliesFor_10 : decode cX0_pliesFor 10 = .ok (.goto 19, 3) := dk_167 0 19 (dk_at dksX0_pliesFor_0 10 rfl rfl)
theorem dX0_pliesFor_13 : decode cX0_pliesFor 13 = .ok (.astore 4, 2) := dk_58 4 (dk_at dksX0_pliesFor_0 13 rfl rfl)
theorem dX0_pliesFor_15 : decode cX0_pliesFor 15 = .ok (.iconst 1, 1) := dk_4 (dk_at dksX0_pliesFor_0 15 rfl rfl)
theorem dX0_pliesFor_16 : decode cX0_pliesFor 16 = .ok (.ireturn, 1) := dk_172 (dk_at dksX0_pliesFor_0 16 rfl rfl)
theorem dX0_pliesFor_17 : decode cX0_pliesFor 17 = .ok (.astore 4, 2) := dk_58 4 (dk_at dksX0_pliesFor_0 17 rfl rfl)
theorem dX0_pliesFor_19 : decode cX0_pliesFor 19 = .ok (.iconst 2, 1) := dk_5 (dk_at dksX0_pliesFor_0 19 rfl rfl)
theorem dX0_pliesFor_20 : decode cX0_pliesFor 20 = .ok (.ireturn, 1) := dk_172 (dk_at dksX0_pliesFor_0 20 rfl rfl)
theorem dX0_pliesFor_21 : decode cX0_pliesFor 21 = .ok (.astore 4, 2) := dk_58 4 (dk_at dksX0_pliesFor_0 21 rfl rfl)
theorem dX0_pliesFor_23 : decode cX0_pliesFor 23 = .ok (.iconst 3, 1) := dk_6 (dk_at dksX0_pliesFor_0 23 rfl rfl)
theorem dX0_pliesFor_24 : decode cX0_pliesFor 24 = .ok (.ireturn, 1) := dk_172 (dk_at dksX0_pliesFor_1 0 rfl rfl)
theorem dX0_pliesFor_25 : decode cX0_pliesFor 25 = .ok (.astore 4, 2) := dk_58 4 (dk_at dksX0_pliesFor_1 1 rfl rfl)
theorem dX0_pliesFor_27 : decode cX0_pliesFor 27 = .ok (.iconst 4, 1) := dk_7 (dk_at dksX0_pliesFor_1 3 rfl rfl)
theorem dX0_pliesFor_28 : decode cX0_pliesFor 28 = .ok (.ireturn, 1) := dk_172 (dk_at dksX0_pliesFor_1 4 rfl rfl)
theorem dX0_pliesFor_29 : decode cX0_pliesFor 29 = .ok (.iconst 0, 1) := dk_3 (dk_at dksX0_pliesFor_1 5 rfl rfl)
theorem dX0_pliesFor_30 : decode cX0_pliesFor 30 = .ok (.ireturn, 1) := dk_172 (dk_at dksX0_pliesFor_1 6 rfl rfl)
abbrev cX0_density : ByteArray := method_33_code
def yX0_density : MethodName := ⟨RX0, "density", "(LCuttingRoom;[D)I"⟩
def dkwX0_density_0 : List UInt8 := [43, 3, 42, 182, 0, 120, 141, 82, 167, 0, 6, 77, 4, 172, 3, 172]
abbrev dktX0_density_0 : List UInt8 := dkwX0_density_0 ++ []
theorem dksX0_density_0 : cX0_density.data.toList.drop 0 = dktX0_density_0 := by decide +kernel
theorem dX0_density_0 : decode cX0_density 0 = .ok (.aload_n 1, 1) := dk_43 (dk_at dksX0_density_0 0 rfl rfl)
theorem dX0_density_1 : decode cX0_density 1 = .ok (.iconst 0, 1) := dk_3 (dk_at dksX0_density_0 1 rfl rfl)
theorem dX0_density_2 : decode cX0_density 2 = .ok (.aload_n 0, 1) := dk_42 (dk_at dksX0_density_0 2 rfl rfl)
theorem dX0_density_3 : decode cX0_density 3 = .ok (.invokevirtual 120, 3) := dk_182 0 120 (dk_at dksX0_density_0 3 rfl rfl)
theorem dX0_density_6 : decode cX0_density 6 = .ok (.f2d, 1) := dk_141 (dk_at dksX0_density_0 6 rfl rfl)
theorem dX0_density_7 : decode cX0_density 7 = .ok (.dastore, 1) := dk_82 (dk_at dksX0_density_0 7 rfl rfl)
theorem dX0_density_8 : decode cX0_density 8 = .ok (.goto 6, 3) := dk_167 0 6 (dk_at dksX0_density_0 8 rfl rfl)
theorem dX0_density_11 : decode cX0_density 11 = .ok (.astore_n 2, 1) := dk_77 (dk_at dksX0_density_0 11 rfl rfl)
theorem dX0_density_12 : decode cX0_density 12 = .ok (.iconst 1, 1) := dk_4 (dk_at dksX0_density_0 12 rfl rfl)
theorem dX0_density_13 : decode cX0_density 13 = .ok (.ireturn, 1) := dk_172 (dk_at dksX0_density_0 13 rfl rfl)
theorem dX0_density_14 : decode cX0_density 14 = .ok (.iconst 0, 1) := dk_3 (dk_at dksX0_density_0 14 rfl rfl)
theorem dX0_density_15 : decode cX0_density 15 = .ok (.ireturn, 1) := dk_172 (dk_at dksX0_density_0 15 rfl rfl)
abbrev cX0_meanCells : ByteArray := method_34_code
def yX0_meanCells : MethodName := ⟨RX0, "meanCells", "(LCuttingRoom;[D)I"⟩
def dkwX0_meanCells_0 : List UInt8 := [43, 3, 42, 182, 0, 126, 82, 167, 0, 6, 77, 4, 172, 3, 172]
abbrev dktX0_meanCells_0 : List UInt8 := dkwX0_meanCells_0 ++ []
theorem dksX0_meanCells_0 : cX0_meanCells.data.toList.drop 0 = dktX0_meanCells_0 := by decide +kernel
theorem dX0_meanCells_0 : decode cX0_meanCells 0 = .ok (.aload_n 1, 1) := dk_43 (dk_at dksX0_meanCells_0 0 rfl rfl)
theorem dX0_meanCells_1 : decode cX0_meanCells 1 = .ok (.iconst 0, 1) := dk_3 (dk_at dksX0_meanCells_0 1 rfl rfl)
theorem dX0_meanCells_2 : decode cX0_meanCells 2 = .ok (.aload_n 0, 1) := dk_42 (dk_at dksX0_meanCells_0 2 rfl rfl)
theorem dX0_meanCells_3 : decode cX0_meanCells 3 = .ok (.invokevirtual 126, 3) := dk_182 0 126 (dk_at dksX0_meanCells_0 3 rfl rfl)
theorem dX0_meanCells_6 : decode cX0_meanCells 6 = .ok (.dastore, 1) := dk_82 (dk_at dksX0_meanCells_0 6 rfl rfl)
theorem dX0_meanCells_7 : decode cX0_meanCells 7 = .ok (.goto 6, 3) := dk_167 0 6 (dk_at dksX0_meanCells_0 7 rfl rfl)
theorem dX0_meanCells_10 : decode cX0_meanCells 10 = .ok (.astore_n 2, 1) := dk_77 (dk_at dksX0_meanCells_0 10 rfl rfl)
theorem dX0_meanCells_11 : decode cX0_meanCells 11 = .ok (.iconst 1, 1) := dk_4 (dk_at dksX0_meanCells_0 11 rfl rfl)
theorem dX0_meanCells_12 : decode cX0_meanCells 12 = .ok (.ireturn, 1) := dk_172 (dk_at dksX0_meanCells_0 12 rfl rfl)
theorem dX0_meanCells_13 : decode cX0_meanCells 13 = .ok (.iconst 0, 1) := dk_3 (dk_at dksX0_meanCells_0 13 rfl rfl)
theorem dX0_meanCells_14 : decode cX0_meanCells 14 = .ok (.ireturn, 1) := dk_172 (dk_at dksX0_meanCells_0 14 rfl rfl)
theorem q65 : (Jvm.Cond.initialized "CuttingRoomLaw") ∈ lw_all := lw_g (lw_at lw_m1 0 rfl) rfl
theorem q100 : (Jvm.Cond.classLink "CuttingRoomLaw" (8 : Nat) "CuttingRoom") ∈ lw_all := lw_g (lw_at lw_m1 35 rfl) rfl
theorem q102 : (Jvm.Cond.methodLink "CuttingRoomLaw" (130 : Nat) ({ cls := "CuttingRoom", name := "<init>", desc := "()V" } : Jvm.MethodName)) ∈ lw_all := lw_g (lw_at lw_m1 37 rfl) rfl
theorem q368 : (Jvm.Cond.methodLink "CuttingRoomLaw" (151 : Nat) ({ cls := "CuttingRoom", name := "clearFlaws", desc := "()I" } : Jvm.MethodName)) ∈ lw_all := lw_g (lw_at lw_m2 63 rfl) rfl
theorem q372 : (Jvm.Cond.methodLink "CuttingRoomLaw" (185 : Nat) ({ cls := "CuttingRoom", name := "clear", desc := "()I" } : Jvm.MethodName)) ∈ lw_all := lw_g (lw_at lw_m2 67 rfl) rfl
theorem q388 : (Jvm.Cond.methodLink "CuttingRoomLaw" (189 : Nat) ({ cls := "CuttingRoom", name := "inMarker", desc := "()I" } : Jvm.MethodName)) ∈ lw_all := lw_g (lw_at lw_m2 83 rfl) rfl
theorem q392 : (Jvm.Cond.methodLink "CuttingRoomLaw" (208 : Nat) ({ cls := "CuttingRoom", name := "length", desc := "()I" } : Jvm.MethodName)) ∈ lw_all := lw_g (lw_at lw_m2 87 rfl) rfl
theorem q396 : (Jvm.Cond.methodLink "CuttingRoomLaw" (212 : Nat) ({ cls := "CuttingRoom", name := "used", desc := "()I" } : Jvm.MethodName)) ∈ lw_all := lw_g (lw_at lw_m2 91 rfl) rfl
theorem q424 : (Jvm.Cond.methodLink "CuttingRoomLaw" (238 : Nat) ({ cls := "CuttingRoom", name := "roll", desc := "()I" } : Jvm.MethodName)) ∈ lw_all := lw_g (lw_at lw_m2 119 rfl) rfl
theorem q428 : (Jvm.Cond.methodLink "CuttingRoomLaw" (263 : Nat) ({ cls := "CuttingRoom", name := "cut", desc := "()J" } : Jvm.MethodName)) ∈ lw_all := lw_g (lw_at lw_m2 123 rfl) rfl
theorem q432 : (Jvm.Cond.methodLink "CuttingRoomLaw" (275 : Nat) ({ cls := "CuttingRoom", name := "isSound", desc := "()Z" } : Jvm.MethodName)) ∈ lw_all := lw_g (lw_at lw_m2 127 rfl) rfl
theorem q541 : (Jvm.Cond.methodLink "CuttingRoomLaw" (134 : Nat) ({ cls := "CuttingRoomLaw", name := "setCloth", desc := "(LCuttingRoom;IZI[J)I" } : Jvm.MethodName)) ∈ lw_all := lw_g (lw_at lw_m2 236 rfl) rfl
theorem q542 : (Jvm.Cond.static ({ cls := "CuttingRoomLaw", name := "setCloth", desc := "(LCuttingRoom;IZI[J)I" } : Jvm.MethodName)) ∈ lw_all := lw_g (lw_at lw_m2 237 rfl) rfl
theorem q543 : (Jvm.Cond.codeWith ({ cls := "CuttingRoomLaw", name := "setCloth", desc := "(LCuttingRoom;IZI[J)I" } : Jvm.MethodName) method_3_code (6 : Nat) (Option.some Jvm.ClassFile.FieldType.int) [((0 : Nat), (12 : Nat), (15 : Nat), (13 : Nat)), ((0 : Nat), (12 : Nat), (19 : Nat), (15 : Nat))]) ∈ lw_all := lw_g (lw_at lw_m2 238 rfl) rfl
theorem q544 : (Jvm.Cond.classLink "CuttingRoomLaw" (13 : Nat) "java/lang/IllegalArgumentException") ∈ lw_all := lw_g (lw_at lw_m2 239 rfl) rfl
theorem q545 : (Jvm.Cond.classLink "CuttingRoomLaw" (15 : Nat) "java/lang/IllegalStateException") ∈ lw_all := lw_g (lw_at lw_m3 0 rfl) rfl
theorem q546 : (Jvm.Cond.methodLink "CuttingRoomLaw" (7 : Nat) ({ cls := "CuttingRoom", name := "setCloth", desc := "(IZI)I" } : Jvm.MethodName)) ∈ lw_all := lw_g (lw_at lw_m3 1 rfl) rfl
theorem q595 : (Jvm.Cond.methodLink "CuttingRoomLaw" (143 : Nat) ({ cls := "CuttingRoomLaw", name := "fold", desc := "(LCuttingRoom;Z[J)I" } : Jvm.MethodName)) ∈ lw_all := lw_g (lw_at lw_m3 50 rfl) rfl
theorem q596 : (Jvm.Cond.static ({ cls := "CuttingRoomLaw", name := "fold", desc := "(LCuttingRoom;Z[J)I" } : Jvm.MethodName)) ∈ lw_all := lw_g (lw_at lw_m3 51 rfl) rfl
theorem q597 : (Jvm.Cond.codeWith ({ cls := "CuttingRoomLaw", name := "fold", desc := "(LCuttingRoom;Z[J)I" } : Jvm.MethodName) method_4_code (4 : Nat) (Option.some Jvm.ClassFile.FieldType.int) [((0 : Nat), (16 : Nat), (19 : Nat), (15 : Nat))]) ∈ lw_all := lw_g (lw_at lw_m3 52 rfl) rfl
theorem q598 : (Jvm.Cond.methodLink "CuttingRoomLaw" (17 : Nat) ({ cls := "CuttingRoom", name := "fold", desc := "(Z)Z" } : Jvm.MethodName)) ∈ lw_all := lw_g (lw_at lw_m3 53 rfl) rfl
theorem q602 : (Jvm.Cond.methodLink "CuttingRoomLaw" (147 : Nat) ({ cls := "CuttingRoomLaw", name := "addFlaw", desc := "(LCuttingRoom;II[J)I" } : Jvm.MethodName)) ∈ lw_all := lw_g (lw_at lw_m3 57 rfl) rfl
theorem q603 : (Jvm.Cond.static ({ cls := "CuttingRoomLaw", name := "addFlaw", desc := "(LCuttingRoom;II[J)I" } : Jvm.MethodName)) ∈ lw_all := lw_g (lw_at lw_m3 58 rfl) rfl
theorem q604 : (Jvm.Cond.codeWith ({ cls := "CuttingRoomLaw", name := "addFlaw", desc := "(LCuttingRoom;II[J)I" } : Jvm.MethodName) method_5_code (5 : Nat) (Option.some Jvm.ClassFile.FieldType.int) [((0 : Nat), (10 : Nat), (13 : Nat), (13 : Nat)), ((0 : Nat), (10 : Nat), (17 : Nat), (25 : Nat)), ((0 : Nat), (10 : Nat), (21 : Nat), (15 : Nat))]) ∈ lw_all := lw_g (lw_at lw_m3 59 rfl) rfl
theorem q605 : (Jvm.Cond.classLink "CuttingRoomLaw" (25 : Nat) "java/lang/UnsupportedOperationException") ∈ lw_all := lw_g (lw_at lw_m3 60 rfl) rfl
theorem q606 : (Jvm.Cond.methodLink "CuttingRoomLaw" (21 : Nat) ({ cls := "CuttingRoom", name := "addFlaw", desc := "(II)I" } : Jvm.MethodName)) ∈ lw_all := lw_g (lw_at lw_m3 61 rfl) rfl
theorem q628 : (Jvm.Cond.methodLink "CuttingRoomLaw" (155 : Nat) ({ cls := "CuttingRoomLaw", name := "addShape", desc := "(LCuttingRoom;CZ[J)I" } : Jvm.MethodName)) ∈ lw_all := lw_g (lw_at lw_m3 83 rfl) rfl
theorem q629 : (Jvm.Cond.static ({ cls := "CuttingRoomLaw", name := "addShape", desc := "(LCuttingRoom;CZ[J)I" } : Jvm.MethodName)) ∈ lw_all := lw_g (lw_at lw_m3 84 rfl) rfl
theorem q630 : (Jvm.Cond.codeWith ({ cls := "CuttingRoomLaw", name := "addShape", desc := "(LCuttingRoom;CZ[J)I" } : Jvm.MethodName) method_6_code (5 : Nat) (Option.some Jvm.ClassFile.FieldType.int) [((0 : Nat), (10 : Nat), (13 : Nat), (13 : Nat)), ((0 : Nat), (10 : Nat), (17 : Nat), (15 : Nat))]) ∈ lw_all := lw_g (lw_at lw_m3 85 rfl) rfl
theorem q631 : (Jvm.Cond.methodLink "CuttingRoomLaw" (27 : Nat) ({ cls := "CuttingRoom", name := "addShape", desc := "(CZ)I" } : Jvm.MethodName)) ∈ lw_all := lw_g (lw_at lw_m3 86 rfl) rfl
theorem q817 : (Jvm.Cond.methodLink "CuttingRoomLaw" (159 : Nat) ({ cls := "CuttingRoomLaw", name := "addCell", desc := "(LCuttingRoom;III[J)I" } : Jvm.MethodName)) ∈ lw_all := lw_g (lw_at lw_m4 32 rfl) rfl
theorem q818 : (Jvm.Cond.static ({ cls := "CuttingRoomLaw", name := "addCell", desc := "(LCuttingRoom;III[J)I" } : Jvm.MethodName)) ∈ lw_all := lw_g (lw_at lw_m4 33 rfl) rfl
theorem q819 : (Jvm.Cond.codeWith ({ cls := "CuttingRoomLaw", name := "addCell", desc := "(LCuttingRoom;III[J)I" } : Jvm.MethodName) method_7_code (6 : Nat) (Option.some Jvm.ClassFile.FieldType.int) [((0 : Nat), (12 : Nat), (15 : Nat), (35 : Nat)), ((0 : Nat), (12 : Nat), (19 : Nat), (13 : Nat)), ((0 : Nat), (12 : Nat), (23 : Nat), (25 : Nat)), ((0 : Nat), (12 : Nat), (27 : Nat), (15 : Nat))]) ∈ lw_all := lw_g (lw_at lw_m4 34 rfl) rfl
theorem q820 : (Jvm.Cond.classLink "CuttingRoomLaw" (35 : Nat) "java/lang/IndexOutOfBoundsException") ∈ lw_all := lw_g (lw_at lw_m4 35 rfl) rfl
theorem q853 : (Jvm.Cond.methodLink "CuttingRoomLaw" (31 : Nat) ({ cls := "CuttingRoom", name := "addCell", desc := "(III)I" } : Jvm.MethodName)) ∈ lw_all := lw_g (lw_at lw_m4 68 rfl) rfl
theorem q901 : (Jvm.Cond.methodLink "CuttingRoomLaw" (163 : Nat) ({ cls := "CuttingRoomLaw", name := "setMark", desc := "(LCuttingRoom;IIII[J)I" } : Jvm.MethodName)) ∈ lw_all := lw_g (lw_at lw_m4 116 rfl) rfl
theorem q902 : (Jvm.Cond.static ({ cls := "CuttingRoomLaw", name := "setMark", desc := "(LCuttingRoom;IIII[J)I" } : Jvm.MethodName)) ∈ lw_all := lw_g (lw_at lw_m4 117 rfl) rfl
theorem q903 : (Jvm.Cond.codeWith ({ cls := "CuttingRoomLaw", name := "setMark", desc := "(LCuttingRoom;IIII[J)I" } : Jvm.MethodName) method_8_code (7 : Nat) (Option.some Jvm.ClassFile.FieldType.int) [((0 : Nat), (14 : Nat), (17 : Nat), (35 : Nat)), ((0 : Nat), (14 : Nat), (21 : Nat), (13 : Nat)), ((0 : Nat), (14 : Nat), (25 : Nat), (15 : Nat))]) ∈ lw_all := lw_g (lw_at lw_m4 118 rfl) rfl
theorem q904 : (Jvm.Cond.methodLink "CuttingRoomLaw" (37 : Nat) ({ cls := "CuttingRoom", name := "setMark", desc := "(IIII)I" } : Jvm.MethodName)) ∈ lw_all := lw_g (lw_at lw_m4 119 rfl) rfl
theorem q908 : (Jvm.Cond.methodLink "CuttingRoomLaw" (167 : Nat) ({ cls := "CuttingRoomLaw", name := "cellsOf", desc := "(LCuttingRoom;I[J)I" } : Jvm.MethodName)) ∈ lw_all := lw_g (lw_at lw_m4 123 rfl) rfl
theorem q909 : (Jvm.Cond.static ({ cls := "CuttingRoomLaw", name := "cellsOf", desc := "(LCuttingRoom;I[J)I" } : Jvm.MethodName)) ∈ lw_all := lw_g (lw_at lw_m4 124 rfl) rfl
theorem q910 : (Jvm.Cond.codeWith ({ cls := "CuttingRoomLaw", name := "cellsOf", desc := "(LCuttingRoom;I[J)I" } : Jvm.MethodName) method_9_code (4 : Nat) (Option.some Jvm.ClassFile.FieldType.int) [((0 : Nat), (9 : Nat), (12 : Nat), (35 : Nat))]) ∈ lw_all := lw_g (lw_at lw_m4 125 rfl) rfl
theorem q911 : (Jvm.Cond.methodLink "CuttingRoomLaw" (41 : Nat) ({ cls := "CuttingRoom", name := "cellsOf", desc := "(I)I" } : Jvm.MethodName)) ∈ lw_all := lw_g (lw_at lw_m4 126 rfl) rfl
theorem q915 : (Jvm.Cond.methodLink "CuttingRoomLaw" (171 : Nat) ({ cls := "CuttingRoomLaw", name := "lay", desc := "(LCuttingRoom;IIIIZ[J)I" } : Jvm.MethodName)) ∈ lw_all := lw_g (lw_at lw_m4 130 rfl) rfl
theorem q916 : (Jvm.Cond.static ({ cls := "CuttingRoomLaw", name := "lay", desc := "(LCuttingRoom;IIIIZ[J)I" } : Jvm.MethodName)) ∈ lw_all := lw_g (lw_at lw_m4 131 rfl) rfl
theorem q917 : (Jvm.Cond.codeWith ({ cls := "CuttingRoomLaw", name := "lay", desc := "(LCuttingRoom;IIIIZ[J)I" } : Jvm.MethodName) method_10_code (8 : Nat) (Option.some Jvm.ClassFile.FieldType.int) [((0 : Nat), (16 : Nat), (19 : Nat), (35 : Nat)), ((0 : Nat), (16 : Nat), (23 : Nat), (13 : Nat)), ((0 : Nat), (16 : Nat), (27 : Nat), (25 : Nat)), ((0 : Nat), (16 : Nat), (31 : Nat), (15 : Nat))]) ∈ lw_all := lw_g (lw_at lw_m4 132 rfl) rfl
theorem q918 : (Jvm.Cond.methodLink "CuttingRoomLaw" (45 : Nat) ({ cls := "CuttingRoom", name := "lay", desc := "(IIIIZ)I" } : Jvm.MethodName)) ∈ lw_all := lw_g (lw_at lw_m4 133 rfl) rfl
theorem q985 : (Jvm.Cond.methodLink "CuttingRoomLaw" (175 : Nat) ({ cls := "CuttingRoomLaw", name := "reason", desc := "(LCuttingRoom;IIIIZ[J)I" } : Jvm.MethodName)) ∈ lw_all := lw_g (lw_at lw_m4 200 rfl) rfl
theorem q986 : (Jvm.Cond.static ({ cls := "CuttingRoomLaw", name := "reason", desc := "(LCuttingRoom;IIIIZ[J)I" } : Jvm.MethodName)) ∈ lw_all := lw_g (lw_at lw_m4 201 rfl) rfl
theorem q987 : (Jvm.Cond.codeWith ({ cls := "CuttingRoomLaw", name := "reason", desc := "(LCuttingRoom;IIIIZ[J)I" } : Jvm.MethodName) method_11_code (8 : Nat) (Option.some Jvm.ClassFile.FieldType.int) [((0 : Nat), (16 : Nat), (19 : Nat), (35 : Nat)), ((0 : Nat), (16 : Nat), (23 : Nat), (13 : Nat))]) ∈ lw_all := lw_g (lw_at lw_m4 202 rfl) rfl
theorem q988 : (Jvm.Cond.methodLink "CuttingRoomLaw" (49 : Nat) ({ cls := "CuttingRoom", name := "reason", desc := "(IIIIZ)C" } : Jvm.MethodName)) ∈ lw_all := lw_g (lw_at lw_m4 203 rfl) rfl
theorem q992 : (Jvm.Cond.methodLink "CuttingRoomLaw" (178 : Nat) ({ cls := "CuttingRoomLaw", name := "nest", desc := "(LCuttingRoom;IZ[J)I" } : Jvm.MethodName)) ∈ lw_all := lw_g (lw_at lw_m4 207 rfl) rfl
theorem q993 : (Jvm.Cond.static ({ cls := "CuttingRoomLaw", name := "nest", desc := "(LCuttingRoom;IZ[J)I" } : Jvm.MethodName)) ∈ lw_all := lw_g (lw_at lw_m4 208 rfl) rfl
theorem q994 : (Jvm.Cond.codeWith ({ cls := "CuttingRoomLaw", name := "nest", desc := "(LCuttingRoom;IZ[J)I" } : Jvm.MethodName) method_12_code (5 : Nat) (Option.some Jvm.ClassFile.FieldType.int) [((0 : Nat), (10 : Nat), (13 : Nat), (35 : Nat)), ((0 : Nat), (10 : Nat), (17 : Nat), (57 : Nat)), ((0 : Nat), (10 : Nat), (21 : Nat), (15 : Nat))]) ∈ lw_all := lw_g (lw_at lw_m4 209 rfl) rfl
theorem q995 : (Jvm.Cond.classLink "CuttingRoomLaw" (57 : Nat) "java/util/NoSuchElementException") ∈ lw_all := lw_g (lw_at lw_m4 210 rfl) rfl
theorem q996 : (Jvm.Cond.methodLink "CuttingRoomLaw" (53 : Nat) ({ cls := "CuttingRoom", name := "nest", desc := "(IZ)I" } : Jvm.MethodName)) ∈ lw_all := lw_g (lw_at lw_m4 211 rfl) rfl
theorem q1004 : (Jvm.Cond.methodLink "CuttingRoomLaw" (182 : Nat) ({ cls := "CuttingRoomLaw", name := "takeOff", desc := "(LCuttingRoom;I[J)I" } : Jvm.MethodName)) ∈ lw_all := lw_g (lw_at lw_m4 219 rfl) rfl
theorem q1005 : (Jvm.Cond.static ({ cls := "CuttingRoomLaw", name := "takeOff", desc := "(LCuttingRoom;I[J)I" } : Jvm.MethodName)) ∈ lw_all := lw_g (lw_at lw_m4 220 rfl) rfl
theorem q1006 : (Jvm.Cond.codeWith ({ cls := "CuttingRoomLaw", name := "takeOff", desc := "(LCuttingRoom;I[J)I" } : Jvm.MethodName) method_13_code (4 : Nat) (Option.some Jvm.ClassFile.FieldType.int) [((0 : Nat), (9 : Nat), (12 : Nat), (57 : Nat))]) ∈ lw_all := lw_g (lw_at lw_m4 221 rfl) rfl
theorem q1007 : (Jvm.Cond.methodLink "CuttingRoomLaw" (59 : Nat) ({ cls := "CuttingRoom", name := "takeOff", desc := "(I)I" } : Jvm.MethodName)) ∈ lw_all := lw_g (lw_at lw_m4 222 rfl) rfl
theorem q1063 : (Jvm.Cond.methodLink "CuttingRoomLaw" (193 : Nat) ({ cls := "CuttingRoomLaw", name := "rowOf", desc := "(LCuttingRoom;I[J)I" } : Jvm.MethodName)) ∈ lw_all := lw_g (lw_at lw_m5 38 rfl) rfl
theorem q1064 : (Jvm.Cond.static ({ cls := "CuttingRoomLaw", name := "rowOf", desc := "(LCuttingRoom;I[J)I" } : Jvm.MethodName)) ∈ lw_all := lw_g (lw_at lw_m5 39 rfl) rfl
theorem q1065 : (Jvm.Cond.codeWith ({ cls := "CuttingRoomLaw", name := "rowOf", desc := "(LCuttingRoom;I[J)I" } : Jvm.MethodName) method_14_code (4 : Nat) (Option.some Jvm.ClassFile.FieldType.int) [((0 : Nat), (9 : Nat), (12 : Nat), (57 : Nat))]) ∈ lw_all := lw_g (lw_at lw_m5 40 rfl) rfl
theorem q1066 : (Jvm.Cond.methodLink "CuttingRoomLaw" (62 : Nat) ({ cls := "CuttingRoom", name := "rowOf", desc := "(I)I" } : Jvm.MethodName)) ∈ lw_all := lw_g (lw_at lw_m5 41 rfl) rfl
theorem q1070 : (Jvm.Cond.methodLink "CuttingRoomLaw" (196 : Nat) ({ cls := "CuttingRoomLaw", name := "columnOf", desc := "(LCuttingRoom;I[J)I" } : Jvm.MethodName)) ∈ lw_all := lw_g (lw_at lw_m5 45 rfl) rfl
theorem q1071 : (Jvm.Cond.static ({ cls := "CuttingRoomLaw", name := "columnOf", desc := "(LCuttingRoom;I[J)I" } : Jvm.MethodName)) ∈ lw_all := lw_g (lw_at lw_m5 46 rfl) rfl
theorem q1072 : (Jvm.Cond.codeWith ({ cls := "CuttingRoomLaw", name := "columnOf", desc := "(LCuttingRoom;I[J)I" } : Jvm.MethodName) method_15_code (4 : Nat) (Option.some Jvm.ClassFile.FieldType.int) [((0 : Nat), (9 : Nat), (12 : Nat), (57 : Nat))]) ∈ lw_all := lw_g (lw_at lw_m5 47 rfl) rfl
theorem q1073 : (Jvm.Cond.methodLink "CuttingRoomLaw" (65 : Nat) ({ cls := "CuttingRoom", name := "columnOf", desc := "(I)I" } : Jvm.MethodName)) ∈ lw_all := lw_g (lw_at lw_m5 48 rfl) rfl
theorem q1077 : (Jvm.Cond.methodLink "CuttingRoomLaw" (199 : Nat) ({ cls := "CuttingRoomLaw", name := "turnsOf", desc := "(LCuttingRoom;I[J)I" } : Jvm.MethodName)) ∈ lw_all := lw_g (lw_at lw_m5 52 rfl) rfl
theorem q1078 : (Jvm.Cond.static ({ cls := "CuttingRoomLaw", name := "turnsOf", desc := "(LCuttingRoom;I[J)I" } : Jvm.MethodName)) ∈ lw_all := lw_g (lw_at lw_m5 53 rfl) rfl
theorem q1079 : (Jvm.Cond.codeWith ({ cls := "CuttingRoomLaw", name := "turnsOf", desc := "(LCuttingRoom;I[J)I" } : Jvm.MethodName) method_16_code (4 : Nat) (Option.some Jvm.ClassFile.FieldType.int) [((0 : Nat), (9 : Nat), (12 : Nat), (57 : Nat))]) ∈ lw_all := lw_g (lw_at lw_m5 54 rfl) rfl
theorem q1080 : (Jvm.Cond.methodLink "CuttingRoomLaw" (68 : Nat) ({ cls := "CuttingRoom", name := "turnsOf", desc := "(I)I" } : Jvm.MethodName)) ∈ lw_all := lw_g (lw_at lw_m5 55 rfl) rfl
theorem q1084 : (Jvm.Cond.methodLink "CuttingRoomLaw" (202 : Nat) ({ cls := "CuttingRoomLaw", name := "pieceAt", desc := "(LCuttingRoom;II[J)I" } : Jvm.MethodName)) ∈ lw_all := lw_g (lw_at lw_m5 59 rfl) rfl
theorem q1085 : (Jvm.Cond.static ({ cls := "CuttingRoomLaw", name := "pieceAt", desc := "(LCuttingRoom;II[J)I" } : Jvm.MethodName)) ∈ lw_all := lw_g (lw_at lw_m5 60 rfl) rfl
theorem q1086 : (Jvm.Cond.codeWith ({ cls := "CuttingRoomLaw", name := "pieceAt", desc := "(LCuttingRoom;II[J)I" } : Jvm.MethodName) method_17_code (5 : Nat) (Option.some Jvm.ClassFile.FieldType.int) [((0 : Nat), (10 : Nat), (13 : Nat), (13 : Nat)), ((0 : Nat), (10 : Nat), (17 : Nat), (15 : Nat))]) ∈ lw_all := lw_g (lw_at lw_m5 61 rfl) rfl
theorem q1087 : (Jvm.Cond.methodLink "CuttingRoomLaw" (71 : Nat) ({ cls := "CuttingRoom", name := "pieceAt", desc := "(II)I" } : Jvm.MethodName)) ∈ lw_all := lw_g (lw_at lw_m5 62 rfl) rfl
theorem q1094 : (Jvm.Cond.methodLink "CuttingRoomLaw" (205 : Nat) ({ cls := "CuttingRoomLaw", name := "pieceByPieces", desc := "(LCuttingRoom;II[J)I" } : Jvm.MethodName)) ∈ lw_all := lw_g (lw_at lw_m5 69 rfl) rfl
theorem q1095 : (Jvm.Cond.static ({ cls := "CuttingRoomLaw", name := "pieceByPieces", desc := "(LCuttingRoom;II[J)I" } : Jvm.MethodName)) ∈ lw_all := lw_g (lw_at lw_m5 70 rfl) rfl
theorem q1096 : (Jvm.Cond.codeWith ({ cls := "CuttingRoomLaw", name := "pieceByPieces", desc := "(LCuttingRoom;II[J)I" } : Jvm.MethodName) method_18_code (5 : Nat) (Option.some Jvm.ClassFile.FieldType.int) [((0 : Nat), (10 : Nat), (13 : Nat), (13 : Nat)), ((0 : Nat), (10 : Nat), (17 : Nat), (15 : Nat))]) ∈ lw_all := lw_g (lw_at lw_m5 71 rfl) rfl
theorem q1097 : (Jvm.Cond.methodLink "CuttingRoomLaw" (74 : Nat) ({ cls := "CuttingRoom", name := "pieceByPieces", desc := "(II)I" } : Jvm.MethodName)) ∈ lw_all := lw_g (lw_at lw_m5 72 rfl) rfl
theorem q1101 : (Jvm.Cond.methodLink "CuttingRoomLaw" (216 : Nat) ({ cls := "CuttingRoomLaw", name := "phase", desc := "(LCuttingRoom;I[J)I" } : Jvm.MethodName)) ∈ lw_all := lw_g (lw_at lw_m5 76 rfl) rfl
theorem q1102 : (Jvm.Cond.static ({ cls := "CuttingRoomLaw", name := "phase", desc := "(LCuttingRoom;I[J)I" } : Jvm.MethodName)) ∈ lw_all := lw_g (lw_at lw_m5 77 rfl) rfl
theorem q1103 : (Jvm.Cond.codeWith ({ cls := "CuttingRoomLaw", name := "phase", desc := "(LCuttingRoom;I[J)I" } : Jvm.MethodName) method_19_code (4 : Nat) (Option.some Jvm.ClassFile.FieldType.int) [((0 : Nat), (9 : Nat), (12 : Nat), (13 : Nat)), ((0 : Nat), (9 : Nat), (15 : Nat), (15 : Nat))]) ∈ lw_all := lw_g (lw_at lw_m5 78 rfl) rfl
theorem q1104 : (Jvm.Cond.methodLink "CuttingRoomLaw" (77 : Nat) ({ cls := "CuttingRoom", name := "phase", desc := "(I)I" } : Jvm.MethodName)) ∈ lw_all := lw_g (lw_at lw_m5 79 rfl) rfl
theorem q1108 : (Jvm.Cond.methodLink "CuttingRoomLaw" (219 : Nat) ({ cls := "CuttingRoomLaw", name := "addStyle", desc := "(LCuttingRoom;[J)I" } : Jvm.MethodName)) ∈ lw_all := lw_g (lw_at lw_m5 83 rfl) rfl
theorem q1109 : (Jvm.Cond.static ({ cls := "CuttingRoomLaw", name := "addStyle", desc := "(LCuttingRoom;[J)I" } : Jvm.MethodName)) ∈ lw_all := lw_g (lw_at lw_m5 84 rfl) rfl
theorem q1110 : (Jvm.Cond.codeWith ({ cls := "CuttingRoomLaw", name := "addStyle", desc := "(LCuttingRoom;[J)I" } : Jvm.MethodName) method_20_code (3 : Nat) (Option.some Jvm.ClassFile.FieldType.int) [((0 : Nat), (8 : Nat), (11 : Nat), (15 : Nat))]) ∈ lw_all := lw_g (lw_at lw_m5 85 rfl) rfl
theorem q1111 : (Jvm.Cond.methodLink "CuttingRoomLaw" (80 : Nat) ({ cls := "CuttingRoom", name := "addStyle", desc := "()I" } : Jvm.MethodName)) ∈ lw_all := lw_g (lw_at lw_m5 86 rfl) rfl
theorem q1130 : (Jvm.Cond.methodLink "CuttingRoomLaw" (223 : Nat) ({ cls := "CuttingRoomLaw", name := "addPart", desc := "(LCuttingRoom;III[J)I" } : Jvm.MethodName)) ∈ lw_all := lw_g (lw_at lw_m5 105 rfl) rfl
theorem q1131 : (Jvm.Cond.static ({ cls := "CuttingRoomLaw", name := "addPart", desc := "(LCuttingRoom;III[J)I" } : Jvm.MethodName)) ∈ lw_all := lw_g (lw_at lw_m5 106 rfl) rfl
theorem q1132 : (Jvm.Cond.codeWith ({ cls := "CuttingRoomLaw", name := "addPart", desc := "(LCuttingRoom;III[J)I" } : Jvm.MethodName) method_21_code (6 : Nat) (Option.some Jvm.ClassFile.FieldType.int) [((0 : Nat), (12 : Nat), (15 : Nat), (35 : Nat)), ((0 : Nat), (12 : Nat), (19 : Nat), (13 : Nat)), ((0 : Nat), (12 : Nat), (23 : Nat), (25 : Nat))]) ∈ lw_all := lw_g (lw_at lw_m5 107 rfl) rfl
theorem q1133 : (Jvm.Cond.methodLink "CuttingRoomLaw" (84 : Nat) ({ cls := "CuttingRoom", name := "addPart", desc := "(III)I" } : Jvm.MethodName)) ∈ lw_all := lw_g (lw_at lw_m5 108 rfl) rfl
theorem q1162 : (Jvm.Cond.methodLink "CuttingRoomLaw" (226 : Nat) ({ cls := "CuttingRoomLaw", name := "piecesFor", desc := "(LCuttingRoom;I[J)I" } : Jvm.MethodName)) ∈ lw_all := lw_g (lw_at lw_m5 137 rfl) rfl
theorem q1163 : (Jvm.Cond.static ({ cls := "CuttingRoomLaw", name := "piecesFor", desc := "(LCuttingRoom;I[J)I" } : Jvm.MethodName)) ∈ lw_all := lw_g (lw_at lw_m5 138 rfl) rfl
theorem q1164 : (Jvm.Cond.codeWith ({ cls := "CuttingRoomLaw", name := "piecesFor", desc := "(LCuttingRoom;I[J)I" } : Jvm.MethodName) method_22_code (4 : Nat) (Option.some Jvm.ClassFile.FieldType.int) [((0 : Nat), (9 : Nat), (12 : Nat), (35 : Nat))]) ∈ lw_all := lw_g (lw_at lw_m5 139 rfl) rfl
theorem q1165 : (Jvm.Cond.methodLink "CuttingRoomLaw" (87 : Nat) ({ cls := "CuttingRoom", name := "piecesFor", desc := "(I)I" } : Jvm.MethodName)) ∈ lw_all := lw_g (lw_at lw_m5 140 rfl) rfl
theorem q1169 : (Jvm.Cond.methodLink "CuttingRoomLaw" (229 : Nat) ({ cls := "CuttingRoomLaw", name := "nestedLength", desc := "(LCuttingRoom;I[J)I" } : Jvm.MethodName)) ∈ lw_all := lw_g (lw_at lw_m5 144 rfl) rfl
theorem q1170 : (Jvm.Cond.static ({ cls := "CuttingRoomLaw", name := "nestedLength", desc := "(LCuttingRoom;I[J)I" } : Jvm.MethodName)) ∈ lw_all := lw_g (lw_at lw_m5 145 rfl) rfl
theorem q1171 : (Jvm.Cond.codeWith ({ cls := "CuttingRoomLaw", name := "nestedLength", desc := "(LCuttingRoom;I[J)I" } : Jvm.MethodName) method_23_code (4 : Nat) (Option.some Jvm.ClassFile.FieldType.int) [((0 : Nat), (9 : Nat), (12 : Nat), (35 : Nat)), ((0 : Nat), (9 : Nat), (15 : Nat), (25 : Nat)), ((0 : Nat), (9 : Nat), (18 : Nat), (15 : Nat))]) ∈ lw_all := lw_g (lw_at lw_m5 146 rfl) rfl
theorem q1172 : (Jvm.Cond.methodLink "CuttingRoomLaw" (90 : Nat) ({ cls := "CuttingRoom", name := "nestedLength", desc := "(I)I" } : Jvm.MethodName)) ∈ lw_all := lw_g (lw_at lw_m5 147 rfl) rfl
theorem q1248 : (Jvm.Cond.methodLink "CuttingRoomLaw" (232 : Nat) ({ cls := "CuttingRoomLaw", name := "nestedByTrying", desc := "(LCuttingRoom;I[J)I" } : Jvm.MethodName)) ∈ lw_all := lw_g (lw_at lw_m5 223 rfl) rfl
theorem q1249 : (Jvm.Cond.static ({ cls := "CuttingRoomLaw", name := "nestedByTrying", desc := "(LCuttingRoom;I[J)I" } : Jvm.MethodName)) ∈ lw_all := lw_g (lw_at lw_m5 224 rfl) rfl
theorem q1250 : (Jvm.Cond.codeWith ({ cls := "CuttingRoomLaw", name := "nestedByTrying", desc := "(LCuttingRoom;I[J)I" } : Jvm.MethodName) method_24_code (4 : Nat) (Option.some Jvm.ClassFile.FieldType.int) [((0 : Nat), (9 : Nat), (12 : Nat), (35 : Nat)), ((0 : Nat), (9 : Nat), (15 : Nat), (25 : Nat)), ((0 : Nat), (9 : Nat), (18 : Nat), (15 : Nat))]) ∈ lw_all := lw_g (lw_at lw_m5 225 rfl) rfl
theorem q1251 : (Jvm.Cond.methodLink "CuttingRoomLaw" (93 : Nat) ({ cls := "CuttingRoom", name := "nestedByTrying", desc := "(I)I" } : Jvm.MethodName)) ∈ lw_all := lw_g (lw_at lw_m5 226 rfl) rfl
theorem q1255 : (Jvm.Cond.methodLink "CuttingRoomLaw" (235 : Nat) ({ cls := "CuttingRoomLaw", name := "addCloth", desc := "(LCuttingRoom;I[J)I" } : Jvm.MethodName)) ∈ lw_all := lw_g (lw_at lw_m5 230 rfl) rfl
theorem q1256 : (Jvm.Cond.static ({ cls := "CuttingRoomLaw", name := "addCloth", desc := "(LCuttingRoom;I[J)I" } : Jvm.MethodName)) ∈ lw_all := lw_g (lw_at lw_m5 231 rfl) rfl
theorem q1257 : (Jvm.Cond.codeWith ({ cls := "CuttingRoomLaw", name := "addCloth", desc := "(LCuttingRoom;I[J)I" } : Jvm.MethodName) method_25_code (4 : Nat) (Option.some Jvm.ClassFile.FieldType.int) [((0 : Nat), (9 : Nat), (12 : Nat), (13 : Nat))]) ∈ lw_all := lw_g (lw_at lw_m5 232 rfl) rfl
theorem q1258 : (Jvm.Cond.methodLink "CuttingRoomLaw" (96 : Nat) ({ cls := "CuttingRoom", name := "addCloth", desc := "(I)I" } : Jvm.MethodName)) ∈ lw_all := lw_g (lw_at lw_m5 233 rfl) rfl
theorem q1263 : (Jvm.Cond.methodLink "CuttingRoomLaw" (242 : Nat) ({ cls := "CuttingRoomLaw", name := "spread", desc := "(LCuttingRoom;I[J)I" } : Jvm.MethodName)) ∈ lw_all := lw_g (lw_at lw_m5 238 rfl) rfl
theorem q1264 : (Jvm.Cond.static ({ cls := "CuttingRoomLaw", name := "spread", desc := "(LCuttingRoom;I[J)I" } : Jvm.MethodName)) ∈ lw_all := lw_g (lw_at lw_m5 239 rfl) rfl
theorem q1265 : (Jvm.Cond.codeWith ({ cls := "CuttingRoomLaw", name := "spread", desc := "(LCuttingRoom;I[J)I" } : Jvm.MethodName) method_26_code (4 : Nat) (Option.some Jvm.ClassFile.FieldType.int) [((0 : Nat), (9 : Nat), (12 : Nat), (13 : Nat)), ((0 : Nat), (9 : Nat), (15 : Nat), (25 : Nat)), ((0 : Nat), (9 : Nat), (18 : Nat), (15 : Nat))]) ∈ lw_all := lw_g (lw_at lw_m6 0 rfl) rfl
theorem q1266 : (Jvm.Cond.methodLink "CuttingRoomLaw" (99 : Nat) ({ cls := "CuttingRoom", name := "spread", desc := "(I)I" } : Jvm.MethodName)) ∈ lw_all := lw_g (lw_at lw_m6 1 rfl) rfl
theorem q1278 : (Jvm.Cond.methodLink "CuttingRoomLaw" (245 : Nat) ({ cls := "CuttingRoomLaw", name := "pieces", desc := "(LCuttingRoom;IZ[J)I" } : Jvm.MethodName)) ∈ lw_all := lw_g (lw_at lw_m6 13 rfl) rfl
theorem q1279 : (Jvm.Cond.static ({ cls := "CuttingRoomLaw", name := "pieces", desc := "(LCuttingRoom;IZ[J)I" } : Jvm.MethodName)) ∈ lw_all := lw_g (lw_at lw_m6 14 rfl) rfl
theorem q1280 : (Jvm.Cond.codeWith ({ cls := "CuttingRoomLaw", name := "pieces", desc := "(LCuttingRoom;IZ[J)I" } : Jvm.MethodName) method_27_code (5 : Nat) (Option.some Jvm.ClassFile.FieldType.int) [((0 : Nat), (10 : Nat), (13 : Nat), (35 : Nat)), ((0 : Nat), (10 : Nat), (17 : Nat), (25 : Nat))]) ∈ lw_all := lw_g (lw_at lw_m6 15 rfl) rfl
theorem q1281 : (Jvm.Cond.methodLink "CuttingRoomLaw" (102 : Nat) ({ cls := "CuttingRoom", name := "pieces", desc := "(IZ)I" } : Jvm.MethodName)) ∈ lw_all := lw_g (lw_at lw_m6 16 rfl) rfl
theorem q1285 : (Jvm.Cond.methodLink "CuttingRoomLaw" (248 : Nat) ({ cls := "CuttingRoomLaw", name := "canMake", desc := "(LCuttingRoom;I[J)I" } : Jvm.MethodName)) ∈ lw_all := lw_g (lw_at lw_m6 20 rfl) rfl
theorem q1286 : (Jvm.Cond.static ({ cls := "CuttingRoomLaw", name := "canMake", desc := "(LCuttingRoom;I[J)I" } : Jvm.MethodName)) ∈ lw_all := lw_g (lw_at lw_m6 21 rfl) rfl
theorem q1287 : (Jvm.Cond.codeWith ({ cls := "CuttingRoomLaw", name := "canMake", desc := "(LCuttingRoom;I[J)I" } : Jvm.MethodName) method_28_code (4 : Nat) (Option.some Jvm.ClassFile.FieldType.int) [((0 : Nat), (9 : Nat), (12 : Nat), (35 : Nat)), ((0 : Nat), (9 : Nat), (15 : Nat), (25 : Nat))]) ∈ lw_all := lw_g (lw_at lw_m6 22 rfl) rfl
theorem q1288 : (Jvm.Cond.methodLink "CuttingRoomLaw" (105 : Nat) ({ cls := "CuttingRoom", name := "canMake", desc := "(I)I" } : Jvm.MethodName)) ∈ lw_all := lw_g (lw_at lw_m6 23 rfl) rfl
theorem q1306 : (Jvm.Cond.methodLink "CuttingRoomLaw" (251 : Nat) ({ cls := "CuttingRoomLaw", name := "canMakeByTaking", desc := "(LCuttingRoom;I[J)I" } : Jvm.MethodName)) ∈ lw_all := lw_g (lw_at lw_m6 41 rfl) rfl
theorem q1307 : (Jvm.Cond.static ({ cls := "CuttingRoomLaw", name := "canMakeByTaking", desc := "(LCuttingRoom;I[J)I" } : Jvm.MethodName)) ∈ lw_all := lw_g (lw_at lw_m6 42 rfl) rfl
theorem q1308 : (Jvm.Cond.codeWith ({ cls := "CuttingRoomLaw", name := "canMakeByTaking", desc := "(LCuttingRoom;I[J)I" } : Jvm.MethodName) method_29_code (4 : Nat) (Option.some Jvm.ClassFile.FieldType.int) [((0 : Nat), (9 : Nat), (12 : Nat), (35 : Nat)), ((0 : Nat), (9 : Nat), (15 : Nat), (25 : Nat))]) ∈ lw_all := lw_g (lw_at lw_m6 43 rfl) rfl
theorem q1309 : (Jvm.Cond.methodLink "CuttingRoomLaw" (108 : Nat) ({ cls := "CuttingRoom", name := "canMakeByTaking", desc := "(I)I" } : Jvm.MethodName)) ∈ lw_all := lw_g (lw_at lw_m6 44 rfl) rfl
theorem q1317 : (Jvm.Cond.methodLink "CuttingRoomLaw" (254 : Nat) ({ cls := "CuttingRoomLaw", name := "make", desc := "(LCuttingRoom;II[J)I" } : Jvm.MethodName)) ∈ lw_all := lw_g (lw_at lw_m6 52 rfl) rfl
theorem q1318 : (Jvm.Cond.static ({ cls := "CuttingRoomLaw", name := "make", desc := "(LCuttingRoom;II[J)I" } : Jvm.MethodName)) ∈ lw_all := lw_g (lw_at lw_m6 53 rfl) rfl
theorem q1319 : (Jvm.Cond.codeWith ({ cls := "CuttingRoomLaw", name := "make", desc := "(LCuttingRoom;II[J)I" } : Jvm.MethodName) method_30_code (5 : Nat) (Option.some Jvm.ClassFile.FieldType.int) [((0 : Nat), (10 : Nat), (13 : Nat), (35 : Nat)), ((0 : Nat), (10 : Nat), (17 : Nat), (13 : Nat)), ((0 : Nat), (10 : Nat), (21 : Nat), (25 : Nat)), ((0 : Nat), (10 : Nat), (25 : Nat), (15 : Nat))]) ∈ lw_all := lw_g (lw_at lw_m6 54 rfl) rfl
theorem q1320 : (Jvm.Cond.methodLink "CuttingRoomLaw" (111 : Nat) ({ cls := "CuttingRoom", name := "make", desc := "(II)I" } : Jvm.MethodName)) ∈ lw_all := lw_g (lw_at lw_m6 55 rfl) rfl
theorem q1332 : (Jvm.Cond.methodLink "CuttingRoomLaw" (257 : Nat) ({ cls := "CuttingRoomLaw", name := "made", desc := "(LCuttingRoom;I[J)I" } : Jvm.MethodName)) ∈ lw_all := lw_g (lw_at lw_m6 67 rfl) rfl
theorem q1333 : (Jvm.Cond.static ({ cls := "CuttingRoomLaw", name := "made", desc := "(LCuttingRoom;I[J)I" } : Jvm.MethodName)) ∈ lw_all := lw_g (lw_at lw_m6 68 rfl) rfl
theorem q1334 : (Jvm.Cond.codeWith ({ cls := "CuttingRoomLaw", name := "made", desc := "(LCuttingRoom;I[J)I" } : Jvm.MethodName) method_31_code (4 : Nat) (Option.some Jvm.ClassFile.FieldType.int) [((0 : Nat), (9 : Nat), (12 : Nat), (35 : Nat))]) ∈ lw_all := lw_g (lw_at lw_m6 69 rfl) rfl
theorem q1335 : (Jvm.Cond.methodLink "CuttingRoomLaw" (114 : Nat) ({ cls := "CuttingRoom", name := "made", desc := "(I)I" } : Jvm.MethodName)) ∈ lw_all := lw_g (lw_at lw_m6 70 rfl) rfl
theorem q1339 : (Jvm.Cond.methodLink "CuttingRoomLaw" (260 : Nat) ({ cls := "CuttingRoomLaw", name := "pliesFor", desc := "(LCuttingRoom;II[J)I" } : Jvm.MethodName)) ∈ lw_all := lw_g (lw_at lw_m6 74 rfl) rfl
theorem q1340 : (Jvm.Cond.static ({ cls := "CuttingRoomLaw", name := "pliesFor", desc := "(LCuttingRoom;II[J)I" } : Jvm.MethodName)) ∈ lw_all := lw_g (lw_at lw_m6 75 rfl) rfl
theorem q1341 : (Jvm.Cond.codeWith ({ cls := "CuttingRoomLaw", name := "pliesFor", desc := "(LCuttingRoom;II[J)I" } : Jvm.MethodName) method_32_code (5 : Nat) (Option.some Jvm.ClassFile.FieldType.int) [((0 : Nat), (10 : Nat), (13 : Nat), (35 : Nat)), ((0 : Nat), (10 : Nat), (17 : Nat), (13 : Nat)), ((0 : Nat), (10 : Nat), (21 : Nat), (25 : Nat)), ((0 : Nat), (10 : Nat), (25 : Nat), (15 : Nat))]) ∈ lw_all := lw_g (lw_at lw_m6 76 rfl) rfl
theorem q1342 : (Jvm.Cond.methodLink "CuttingRoomLaw" (117 : Nat) ({ cls := "CuttingRoom", name := "pliesFor", desc := "(II)I" } : Jvm.MethodName)) ∈ lw_all := lw_g (lw_at lw_m6 77 rfl) rfl
theorem q1346 : (Jvm.Cond.methodLink "CuttingRoomLaw" (268 : Nat) ({ cls := "CuttingRoomLaw", name := "density", desc := "(LCuttingRoom;[D)I" } : Jvm.MethodName)) ∈ lw_all := lw_g (lw_at lw_m6 81 rfl) rfl
theorem q1347 : (Jvm.Cond.static ({ cls := "CuttingRoomLaw", name := "density", desc := "(LCuttingRoom;[D)I" } : Jvm.MethodName)) ∈ lw_all := lw_g (lw_at lw_m6 82 rfl) rfl
theorem q1348 : (Jvm.Cond.codeWith ({ cls := "CuttingRoomLaw", name := "density", desc := "(LCuttingRoom;[D)I" } : Jvm.MethodName) method_33_code (3 : Nat) (Option.some Jvm.ClassFile.FieldType.int) [((0 : Nat), (8 : Nat), (11 : Nat), (124 : Nat))]) ∈ lw_all := lw_g (lw_at lw_m6 83 rfl) rfl
theorem q1349 : (Jvm.Cond.classLink "CuttingRoomLaw" (124 : Nat) "java/lang/ArithmeticException") ∈ lw_all := lw_g (lw_at lw_m6 84 rfl) rfl
theorem q1363 : (Jvm.Cond.methodLink "CuttingRoomLaw" (120 : Nat) ({ cls := "CuttingRoom", name := "density", desc := "()F" } : Jvm.MethodName)) ∈ lw_all := lw_g (lw_at lw_m6 98 rfl) rfl
theorem q1376 : (Jvm.Cond.methodLink "CuttingRoomLaw" (272 : Nat) ({ cls := "CuttingRoomLaw", name := "meanCells", desc := "(LCuttingRoom;[D)I" } : Jvm.MethodName)) ∈ lw_all := lw_g (lw_at lw_m6 111 rfl) rfl
theorem q1377 : (Jvm.Cond.static ({ cls := "CuttingRoomLaw", name := "meanCells", desc := "(LCuttingRoom;[D)I" } : Jvm.MethodName)) ∈ lw_all := lw_g (lw_at lw_m6 112 rfl) rfl
theorem q1378 : (Jvm.Cond.codeWith ({ cls := "CuttingRoomLaw", name := "meanCells", desc := "(LCuttingRoom;[D)I" } : Jvm.MethodName) method_34_code (3 : Nat) (Option.some Jvm.ClassFile.FieldType.int) [((0 : Nat), (7 : Nat), (10 : Nat), (124 : Nat))]) ∈ lw_all := lw_g (lw_at lw_m6 113 rfl) rfl
theorem q1379 : (Jvm.Cond.methodLink "CuttingRoomLaw" (126 : Nat) ({ cls := "CuttingRoom", name := "meanCells", desc := "()D" } : Jvm.MethodName)) ∈ lw_all := lw_g (lw_at lw_m6 114 rfl) rfl
theorem q1383 : (Jvm.Cond.classLink "CuttingRoomLaw" (131 : Nat) "CuttingRoomModel") ∈ lw_all := lw_g (lw_at lw_m6 118 rfl) rfl
theorem q1385 : (Jvm.Cond.methodLink "CuttingRoomLaw" (133 : Nat) ({ cls := "CuttingRoomModel", name := "<init>", desc := "()V" } : Jvm.MethodName)) ∈ lw_all := lw_g (lw_at lw_m6 120 rfl) rfl
theorem q1542 : (Jvm.Cond.methodLink "CuttingRoomLaw" (140 : Nat) ({ cls := "CuttingRoomModel", name := "thrown", desc := "()I" } : Jvm.MethodName)) ∈ lw_all := lw_g (lw_at lw_m7 37 rfl) rfl
theorem q1546 : (Jvm.Cond.methodLink "CuttingRoomLaw" (139 : Nat) ({ cls := "CuttingRoomModel", name := "setCloth", desc := "(IZI)I" } : Jvm.MethodName)) ∈ lw_all := lw_g (lw_at lw_m7 41 rfl) rfl
theorem q1557 : (Jvm.Cond.methodLink "CuttingRoomLaw" (146 : Nat) ({ cls := "CuttingRoomModel", name := "fold", desc := "(Z)Z" } : Jvm.MethodName)) ∈ lw_all := lw_g (lw_at lw_m7 52 rfl) rfl
theorem q1561 : (Jvm.Cond.methodLink "CuttingRoomLaw" (150 : Nat) ({ cls := "CuttingRoomModel", name := "addFlaw", desc := "(II)I" } : Jvm.MethodName)) ∈ lw_all := lw_g (lw_at lw_m7 56 rfl) rfl
theorem q1569 : (Jvm.Cond.methodLink "CuttingRoomLaw" (154 : Nat) ({ cls := "CuttingRoomModel", name := "clearFlaws", desc := "()I" } : Jvm.MethodName)) ∈ lw_all := lw_g (lw_at lw_m7 64 rfl) rfl
theorem q1573 : (Jvm.Cond.methodLink "CuttingRoomLaw" (158 : Nat) ({ cls := "CuttingRoomModel", name := "addShape", desc := "(CZ)I" } : Jvm.MethodName)) ∈ lw_all := lw_g (lw_at lw_m7 68 rfl) rfl
theorem q1577 : (Jvm.Cond.methodLink "CuttingRoomLaw" (162 : Nat) ({ cls := "CuttingRoomModel", name := "addCell", desc := "(III)I" } : Jvm.MethodName)) ∈ lw_all := lw_g (lw_at lw_m7 72 rfl) rfl
theorem q1589 : (Jvm.Cond.methodLink "CuttingRoomLaw" (166 : Nat) ({ cls := "CuttingRoomModel", name := "setMark", desc := "(IIII)I" } : Jvm.MethodName)) ∈ lw_all := lw_g (lw_at lw_m7 84 rfl) rfl
theorem q1593 : (Jvm.Cond.methodLink "CuttingRoomLaw" (170 : Nat) ({ cls := "CuttingRoomModel", name := "cellsOf", desc := "(I)I" } : Jvm.MethodName)) ∈ lw_all := lw_g (lw_at lw_m7 88 rfl) rfl
theorem q1597 : (Jvm.Cond.methodLink "CuttingRoomLaw" (174 : Nat) ({ cls := "CuttingRoomModel", name := "lay", desc := "(IIIIZ)I" } : Jvm.MethodName)) ∈ lw_all := lw_g (lw_at lw_m7 92 rfl) rfl
theorem q1643 : (Jvm.Cond.methodLink "CuttingRoomLaw" (177 : Nat) ({ cls := "CuttingRoomModel", name := "reason", desc := "(IIIIZ)C" } : Jvm.MethodName)) ∈ lw_all := lw_g (lw_at lw_m7 138 rfl) rfl
theorem q1647 : (Jvm.Cond.methodLink "CuttingRoomLaw" (181 : Nat) ({ cls := "CuttingRoomModel", name := "nest", desc := "(IZ)I" } : Jvm.MethodName)) ∈ lw_all := lw_g (lw_at lw_m7 142 rfl) rfl
theorem q1655 : (Jvm.Cond.methodLink "CuttingRoomLaw" (184 : Nat) ({ cls := "CuttingRoomModel", name := "takeOff", desc := "(I)I" } : Jvm.MethodName)) ∈ lw_all := lw_g (lw_at lw_m7 150 rfl) rfl
theorem q1671 : (Jvm.Cond.methodLink "CuttingRoomLaw" (188 : Nat) ({ cls := "CuttingRoomModel", name := "clear", desc := "()I" } : Jvm.MethodName)) ∈ lw_all := lw_g (lw_at lw_m7 166 rfl) rfl
theorem q1675 : (Jvm.Cond.methodLink "CuttingRoomLaw" (192 : Nat) ({ cls := "CuttingRoomModel", name := "inMarker", desc := "()I" } : Jvm.MethodName)) ∈ lw_all := lw_g (lw_at lw_m7 170 rfl) rfl
theorem q1679 : (Jvm.Cond.methodLink "CuttingRoomLaw" (195 : Nat) ({ cls := "CuttingRoomModel", name := "rowOf", desc := "(I)I" } : Jvm.MethodName)) ∈ lw_all := lw_g (lw_at lw_m7 174 rfl) rfl
theorem q1683 : (Jvm.Cond.methodLink "CuttingRoomLaw" (198 : Nat) ({ cls := "CuttingRoomModel", name := "columnOf", desc := "(I)I" } : Jvm.MethodName)) ∈ lw_all := lw_g (lw_at lw_m7 178 rfl) rfl
theorem q1687 : (Jvm.Cond.methodLink "CuttingRoomLaw" (201 : Nat) ({ cls := "CuttingRoomModel", name := "turnsOf", desc := "(I)I" } : Jvm.MethodName)) ∈ lw_all := lw_g (lw_at lw_m7 182 rfl) rfl
theorem q1691 : (Jvm.Cond.methodLink "CuttingRoomLaw" (204 : Nat) ({ cls := "CuttingRoomModel", name := "pieceAt", desc := "(II)I" } : Jvm.MethodName)) ∈ lw_all := lw_g (lw_at lw_m7 186 rfl) rfl
theorem q1695 : (Jvm.Cond.methodLink "CuttingRoomLaw" (207 : Nat) ({ cls := "CuttingRoomModel", name := "pieceByPieces", desc := "(II)I" } : Jvm.MethodName)) ∈ lw_all := lw_g (lw_at lw_m7 190 rfl) rfl
theorem q1700 : (Jvm.Cond.methodLink "CuttingRoomLaw" (211 : Nat) ({ cls := "CuttingRoomModel", name := "length", desc := "()I" } : Jvm.MethodName)) ∈ lw_all := lw_g (lw_at lw_m7 195 rfl) rfl
theorem q1704 : (Jvm.Cond.methodLink "CuttingRoomLaw" (215 : Nat) ({ cls := "CuttingRoomModel", name := "used", desc := "()I" } : Jvm.MethodName)) ∈ lw_all := lw_g (lw_at lw_m7 199 rfl) rfl
theorem q1712 : (Jvm.Cond.methodLink "CuttingRoomLaw" (218 : Nat) ({ cls := "CuttingRoomModel", name := "phase", desc := "(I)I" } : Jvm.MethodName)) ∈ lw_all := lw_g (lw_at lw_m7 207 rfl) rfl
theorem q1716 : (Jvm.Cond.methodLink "CuttingRoomLaw" (222 : Nat) ({ cls := "CuttingRoomModel", name := "addStyle", desc := "()I" } : Jvm.MethodName)) ∈ lw_all := lw_g (lw_at lw_m7 211 rfl) rfl
theorem q1720 : (Jvm.Cond.methodLink "CuttingRoomLaw" (225 : Nat) ({ cls := "CuttingRoomModel", name := "addPart", desc := "(III)I" } : Jvm.MethodName)) ∈ lw_all := lw_g (lw_at lw_m7 215 rfl) rfl
theorem q1732 : (Jvm.Cond.methodLink "CuttingRoomLaw" (228 : Nat) ({ cls := "CuttingRoomModel", name := "piecesFor", desc := "(I)I" } : Jvm.MethodName)) ∈ lw_all := lw_g (lw_at lw_m7 227 rfl) rfl
theorem q1736 : (Jvm.Cond.methodLink "CuttingRoomLaw" (231 : Nat) ({ cls := "CuttingRoomModel", name := "nestedLength", desc := "(I)I" } : Jvm.MethodName)) ∈ lw_all := lw_g (lw_at lw_m7 231 rfl) rfl
theorem q1752 : (Jvm.Cond.methodLink "CuttingRoomLaw" (234 : Nat) ({ cls := "CuttingRoomModel", name := "nestedByTrying", desc := "(I)I" } : Jvm.MethodName)) ∈ lw_all := lw_g (lw_at lw_m8 7 rfl) rfl
theorem q1757 : (Jvm.Cond.methodLink "CuttingRoomLaw" (237 : Nat) ({ cls := "CuttingRoomModel", name := "addCloth", desc := "(I)I" } : Jvm.MethodName)) ∈ lw_all := lw_g (lw_at lw_m8 12 rfl) rfl
theorem q1762 : (Jvm.Cond.methodLink "CuttingRoomLaw" (241 : Nat) ({ cls := "CuttingRoomModel", name := "roll", desc := "()I" } : Jvm.MethodName)) ∈ lw_all := lw_g (lw_at lw_m8 17 rfl) rfl
theorem q1766 : (Jvm.Cond.methodLink "CuttingRoomLaw" (244 : Nat) ({ cls := "CuttingRoomModel", name := "spread", desc := "(I)I" } : Jvm.MethodName)) ∈ lw_all := lw_g (lw_at lw_m8 21 rfl) rfl
theorem q1782 : (Jvm.Cond.methodLink "CuttingRoomLaw" (247 : Nat) ({ cls := "CuttingRoomModel", name := "pieces", desc := "(IZ)I" } : Jvm.MethodName)) ∈ lw_all := lw_g (lw_at lw_m8 37 rfl) rfl
theorem q1786 : (Jvm.Cond.methodLink "CuttingRoomLaw" (250 : Nat) ({ cls := "CuttingRoomModel", name := "canMake", desc := "(I)I" } : Jvm.MethodName)) ∈ lw_all := lw_g (lw_at lw_m8 41 rfl) rfl
theorem q1795 : (Jvm.Cond.methodLink "CuttingRoomLaw" (253 : Nat) ({ cls := "CuttingRoomModel", name := "canMakeByTaking", desc := "(I)I" } : Jvm.MethodName)) ∈ lw_all := lw_g (lw_at lw_m8 50 rfl) rfl
theorem q1800 : (Jvm.Cond.methodLink "CuttingRoomLaw" (256 : Nat) ({ cls := "CuttingRoomModel", name := "make", desc := "(II)I" } : Jvm.MethodName)) ∈ lw_all := lw_g (lw_at lw_m8 55 rfl) rfl
theorem q1804 : (Jvm.Cond.methodLink "CuttingRoomLaw" (259 : Nat) ({ cls := "CuttingRoomModel", name := "made", desc := "(I)I" } : Jvm.MethodName)) ∈ lw_all := lw_g (lw_at lw_m8 59 rfl) rfl
theorem q1808 : (Jvm.Cond.methodLink "CuttingRoomLaw" (262 : Nat) ({ cls := "CuttingRoomModel", name := "pliesFor", desc := "(II)I" } : Jvm.MethodName)) ∈ lw_all := lw_g (lw_at lw_m8 63 rfl) rfl
theorem q1812 : (Jvm.Cond.methodLink "CuttingRoomLaw" (267 : Nat) ({ cls := "CuttingRoomModel", name := "cut", desc := "()J" } : Jvm.MethodName)) ∈ lw_all := lw_g (lw_at lw_m8 67 rfl) rfl
theorem q1816 : (Jvm.Cond.methodLink "CuttingRoomLaw" (271 : Nat) ({ cls := "CuttingRoomModel", name := "density", desc := "()F" } : Jvm.MethodName)) ∈ lw_all := lw_g (lw_at lw_m8 71 rfl) rfl
theorem q1820 : (Jvm.Cond.methodLink "CuttingRoomLaw" (274 : Nat) ({ cls := "CuttingRoomModel", name := "meanCells", desc := "()D" } : Jvm.MethodName)) ∈ lw_all := lw_g (lw_at lw_m8 75 rfl) rfl
theorem q1824 : (Jvm.Cond.methodLink "CuttingRoomLaw" (279 : Nat) ({ cls := "CuttingRoomModel", name := "isSound", desc := "()Z" } : Jvm.MethodName)) ∈ lw_all := lw_g (lw_at lw_m8 79 rfl) rfl
