/-! CuttingRoom -/
set_option maxRecDepth 100000
def RX1 : String := "CuttingRoom"
def TX1 : u_T := fun k => match k with
  | 0 => ("CuttingRoom", "shapes", "Ljava/util/List;", true)
  | 1 => ("CuttingRoom", "styles", "Ljava/util/List;", true)
  | 2 => ("CuttingRoom", "marker", "Ljava/util/List;", true)
  | 3 => ("CuttingRoom", "flaws", "[[Z", true)
  | 4 => ("CuttingRoom", "hindrances", "[LCuttingRoom$Hindrance;", true)
  | 5 => ("CuttingRoom", "spot", "LCuttingRoom$Spot;", true)
  | 6 => ("CuttingRoom", "sheet", "LCuttingRoom$Sheet;", true)
  | 7 => ("CuttingRoom", "trial", "LCuttingRoom$Sheet;", true)
  | 8 => ("CuttingRoom", "width", "I", false)
  | 9 => ("CuttingRoom", "hasNap", "Z", false)
  | 10 => ("CuttingRoom", "isFolded", "Z", false)
  | 11 => ("CuttingRoom", "stripes", "I", false)
  | 12 => ("CuttingRoom", "flawCount", "I", false)
  | 13 => ("CuttingRoom", "nextNumber", "I", false)
  | 14 => ("CuttingRoom", "roll", "I", false)
  | _ => ("CuttingRoom", "cut", "J", false)
def tyX1 : Nat → FieldType := fun k => match k with
  | 0 => .object "java/util/List"
  | 1 => .object "java/util/List"
  | 2 => .object "java/util/List"
  | 3 => .array (.array .boolean)
  | 4 => .array (.object "CuttingRoom$Hindrance")
  | 5 => .object "CuttingRoom$Spot"
  | 6 => .object "CuttingRoom$Sheet"
  | 7 => .object "CuttingRoom$Sheet"
  | 8 => .int
  | 9 => .boolean
  | 10 => .boolean
  | 11 => .int
  | 12 => .int
  | 13 => .int
  | 14 => .int
  | _ => .long
abbrev wsX10 : List Cond := u_ws RX1 TX1 16
set_option maxRecDepth 100000 in
theorem nmX1 : ∀ a, a < 16 → ∀ b, b < 16 → a ≠ b → (TX1 a).2.1 ≠ (TX1 b).2.1 := by decide +kernel
set_option maxRecDepth 100000 in
theorem tyX1_ok : ∀ k, k < 16 → parseFieldDescriptor (TX1 k).2.2.1 = some (tyX1 k) := by decide +kernel
abbrev cX1_init : ByteArray := prog_1_method_1_code
def yX1_init : MethodName := ⟨RX1, "<init>", "()V"⟩
def dkwX1_init_6 : List UInt8 := [89, 8, 186, 0, 60, 0, 0, 83, 89, 16, 6, 186, 0, 63, 0, 0, 83, 181, 0, 64, 177]
abbrev dktX1_init_6 : List UInt8 := dkwX1_init_6 ++ []
def dkwX1_init_5 : List UInt8 := [186, 0, 57, 0, 0, 83, 89, 6, 42, 186, 0, 58, 0, 0, 83, 89, 7, 42, 186, 0, 59, 0, 0, 83]
abbrev dktX1_init_5 : List UInt8 := dkwX1_init_5 ++ dktX1_init_6
def dkwX1_init_4 : List UInt8 := [189, 0, 50, 89, 3, 42, 186, 0, 52, 0, 0, 83, 89, 4, 42, 186, 0, 56, 0, 0, 83, 89, 5, 42]
abbrev dktX1_init_4 : List UInt8 := dkwX1_init_4 ++ dktX1_init_5
def dkwX1_init_3 : List UInt8 := [181, 0, 39, 42, 187, 0, 34, 89, 42, 183, 0, 36, 181, 0, 43, 42, 16, 12, 181, 0, 46, 42, 16, 7]
abbrev dktX1_init_3 : List UInt8 := dkwX1_init_3 ++ dktX1_init_4
def dkwX1_init_2 : List UInt8 := [181, 0, 24, 42, 187, 0, 27, 89, 183, 0, 29, 181, 0, 30, 42, 187, 0, 34, 89, 42, 183, 0, 36]
abbrev dktX1_init_2 : List UInt8 := dkwX1_init_2 ++ dktX1_init_3
def dkwX1_init_1 : List UInt8 := [181, 0, 16, 42, 187, 0, 9, 89, 183, 0, 11, 181, 0, 19, 42, 16, 60, 16, 12, 197, 0, 22, 2]
abbrev dktX1_init_1 : List UInt8 := dkwX1_init_1 ++ dktX1_init_2
def dkwX1_init_0 : List UInt8 := [42, 183, 0, 3, 42, 187, 0, 9, 89, 183, 0, 11, 181, 0, 12, 42, 187, 0, 9, 89, 183, 0, 11]
abbrev dktX1_init_0 : List UInt8 := dkwX1_init_0 ++ dktX1_init_1
theorem dksX1_init_0 : cX1_init.data.toList.drop 0 = dktX1_init_0 := by decide +kernel
theorem dksX1_init_1 : cX1_init.data.toList.drop 23 = dktX1_init_1 := dk_seg dksX1_init_0 23 rfl rfl
theorem dksX1_init_2 : cX1_init.data.toList.drop 46 = dktX1_init_2 := dk_seg dksX1_init_1 23 rfl rfl
theorem dksX1_init_3 : cX1_init.data.toList.drop 69 = dktX1_init_3 := dk_seg dksX1_init_2 23 rfl rfl
theorem dksX1_init_4 : cX1_init.data.toList.drop 93 = dktX1_init_4 := dk_seg dksX1_init_3 24 rfl rfl
theorem dksX1_init_5 : cX1_init.data.toList.drop 117 = dktX1_init_5 := dk_seg dksX1_init_4 24 rfl rfl
theorem dksX1_init_6 : cX1_init.data.toList.drop 141 = dktX1_init_6 := dk_seg dksX1_init_5 24 rfl rfl
theorem dX1_init_0 : decode cX1_init 0 = .ok (.aload_n 0, 1) := dk_42 (dk_at dksX1_init_0 0 rfl rfl)
theorem dX1_init_1 : decode cX1_init 1 = .ok (.invokespecial 3, 3) := dk_183 0 3 (dk_at dksX1_init_0 1 rfl rfl)
theorem dX1_init_4 : decode cX1_init 4 = .ok (.aload_n 0, 1) := dk_42 (dk_at dksX1_init_0 4 rfl rfl)
theorem dX1_init_5 : decode cX1_init 5 = .ok (.new 9, 3) := dk_187 0 9 (dk_at dksX1_init_0 5 rfl rfl)
theorem dX1_init_8 : decode cX1_init 8 = .ok (.dup, 1) := dk_89 (dk_at dksX1_init_0 8 rfl rfl)
theorem dX1_init_9 : decode cX1_init 9 = .ok (.invokespecial 11, 3) := dk_183 0 11 (dk_at dksX1_init_0 9 rfl rfl)
theorem dX1_init_12 : decode cX1_init 12 = .ok (.putfield 12, 3) := dk_181 0 12 (dk_at dksX1_init_0 12 rfl rfl)
theorem dX1_init_15 : decode cX1_init 15 = .ok (.aload_n 0, 1) := dk_42 (dk_at dksX1_init_0 15 rfl rfl)
theorem dX1_init_16 : decode cX1_init 16 = .ok (.new 9, 3) := dk_187 0 9 (dk_at dksX1_init_0 16 rfl rfl)
theorem dX1_init_19 : decode cX1_init 19 = .ok (.dup, 1) := dk_89 (dk_at dksX1_init_0 19 rfl rfl)
theorem dX1_init_20 : decode cX1_init 20 = .ok (.invokespecial 11, 3) := dk_183 0 11 (dk_at dksX1_init_0 20 rfl rfl)
theorem dX1_init_23 : decode cX1_init 23 = .ok (.putfield 16, 3) := dk_181 0 16 (dk_at dksX1_init_1 0 rfl rfl)
theorem dX1_init_26 : decode cX1_init 26 = .ok (.aload_n 0, 1) := dk_42 (dk_at dksX1_init_1 3 rfl rfl)
theorem dX1_init_27 : decode cX1_init 27 = .ok (.new 9, 3) := dk_187 0 9 (dk_at dksX1_init_1 4 rfl rfl)
theorem dX1_init_30 : decode cX1_init 30 = .ok (.dup, 1) := dk_89 (dk_at dksX1_init_1 7 rfl rfl)
theorem dX1_init_31 : decode cX1_init 31 = .ok (.invokespecial 11, 3) := dk_183 0 11 (dk_at dksX1_init_1 8 rfl rfl)
theorem dX1_init_34 : decode cX1_init 34 = .ok (.putfield 19, 3) := dk_181 0 19 (dk_at dksX1_init_1 11 rfl rfl)
theorem dX1_init_37 : decode cX1_init 37 = .ok (.aload_n 0, 1) := dk_42 (dk_at dksX1_init_1 14 rfl rfl)
theorem dX1_init_38 : decode cX1_init 38 = .ok (.bipush 60, 2) := dk_16 60 (dk_at dksX1_init_1 15 rfl rfl)
theorem dX1_init_40 : decode cX1_init 40 = .ok (.bipush 12, 2) := dk_16 12 (dk_at dksX1_init_1 17 rfl rfl)
theorem dX1_init_42 : decode cX1_init 42 = .ok (.multianewarray 22 2, 4) := by decide +kernel
theorem dX1_init_46 : decode cX1_init 46 = .ok (.putfield 24, 3) := dk_181 0 24 (dk_at dksX1_init_2 0 rfl rfl)
theorem dX1_init_49 : decode cX1_init 49 = .ok (.aload_n 0, 1) := dk_42 (dk_at dksX1_init_2 3 rfl rfl)
theorem dX1_init_50 : decode cX1_init 50 = .ok (.new 27, 3) := dk_187 0 27 (dk_at dksX1_init_2 4 rfl rfl)
theorem dX1_init_53 : decode cX1_init 53 = .ok (.dup, 1) := dk_89 (dk_at dksX1_init_2 7 rfl rfl)
theorem dX1_init_54 : decode cX1_init 54 = .ok (.invokespecial 29, 3) := dk_183 0 29 (dk_at dksX1_init_2 8 rfl rfl)
theorem dX1_init_57 : decode cX1_init 57 = .ok (.putfield 30, 3) := dk_181 0 30 (dk_at dksX1_init_2 11 rfl rfl)
theorem dX1_init_60 : decode cX1_init 60 = .ok (.aload_n 0, 1) := dk_42 (dk_at dksX1_init_2 14 rfl rfl)
theorem dX1_init_61 : decode cX1_init 61 = .ok (.new 34, 3) := dk_187 0 34 (dk_at dksX1_init_2 15 rfl rfl)
theorem dX1_init_64 : decode cX1_init 64 = .ok (.dup, 1) := dk_89 (dk_at dksX1_init_2 18 rfl rfl)
theorem dX1_init_65 : decode cX1_init 65 = .ok (.aload_n 0, 1) := dk_42 (dk_at dksX1_init_2 19 rfl rfl)
theorem dX1_init_66 : decode cX1_init 66 = .ok (.invokespecial 36, 3) := dk_183 0 36 (dk_at dksX1_init_2 20 rfl rfl)
theorem dX1_init_69 : decode cX1_init 69 = .ok (.putfield 39, 3) := dk_181 0 39 (dk_at dksX1_init_3 0 rfl rfl)
theorem dX1_init_72 : decode cX1_init 72 = .ok (.aload_n 0, 1) := dk_42 (dk_at dksX1_init_3 3 rfl rfl)
theorem dX1_init_73 : decode cX1_init 73 = .ok (.new 34, 3) := dk_187 0 34 (dk_at dksX1_init_3 4 rfl rfl)
theorem dX1_init_76 : decode cX1_init 76 = .ok (.dup, 1) := dk_89 (dk_at dksX1_init_3 7 rfl rfl)
theorem dX1_init_77 : decode cX1_init 77 = .ok (.aload_n 0, 1) := dk_42 (dk_at dksX1_init_3 8 rfl rfl)
theorem dX1_init_78 : decode cX1_init 78 = .ok (.invokespecial 36, 3) := dk_183 0 36 (dk_at dksX1_init_3 9 rfl rfl)
theorem dX1_init_81 : decode cX1_init 81 = .ok (.putfield 43, 3) := dk_181 0 43 (dk_at dksX1_init_3 12 rfl rfl)
theorem dX1_init_84 : decode cX1_init 84 = .ok (.aload_n 0, 1) := dk_42 (dk_at dksX1_init_3 15 rfl rfl)
theorem dX1_init_85 : decode cX1_init 85 = .ok (.bipush 12, 2) := dk_16 12 (dk_at dksX1_init_3 16 rfl rfl)
theorem dX1_init_87 : decode cX1_init 87 = .ok (.putfield 46, 3) := dk_181 0 46 (dk_at dksX1_init_3 18 rfl rfl)
theorem dX1_init_90 : decode cX1_init 90 = .ok (.aload_n 0, 1) := dk_42 (dk_at dksX1_init_3 21 rfl rfl)
theorem dX1_init_91 : decode cX1_init 91 = .ok (.bipush 7, 2) := dk_16 7 (dk_at dksX1_init_3 22 rfl rfl)
theorem dX1_init_93 : decode cX1_init 93 = .ok (.anewarray 50, 3) := dk_189 0 50 (dk_at dksX1_init_4 0 rfl rfl)
theorem dX1_init_96 : decode cX1_init 96 = .ok (.dup, 1) := dk_89 (dk_at dksX1_init_4 3 rfl rfl)
theorem dX1_init_97 : decode cX1_init 97 = .ok (.iconst 0, 1) := dk_3 (dk_at dksX1_init_4 4 rfl rfl)
theorem dX1_init_98 : decode cX1_init 98 = .ok (.aload_n 0, 1) := dk_42 (dk_at dksX1_init_4 5 rfl rfl)
theorem dX1_init_99 : decode cX1_init 99 = .ok (.invokedynamic 52, 5) := by decide +kernel
theorem dX1_init_104 : decode cX1_init 104 = .ok (.aastore, 1) := dk_83 (dk_at dksX1_init_4 11 rfl rfl)
theorem dX1_init_105 : decode cX1_init 105 = .ok (.dup, 1) := dk_89 (dk_at dksX1_init_4 12 rfl rfl)
theorem dX1_init_106 : decode cX1_init 106 = .ok (.iconst 1, 1) := dk_4 (dk_at dksX1_init_4 13 rfl rfl)
theorem dX1_init_107 : decode cX1_init 107 = .ok (.aload_n 0, 1) := dk_42 (dk_at dksX1_init_4 14 rfl rfl)
theorem dX1_init_108 : decode cX1_init 108 = .ok (.invokedynamic 56, 5) := by decide +kernel
theorem dX1_init_113 : decode cX1_init 113 = .ok (.aastore, 1) := dk_83 (dk_at dksX1_init_4 20 rfl rfl)
theorem dX1_init_114 : decode cX1_init 114 = .ok (.dup, 1) := dk_89 (dk_at dksX1_init_4 21 rfl rfl)
theorem dX1_init_115 : decode cX1_init 115 = .ok (.iconst 2, 1) := dk_5 (dk_at dksX1_init_4 22 rfl rfl)
theorem dX1_init_116 : decode cX1_init 116 = .ok (.aload_n 0, 1) := dk_42 (dk_at dksX1_init_4 23 rfl rfl)
theorem dX1_init_117 : decode cX1_init 117 = .ok (.invokedynamic 57, 5) := by decide +kernel
theorem dX1_init_122 : decode cX1_init 122 = .ok (.aastore, 1) := dk_83 (dk_at dksX1_init_5 5 rfl rfl)
theorem dX1_init_123 : decode cX1_init 123 = .ok (.dup, 1) := dk_89 (dk_at dksX1_init_5 6 rfl rfl)
theorem dX1_init_124 : decode cX1_init 124 = .ok (.iconst 3, 1) := dk_6 (dk_at dksX1_init_5 7 rfl rfl)
theorem dX1_init_125 : decode cX1_init 125 = .ok (.aload_n 0, 1) := dk_42 (dk_at dksX1_init_5 8 rfl rfl)
theorem dX1_init_126 : decode cX1_init 126 = .ok (.invokedynamic 58, 5) := by decide +kernel
theorem dX1_init_131 : decode cX1_init 131 = .ok (.aastore, 1) := dk_83 (dk_at dksX1_init_5 14 rfl rfl)
theorem dX1_init_132 : decode cX1_init 132 = .ok (.dup, 1) := dk_89 (dk_at dksX1_init_5 15 rfl rfl)
theorem dX1_init_133 : decode cX1_init 133 = .ok (.iconst 4, 1) := dk_7 (dk_at dksX1_init_5 16 rfl rfl)
theorem dX1_init_134 : decode cX1_init 134 = .ok (.aload_n 0, 1) := dk_42 (dk_at dksX1_init_5 17 rfl rfl)
theorem dX1_init_135 : decode cX1_init 135 = .ok (.invokedynamic 59, 5) := by decide +kernel
theorem dX1_init_140 : decode cX1_init 140 = .ok (.aastore, 1) := dk_83 (dk_at dksX1_init_5 23 rfl rfl)
theorem dX1_init_141 : decode cX1_init 141 = .ok (.dup, 1) := dk_89 (dk_at dksX1_init_6 0 rfl rfl)
theorem dX1_init_142 : decode cX1_init 142 = .ok (.iconst 5, 1) := dk_8 (dk_at dksX1_init_6 1 rfl rfl)
theorem dX1_init_143 : decode cX1_init 143 = .ok (.invokedynamic 60, 5) := by decide +kernel
theorem dX1_init_148 : decode cX1_init 148 = .ok (.aastore, 1) := dk_83 (dk_at dksX1_init_6 7 rfl rfl)
theorem dX1_init_149 : decode cX1_init 149 = .ok (.dup, 1) := dk_89 (dk_at dksX1_init_6 8 rfl rfl)
theorem dX1_init_150 : decode cX1_init 150 = .ok (.bipush 6, 2) := dk_16 6 (dk_at dksX1_init_6 9 rfl rfl)
theorem dX1_init_152 : decode cX1_init 152 = .ok (.invokedynamic 63, 5) := by decide +kernel
theorem dX1_init_157 : decode cX1_init 157 = .ok (.aastore, 1) := dk_83 (dk_at dksX1_init_6 16 rfl rfl)
theorem dX1_init_158 : decode cX1_init 158 = .ok (.putfield 64, 3) := dk_181 0 64 (dk_at dksX1_init_6 17 rfl rfl)
theorem dX1_init_161 : decode cX1_init 161 = .ok (.return_, 1) := dk_177 (dk_at dksX1_init_6 20 rfl rfl)
abbrev cX1_lambda_new_0 : ByteArray := prog_1_method_81_code
def yX1_lambda_new_0 : MethodName := ⟨RX1, "lambda$new$0", "(LCuttingRoom$Sheet;)C"⟩
def dkwX1_lambda_new_0_0 : List UInt8 := [42, 180, 0, 30, 182, 0, 246, 154, 0, 8, 16, 101, 167, 0, 5, 16, 45, 172]
abbrev dktX1_lambda_new_0_0 : List UInt8 := dkwX1_lambda_new_0_0 ++ []
theorem dksX1_lambda_new_0_0 : cX1_lambda_new_0.data.toList.drop 0 = dktX1_lambda_new_0_0 := by decide +kernel
theorem dX1_lambda_new_0_0 : decode cX1_lambda_new_0 0 = .ok (.aload_n 0, 1) := dk_42 (dk_at dksX1_lambda_new_0_0 0 rfl rfl)
theorem dX1_lambda_new_0_1 : decode cX1_lambda_new_0 1 = .ok (.getfield 30, 3) := dk_180 0 30 (dk_at dksX1_lambda_new_0_0 1 rfl rfl)
theorem dX1_lambda_new_0_4 : decode cX1_lambda_new_0 4 = .ok (.invokevirtual 246, 3) := dk_182 0 246 (dk_at dksX1_lambda_new_0_0 4 rfl rfl)
theorem dX1_lambda_new_0_7 : decode cX1_lambda_new_0 7 = .ok (.ifCond .ne 8, 3) := dk_154 0 8 (dk_at dksX1_lambda_new_0_0 7 rfl rfl)
theorem dX1_lambda_new_0_10 : decode cX1_lambda_new_0 10 = .ok (.bipush 101, 2) := dk_16 101 (dk_at dksX1_lambda_new_0_0 10 rfl rfl)
theorem dX1_lambda_new_0_12 : decode cX1_lambda_new_0 12 = .ok (.goto 5, 3) := dk_167 0 5 (dk_at dksX1_lambda_new_0_0 12 rfl rfl)
theorem dX1_lambda_new_0_15 : decode cX1_lambda_new_0 15 = .ok (.bipush 45, 2) := dk_16 45 (dk_at dksX1_lambda_new_0_0 15 rfl rfl)
theorem dX1_lambda_new_0_17 : decode cX1_lambda_new_0 17 = .ok (.ireturn, 1) := dk_172 (dk_at dksX1_lambda_new_0_0 17 rfl rfl)
abbrev cX1_lambda_new_1 : ByteArray := prog_1_method_80_code
def yX1_lambda_new_1 : MethodName := ⟨RX1, "lambda$new$1", "(LCuttingRoom$Sheet;)C"⟩
def dkwX1_lambda_new_1_0 : List UInt8 := [42, 182, 1, 173, 153, 0, 8, 16, 45, 167, 0, 5, 16, 116, 172]
abbrev dktX1_lambda_new_1_0 : List UInt8 := dkwX1_lambda_new_1_0 ++ []
theorem dksX1_lambda_new_1_0 : cX1_lambda_new_1.data.toList.drop 0 = dktX1_lambda_new_1_0 := by decide +kernel
theorem dX1_lambda_new_1_0 : decode cX1_lambda_new_1 0 = .ok (.aload_n 0, 1) := dk_42 (dk_at dksX1_lambda_new_1_0 0 rfl rfl)
theorem dX1_lambda_new_1_1 : decode cX1_lambda_new_1 1 = .ok (.invokevirtual 429, 3) := dk_182 1 173 (dk_at dksX1_lambda_new_1_0 1 rfl rfl)
theorem dX1_lambda_new_1_4 : decode cX1_lambda_new_1 4 = .ok (.ifCond .eq 8, 3) := dk_153 0 8 (dk_at dksX1_lambda_new_1_0 4 rfl rfl)
theorem dX1_lambda_new_1_7 : decode cX1_lambda_new_1 7 = .ok (.bipush 45, 2) := dk_16 45 (dk_at dksX1_lambda_new_1_0 7 rfl rfl)
theorem dX1_lambda_new_1_9 : decode cX1_lambda_new_1 9 = .ok (.goto 5, 3) := dk_167 0 5 (dk_at dksX1_lambda_new_1_0 9 rfl rfl)
theorem dX1_lambda_new_1_12 : decode cX1_lambda_new_1 12 = .ok (.bipush 116, 2) := dk_16 116 (dk_at dksX1_lambda_new_1_0 12 rfl rfl)
theorem dX1_lambda_new_1_14 : decode cX1_lambda_new_1 14 = .ok (.ireturn, 1) := dk_172 (dk_at dksX1_lambda_new_1_0 14 rfl rfl)
abbrev cX1_canTurn : ByteArray := prog_1_method_25_code
def yX1_canTurn : MethodName := ⟨RX1, "canTurn", "()Z"⟩
def dkwX1_canTurn_1 : List UInt8 := [167, 0, 23, 42, 180, 0, 30, 180, 0, 229, 180, 0, 230, 42, 180, 0, 30, 180, 0, 226, 182, 0, 233, 172]
abbrev dktX1_canTurn_1 : List UInt8 := dkwX1_canTurn_1 ++ []
def dkwX1_canTurn_0 : List UInt8 := [42, 180, 0, 205, 153, 0, 21, 42, 180, 0, 30, 180, 0, 226, 154, 0, 7, 4, 167, 0, 27, 3]
abbrev dktX1_canTurn_0 : List UInt8 := dkwX1_canTurn_0 ++ dktX1_canTurn_1
theorem dksX1_canTurn_0 : cX1_canTurn.data.toList.drop 0 = dktX1_canTurn_0 := by decide +kernel
theorem dksX1_canTurn_1 : cX1_canTurn.data.toList.drop 22 = dktX1_canTurn_1 := dk_seg dksX1_canTurn_0 22 rfl rfl
theorem dX1_canTurn_0 : decode cX1_canTurn 0 = .ok (.aload_n 0, 1) := dk_42 (dk_at dksX1_canTurn_0 0 rfl rfl)
theorem dX1_canTurn_1 : decode cX1_canTurn 1 = .ok (.getfield 205, 3) := dk_180 0 205 (dk_at dksX1_canTurn_0 1 rfl rfl)
theorem dX1_canTurn_4 : decode cX1_canTurn 4 = .ok (.ifCond .eq 21, 3) := dk_153 0 21 (dk_at dksX1_canTurn_0 4 rfl rfl)
theorem dX1_canTurn_7 : decode cX1_canTurn 7 = .ok (.aload_n 0, 1) := dk_42 (dk_at dksX1_canTurn_0 7 rfl rfl)
theorem dX1_canTurn_8 : decode cX1_canTurn 8 = .ok (.getfield 30, 3) := dk_180 0 30 (dk_at dksX1_canTurn_0 8 rfl rfl)
theorem dX1_canTurn_11 : decode cX1_canTurn 11 = .ok (.getfield 226, 3) := dk_180 0 226 (dk_at dksX1_canTurn_0 11 rfl rfl)
theorem dX1_canTurn_14 : decode cX1_canTurn 14 = .ok (.ifCond .ne 7, 3) := dk_154 0 7 (dk_at dksX1_canTurn_0 14 rfl rfl)
theorem dX1_canTurn_17 : decode cX1_canTurn 17 = .ok (.iconst 1, 1) := dk_4 (dk_at dksX1_canTurn_0 17 rfl rfl)
theorem dX1_canTurn_18 : decode cX1_canTurn 18 = .ok (.goto 27, 3) := dk_167 0 27 (dk_at dksX1_canTurn_0 18 rfl rfl)
theorem dX1_canTurn_21 : decode cX1_canTurn 21 = .ok (.iconst 0, 1) := dk_3 (dk_at dksX1_canTurn_0 21 rfl rfl)
theorem dX1_canTurn_22 : decode cX1_canTurn 22 = .ok (.goto 23, 3) := dk_167 0 23 (dk_at dksX1_canTurn_1 0 rfl rfl)
theorem dX1_canTurn_25 : decode cX1_canTurn 25 = .ok (.aload_n 0, 1) := dk_42 (dk_at dksX1_canTurn_1 3 rfl rfl)
theorem dX1_canTurn_26 : decode cX1_canTurn 26 = .ok (.getfield 30, 3) := dk_180 0 30 (dk_at dksX1_canTurn_1 4 rfl rfl)
theorem dX1_canTurn_29 : decode cX1_canTurn 29 = .ok (.getfield 229, 3) := dk_180 0 229 (dk_at dksX1_canTurn_1 7 rfl rfl)
theorem dX1_canTurn_32 : decode cX1_canTurn 32 = .ok (.getfield 230, 3) := dk_180 0 230 (dk_at dksX1_canTurn_1 10 rfl rfl)
theorem dX1_canTurn_35 : decode cX1_canTurn 35 = .ok (.aload_n 0, 1) := dk_42 (dk_at dksX1_canTurn_1 13 rfl rfl)
theorem dX1_canTurn_36 : decode cX1_canTurn 36 = .ok (.getfield 30, 3) := dk_180 0 30 (dk_at dksX1_canTurn_1 14 rfl rfl)
theorem dX1_canTurn_39 : decode cX1_canTurn 39 = .ok (.getfield 226, 3) := dk_180 0 226 (dk_at dksX1_canTurn_1 17 rfl rfl)
theorem dX1_canTurn_42 : decode cX1_canTurn 42 = .ok (.invokevirtual 233, 3) := dk_182 0 233 (dk_at dksX1_canTurn_1 20 rfl rfl)
theorem dX1_canTurn_45 : decode cX1_canTurn 45 = .ok (.ireturn, 1) := dk_172 (dk_at dksX1_canTurn_1 23 rfl rfl)
abbrev cX1_lambda_new_2 : ByteArray := prog_1_method_79_code
def yX1_lambda_new_2 : MethodName := ⟨RX1, "lambda$new$2", "(LCuttingRoom$Sheet;)C"⟩
def dkwX1_lambda_new_2_1 : List UInt8 := [180, 0, 199, 153, 0, 8, 16, 109, 167, 0, 5, 16, 45, 172]
abbrev dktX1_lambda_new_2_1 : List UInt8 := dkwX1_lambda_new_2_1 ++ []
def dkwX1_lambda_new_2_0 : List UInt8 := [42, 180, 0, 30, 180, 1, 172, 153, 0, 28, 42, 180, 0, 30, 180, 0, 229, 180, 1, 81, 153, 0, 10, 42]
abbrev dktX1_lambda_new_2_0 : List UInt8 := dkwX1_lambda_new_2_0 ++ dktX1_lambda_new_2_1
theorem dksX1_lambda_new_2_0 : cX1_lambda_new_2.data.toList.drop 0 = dktX1_lambda_new_2_0 := by decide +kernel
theorem dksX1_lambda_new_2_1 : cX1_lambda_new_2.data.toList.drop 24 = dktX1_lambda_new_2_1 := dk_seg dksX1_lambda_new_2_0 24 rfl rfl
theorem dX1_lambda_new_2_0 : decode cX1_lambda_new_2 0 = .ok (.aload_n 0, 1) := dk_42 (dk_at dksX1_lambda_new_2_0 0 rfl rfl)
theorem dX1_lambda_new_2_1 : decode cX1_lambda_new_2 1 = .ok (.getfield 30, 3) := dk_180 0 30 (dk_at dksX1_lambda_new_2_0 1 rfl rfl)
theorem dX1_lambda_new_2_4 : decode cX1_lambda_new_2 4 = .ok (.getfield 428, 3) := dk_180 1 172 (dk_at dksX1_lambda_new_2_0 4 rfl rfl)
theorem dX1_lambda_new_2_7 : decode cX1_lambda_new_2 7 = .ok (.ifCond .eq 28, 3) := dk_153 0 28 (dk_at dksX1_lambda_new_2_0 7 rfl rfl)
theorem dX1_lambda_new_2_10 : decode cX1_lambda_new_2 10 = .ok (.aload_n 0, 1) := dk_42 (dk_at dksX1_lambda_new_2_0 10 rfl rfl)
theorem dX1_lambda_new_2_11 : decode cX1_lambda_new_2 11 = .ok (.getfield 30, 3) := dk_180 0 30 (dk_at dksX1_lambda_new_2_0 11 rfl rfl)
theorem dX1_lambda_new_2_14 : decode cX1_lambda_new_2 14 = .ok (.getfield 229, 3) := dk_180 0 229 (dk_at dksX1_lambda_new_2_0 14 rfl rfl)
theorem dX1_lambda_new_2_17 : decode cX1_lambda_new_2 17 = .ok (.getfield 337, 3) := dk_180 1 81 (dk_at dksX1_lambda_new_2_0 17 rfl rfl)
theorem dX1_lambda_new_2_20 : decode cX1_lambda_new_2 20 = .ok (.ifCond .eq 10, 3) := dk_153 0 10 (dk_at dksX1_lambda_new_2_0 20 rfl rfl)
theorem dX1_lambda_new_2_23 : decode cX1_lambda_new_2 23 = .ok (.aload_n 0, 1) := dk_42 (dk_at dksX1_lambda_new_2_0 23 rfl rfl)
theorem dX1_lambda_new_2_24 : decode cX1_lambda_new_2 24 = .ok (.getfield 199, 3) := dk_180 0 199 (dk_at dksX1_lambda_new_2_1 0 rfl rfl)
theorem dX1_lambda_new_2_27 : decode cX1_lambda_new_2 27 = .ok (.ifCond .eq 8, 3) := dk_153 0 8 (dk_at dksX1_lambda_new_2_1 3 rfl rfl)
theorem dX1_lambda_new_2_30 : decode cX1_lambda_new_2 30 = .ok (.bipush 109, 2) := dk_16 109 (dk_at dksX1_lambda_new_2_1 6 rfl rfl)
theorem dX1_lambda_new_2_32 : decode cX1_lambda_new_2 32 = .ok (.goto 5, 3) := dk_167 0 5 (dk_at dksX1_lambda_new_2_1 8 rfl rfl)
theorem dX1_lambda_new_2_35 : decode cX1_lambda_new_2 35 = .ok (.bipush 45, 2) := dk_16 45 (dk_at dksX1_lambda_new_2_1 11 rfl rfl)
theorem dX1_lambda_new_2_37 : decode cX1_lambda_new_2 37 = .ok (.ireturn, 1) := dk_172 (dk_at dksX1_lambda_new_2_1 13 rfl rfl)
abbrev cX1_lambda_new_3 : ByteArray := prog_1_method_78_code
def yX1_lambda_new_3 : MethodName := ⟨RX1, "lambda$new$3", "(LCuttingRoom$Sheet;)C"⟩
def dkwX1_lambda_new_3_0 : List UInt8 := [42, 182, 1, 169, 153, 0, 8, 16, 45, 167, 0, 5, 16, 111, 172]
abbrev dktX1_lambda_new_3_0 : List UInt8 := dkwX1_lambda_new_3_0 ++ []
theorem dksX1_lambda_new_3_0 : cX1_lambda_new_3.data.toList.drop 0 = dktX1_lambda_new_3_0 := by decide +kernel
theorem dX1_lambda_new_3_0 : decode cX1_lambda_new_3 0 = .ok (.aload_n 0, 1) := dk_42 (dk_at dksX1_lambda_new_3_0 0 rfl rfl)
theorem dX1_lambda_new_3_1 : decode cX1_lambda_new_3 1 = .ok (.invokevirtual 425, 3) := dk_182 1 169 (dk_at dksX1_lambda_new_3_0 1 rfl rfl)
theorem dX1_lambda_new_3_4 : decode cX1_lambda_new_3 4 = .ok (.ifCond .eq 8, 3) := dk_153 0 8 (dk_at dksX1_lambda_new_3_0 4 rfl rfl)
theorem dX1_lambda_new_3_7 : decode cX1_lambda_new_3 7 = .ok (.bipush 45, 2) := dk_16 45 (dk_at dksX1_lambda_new_3_0 7 rfl rfl)
theorem dX1_lambda_new_3_9 : decode cX1_lambda_new_3 9 = .ok (.goto 5, 3) := dk_167 0 5 (dk_at dksX1_lambda_new_3_0 9 rfl rfl)
theorem dX1_lambda_new_3_12 : decode cX1_lambda_new_3 12 = .ok (.bipush 111, 2) := dk_16 111 (dk_at dksX1_lambda_new_3_0 12 rfl rfl)
theorem dX1_lambda_new_3_14 : decode cX1_lambda_new_3 14 = .ok (.ireturn, 1) := dk_172 (dk_at dksX1_lambda_new_3_0 14 rfl rfl)
abbrev cX1_isInside : ByteArray := prog_1_method_26_code
def yX1_isInside : MethodName := ⟨RX1, "isInside", "()Z"⟩
def dkwX1_isInside_3 : List UInt8 := [42, 182, 0, 243, 161, 0, 5, 3, 172, 132, 1, 1, 167, 255, 212, 4, 172]
abbrev dktX1_isInside_3 : List UInt8 := dkwX1_isInside_3 ++ []
def dkwX1_isInside_2 : List UInt8 := [162, 0, 39, 42, 180, 0, 30, 27, 182, 0, 248, 16, 60, 162, 0, 18, 42, 180, 0, 30, 27, 182, 0, 252]
abbrev dktX1_isInside_2 : List UInt8 := dkwX1_isInside_2 ++ dktX1_isInside_3
def dkwX1_isInside_1 : List UInt8 := [42, 182, 0, 243, 4, 100, 184, 0, 83, 154, 0, 5, 3, 172, 3, 60, 27, 42, 180, 0, 30, 182, 0, 246]
abbrev dktX1_isInside_1 : List UInt8 := dkwX1_isInside_1 ++ dktX1_isInside_2
def dkwX1_isInside_0 : List UInt8 := [42, 180, 0, 30, 180, 0, 237, 3, 16, 59, 184, 0, 83, 153, 0, 23, 42, 180, 0, 30, 180, 0, 240, 3]
abbrev dktX1_isInside_0 : List UInt8 := dkwX1_isInside_0 ++ dktX1_isInside_1
theorem dksX1_isInside_0 : cX1_isInside.data.toList.drop 0 = dktX1_isInside_0 := by decide +kernel
theorem dksX1_isInside_1 : cX1_isInside.data.toList.drop 24 = dktX1_isInside_1 := dk_seg dksX1_isInside_0 24 rfl rfl
theorem dksX1_isInside_2 : cX1_isInside.data.toList.drop 48 = dktX1_isInside_2 := dk_seg dksX1_isInside_1 24 rfl rfl
theorem dksX1_isInside_3 : cX1_isInside.data.toList.drop 72 = dktX1_isInside_3 := dk_seg dksX1_isInside_2 24 rfl rfl
theorem dX1_isInside_0 : decode cX1_isInside 0 = .ok (.aload_n 0, 1) := dk_42 (dk_at dksX1_isInside_0 0 rfl rfl)
theorem dX1_isInside_1 : decode cX1_isInside 1 = .ok (.getfield 30, 3) := dk_180 0 30 (dk_at dksX1_isInside_0 1 rfl rfl)
theorem dX1_isInside_4 : decode cX1_isInside 4 = .ok (.getfield 237, 3) := dk_180 0 237 (dk_at dksX1_isInside_0 4 rfl rfl)
theorem dX1_isInside_7 : decode cX1_isInside 7 = .ok (.iconst 0, 1) := dk_3 (dk_at dksX1_isInside_0 7 rfl rfl)
theorem dX1_isInside_8 : decode cX1_isInside 8 = .ok (.bipush 59, 2) := dk_16 59 (dk_at dksX1_isInside_0 8 rfl rfl)
theorem dX1_isInside_10 : decode cX1_isInside 10 = .ok (.invokestatic 83, 3) := dk_184 0 83 (dk_at dksX1_isInside_0 10 rfl rfl)
theorem dX1_isInside_13 : decode cX1_isInside 13 = .ok (.ifCond .eq 23, 3) := dk_153 0 23 (dk_at dksX1_isInside_0 13 rfl rfl)
theorem dX1_isInside_16 : decode cX1_isInside 16 = .ok (.aload_n 0, 1) := dk_42 (dk_at dksX1_isInside_0 16 rfl rfl)
theorem dX1_isInside_17 : decode cX1_isInside 17 = .ok (.getfield 30, 3) := dk_180 0 30 (dk_at dksX1_isInside_0 17 rfl rfl)
theorem dX1_isInside_20 : decode cX1_isInside 20 = .ok (.getfield 240, 3) := dk_180 0 240 (dk_at dksX1_isInside_0 20 rfl rfl)
theorem dX1_isInside_23 : decode cX1_isInside 23 = .ok (.iconst 0, 1) := dk_3 (dk_at dksX1_isInside_0 23 rfl rfl)
theorem dX1_isInside_24 : decode cX1_isInside 24 = .ok (.aload_n 0, 1) := dk_42 (dk_at dksX1_isInside_1 0 rfl rfl)
theorem dX1_isInside_25 : decode cX1_isInside 25 = .ok (.invokevirtual 243, 3) := dk_182 0 243 (dk_at dksX1_isInside_1 1 rfl rfl)
theorem dX1_isInside_28 : decode cX1_isInside 28 = .ok (.iconst 1, 1) := dk_4 (dk_at dksX1_isInside_1 4 rfl rfl)
theorem dX1_isInside_29 : decode cX1_isInside 29 = .ok (.isub, 1) := dk_100 (dk_at dksX1_isInside_1 5 rfl rfl)
theorem dX1_isInside_30 : decode cX1_isInside 30 = .ok (.invokestatic 83, 3) := dk_184 0 83 (dk_at dksX1_isInside_1 6 rfl rfl)
theorem dX1_isInside_33 : decode cX1_isInside 33 = .ok (.ifCond .ne 5, 3) := dk_154 0 5 (dk_at dksX1_isInside_1 9 rfl rfl)
theorem dX1_isInside_36 : decode cX1_isInside 36 = .ok (.iconst 0, 1) := dk_3 (dk_at dksX1_isInside_1 12 rfl rfl)
theorem dX1_isInside_37 : decode cX1_isInside 37 = .ok (.ireturn, 1) := dk_172 (dk_at dksX1_isInside_1 13 rfl rfl)
theorem dX1_isInside_38 : decode cX1_isInside 38 = .ok (.iconst 0, 1) := dk_3 (dk_at dksX1_isInside_1 14 rfl rfl)
theorem dX1_isInside_39 : decode cX1_isInside 39 = .ok (.istore_n 1, 1) := dk_60 (dk_at dksX1_isInside_1 15 rfl rfl)
theorem dX1_isInside_40 : decode cX1_isInside 40 = .ok (.iload_n 1, 1) := dk_27 (dk_at dksX1_isInside_1 16 rfl rfl)
theorem dX1_isInside_41 : decode cX1_isInside 41 = .ok (.aload_n 0, 1) := dk_42 (dk_at dksX1_isInside_1 17 rfl rfl)
theorem dX1_isInside_42 : decode cX1_isInside 42 = .ok (.getfield 30, 3) := dk_180 0 30 (dk_at dksX1_isInside_1 18 rfl rfl)
theorem dX1_isInside_45 : decode cX1_isInside 45 = .ok (.invokevirtual 246, 3) := dk_182 0 246 (dk_at dksX1_isInside_1 21 rfl rfl)
theorem dX1_isInside_48 : decode cX1_isInside 48 = .ok (.if_icmp .ge 39, 3) := dk_162 0 39 (dk_at dksX1_isInside_2 0 rfl rfl)
theorem dX1_isInside_51 : decode cX1_isInside 51 = .ok (.aload_n 0, 1) := dk_42 (dk_at dksX1_isInside_2 3 rfl rfl)
theorem dX1_isInside_52 : decode cX1_isInside 52 = .ok (.getfield 30, 3) := dk_180 0 30 (dk_at dksX1_isInside_2 4 rfl rfl)
theorem dX1_isInside_55 : decode cX1_isInside 55 = .ok (.iload_n 1, 1) := dk_27 (dk_at dksX1_isInside_2 7 rfl rfl)
theorem dX1_isInside_56 : decode cX1_isInside 56 = .ok (.invokevirtual 248, 3) := dk_182 0 248 (dk_at dksX1_isInside_2 8 rfl rfl)
theorem dX1_isInside_59 : decode cX1_isInside 59 = .ok (.bipush 60, 2) := dk_16 60 (dk_at dksX1_isInside_2 11 rfl rfl)
theorem dX1_isInside_61 : decode cX1_isInside 61 = .ok (.if_icmp .ge 18, 3) := dk_162 0 18 (dk_at dksX1_isInside_2 13 rfl rfl)
theorem dX1_isInside_64 : decode cX1_isInside 64 = .ok (.aload_n 0, 1) := dk_42 (dk_at dksX1_isInside_2 16 rfl rfl)
theorem dX1_isInside_65 : decode cX1_isInside 65 = .ok (.getfield 30, 3) := dk_180 0 30 (dk_at dksX1_isInside_2 17 rfl rfl)
theorem dX1_isInside_68 : decode cX1_isInside 68 = .ok (.iload_n 1, 1) := dk_27 (dk_at dksX1_isInside_2 20 rfl rfl)
theorem dX1_isInside_69 : decode cX1_isInside 69 = .ok (.invokevirtual 252, 3) := dk_182 0 252 (dk_at dksX1_isInside_2 21 rfl rfl)
theorem dX1_isInside_72 : decode cX1_isInside 72 = .ok (.aload_n 0, 1) := dk_42 (dk_at dksX1_isInside_3 0 rfl rfl)
theorem dX1_isInside_73 : decode cX1_isInside 73 = .ok (.invokevirtual 243, 3) := dk_182 0 243 (dk_at dksX1_isInside_3 1 rfl rfl)
theorem dX1_isInside_76 : decode cX1_isInside 76 = .ok (.if_icmp .lt 5, 3) := dk_161 0 5 (dk_at dksX1_isInside_3 4 rfl rfl)
theorem dX1_isInside_79 : decode cX1_isInside 79 = .ok (.iconst 0, 1) := dk_3 (dk_at dksX1_isInside_3 7 rfl rfl)
theorem dX1_isInside_80 : decode cX1_isInside 80 = .ok (.ireturn, 1) := dk_172 (dk_at dksX1_isInside_3 8 rfl rfl)
theorem dX1_isInside_81 : decode cX1_isInside 81 = .ok (.iinc 1 1, 3) := dk_132 1 1 (dk_at dksX1_isInside_3 9 rfl rfl)
theorem dX1_isInside_84 : decode cX1_isInside 84 = .ok (.goto (-44), 3) := dk_167 255 212 (dk_at dksX1_isInside_3 12 rfl rfl)
theorem dX1_isInside_87 : decode cX1_isInside 87 = .ok (.iconst 1, 1) := dk_4 (dk_at dksX1_isInside_3 15 rfl rfl)
theorem dX1_isInside_88 : decode cX1_isInside 88 = .ok (.ireturn, 1) := dk_172 (dk_at dksX1_isInside_3 16 rfl rfl)
abbrev cX1_isBetween : ByteArray := prog_1_method_2_code
def yX1_isBetween : MethodName := ⟨RX1, "isBetween", "(III)Z"⟩
def dkwX1_isBetween_0 : List UInt8 := [26, 27, 161, 0, 12, 26, 28, 163, 0, 7, 4, 167, 0, 4, 3, 172]
abbrev dktX1_isBetween_0 : List UInt8 := dkwX1_isBetween_0 ++ []
theorem dksX1_isBetween_0 : cX1_isBetween.data.toList.drop 0 = dktX1_isBetween_0 := by decide +kernel
theorem dX1_isBetween_0 : decode cX1_isBetween 0 = .ok (.iload_n 0, 1) := dk_26 (dk_at dksX1_isBetween_0 0 rfl rfl)
theorem dX1_isBetween_1 : decode cX1_isBetween 1 = .ok (.iload_n 1, 1) := dk_27 (dk_at dksX1_isBetween_0 1 rfl rfl)
theorem dX1_isBetween_2 : decode cX1_isBetween 2 = .ok (.if_icmp .lt 12, 3) := dk_161 0 12 (dk_at dksX1_isBetween_0 2 rfl rfl)
theorem dX1_isBetween_5 : decode cX1_isBetween 5 = .ok (.iload_n 0, 1) := dk_26 (dk_at dksX1_isBetween_0 5 rfl rfl)
theorem dX1_isBetween_6 : decode cX1_isBetween 6 = .ok (.iload_n 2, 1) := dk_28 (dk_at dksX1_isBetween_0 6 rfl rfl)
theorem dX1_isBetween_7 : decode cX1_isBetween 7 = .ok (.if_icmp .gt 7, 3) := dk_163 0 7 (dk_at dksX1_isBetween_0 7 rfl rfl)
theorem dX1_isBetween_10 : decode cX1_isBetween 10 = .ok (.iconst 1, 1) := dk_4 (dk_at dksX1_isBetween_0 10 rfl rfl)
theorem dX1_isBetween_11 : decode cX1_isBetween 11 = .ok (.goto 4, 3) := dk_167 0 4 (dk_at dksX1_isBetween_0 11 rfl rfl)
theorem dX1_isBetween_14 : decode cX1_isBetween 14 = .ok (.iconst 0, 1) := dk_3 (dk_at dksX1_isBetween_0 14 rfl rfl)
theorem dX1_isBetween_15 : decode cX1_isBetween 15 = .ok (.ireturn, 1) := dk_172 (dk_at dksX1_isBetween_0 15 rfl rfl)
abbrev cX1_columns : ByteArray := prog_1_method_18_code
def yX1_columns : MethodName := ⟨RX1, "columns", "()I"⟩
def dkwX1_columns_0 : List UInt8 := [42, 180, 0, 199, 153, 0, 12, 42, 180, 0, 46, 5, 108, 167, 0, 7, 42, 180, 0, 46, 172]
abbrev dktX1_columns_0 : List UInt8 := dkwX1_columns_0 ++ []
theorem dksX1_columns_0 : cX1_columns.data.toList.drop 0 = dktX1_columns_0 := by decide +kernel
theorem dX1_columns_0 : decode cX1_columns 0 = .ok (.aload_n 0, 1) := dk_42 (dk_at dksX1_columns_0 0 rfl rfl)
theorem dX1_columns_1 : decode cX1_columns 1 = .ok (.getfield 199, 3) := dk_180 0 199 (dk_at dksX1_columns_0 1 rfl rfl)
theorem dX1_columns_4 : decode cX1_columns 4 = .ok (.ifCond .eq 12, 3) := dk_153 0 12 (dk_at dksX1_columns_0 4 rfl rfl)
theorem dX1_columns_7 : decode cX1_columns 7 = .ok (.aload_n 0, 1) := dk_42 (dk_at dksX1_columns_0 7 rfl rfl)
theorem dX1_columns_8 : decode cX1_columns 8 = .ok (.getfield 46, 3) := dk_180 0 46 (dk_at dksX1_columns_0 8 rfl rfl)
theorem dX1_columns_11 : decode cX1_columns 11 = .ok (.iconst 2, 1) := dk_5 (dk_at dksX1_columns_0 11 rfl rfl)
theorem dX1_columns_12 : decode cX1_columns 12 = .ok (.idiv, 1) := dk_108 (dk_at dksX1_columns_0 12 rfl rfl)
theorem dX1_columns_13 : decode cX1_columns 13 = .ok (.goto 7, 3) := dk_167 0 7 (dk_at dksX1_columns_0 13 rfl rfl)
theorem dX1_columns_16 : decode cX1_columns 16 = .ok (.aload_n 0, 1) := dk_42 (dk_at dksX1_columns_0 16 rfl rfl)
theorem dX1_columns_17 : decode cX1_columns 17 = .ok (.getfield 46, 3) := dk_180 0 46 (dk_at dksX1_columns_0 17 rfl rfl)
theorem dX1_columns_20 : decode cX1_columns 20 = .ok (.ireturn, 1) := dk_172 (dk_at dksX1_columns_0 20 rfl rfl)
abbrev cX1_lambda_new_4 : ByteArray := prog_1_method_77_code
def yX1_lambda_new_4 : MethodName := ⟨RX1, "lambda$new$4", "(LCuttingRoom$Sheet;)C"⟩
def dkwX1_lambda_new_4_0 : List UInt8 := [42, 182, 1, 166, 153, 0, 8, 16, 102, 167, 0, 5, 16, 45, 172]
abbrev dktX1_lambda_new_4_0 : List UInt8 := dkwX1_lambda_new_4_0 ++ []
theorem dksX1_lambda_new_4_0 : cX1_lambda_new_4.data.toList.drop 0 = dktX1_lambda_new_4_0 := by decide +kernel
theorem dX1_lambda_new_4_0 : decode cX1_lambda_new_4 0 = .ok (.aload_n 0, 1) := dk_42 (dk_at dksX1_lambda_new_4_0 0 rfl rfl)
theorem dX1_lambda_new_4_1 : decode cX1_lambda_new_4 1 = .ok (.invokevirtual 422, 3) := dk_182 1 166 (dk_at dksX1_lambda_new_4_0 1 rfl rfl)
theorem dX1_lambda_new_4_4 : decode cX1_lambda_new_4 4 = .ok (.ifCond .eq 8, 3) := dk_153 0 8 (dk_at dksX1_lambda_new_4_0 4 rfl rfl)
theorem dX1_lambda_new_4_7 : decode cX1_lambda_new_4 7 = .ok (.bipush 102, 2) := dk_16 102 (dk_at dksX1_lambda_new_4_0 7 rfl rfl)
theorem dX1_lambda_new_4_9 : decode cX1_lambda_new_4 9 = .ok (.goto 5, 3) := dk_167 0 5 (dk_at dksX1_lambda_new_4_0 9 rfl rfl)
theorem dX1_lambda_new_4_12 : decode cX1_lambda_new_4 12 = .ok (.bipush 45, 2) := dk_16 45 (dk_at dksX1_lambda_new_4_0 12 rfl rfl)
theorem dX1_lambda_new_4_14 : decode cX1_lambda_new_4 14 = .ok (.ireturn, 1) := dk_172 (dk_at dksX1_lambda_new_4_0 14 rfl rfl)
abbrev cX1_isOnFlaw : ByteArray := prog_1_method_27_code
def yX1_isOnFlaw : MethodName := ⟨RX1, "isOnFlaw", "()Z"⟩
def dkwX1_isOnFlaw_1 : List UInt8 := [180, 0, 30, 27, 182, 0, 252, 182, 0, 255, 153, 0, 5, 4, 172, 132, 1, 1, 167, 255, 217, 3, 172]
abbrev dktX1_isOnFlaw_1 : List UInt8 := dkwX1_isOnFlaw_1 ++ []
def dkwX1_isOnFlaw_0 : List UInt8 := [3, 60, 27, 42, 180, 0, 30, 182, 0, 246, 162, 0, 34, 42, 42, 180, 0, 30, 27, 182, 0, 248, 42]
abbrev dktX1_isOnFlaw_0 : List UInt8 := dkwX1_isOnFlaw_0 ++ dktX1_isOnFlaw_1
theorem dksX1_isOnFlaw_0 : cX1_isOnFlaw.data.toList.drop 0 = dktX1_isOnFlaw_0 := by decide +kernel
theorem dksX1_isOnFlaw_1 : cX1_isOnFlaw.data.toList.drop 23 = dktX1_isOnFlaw_1 := dk_seg dksX1_isOnFlaw_0 23 rfl rfl
theorem dX1_isOnFlaw_0 : decode cX1_isOnFlaw 0 = .ok (.iconst 0, 1) := dk_3 (dk_at dksX1_isOnFlaw_0 0 rfl rfl)
theorem dX1_isOnFlaw_1 : decode cX1_isOnFlaw 1 = .ok (.istore_n 1, 1) := dk_60 (dk_at dksX1_isOnFlaw_0 1 rfl rfl)
theorem dX1_isOnFlaw_2 : decode cX1_isOnFlaw 2 = .ok (.iload_n 1, 1) := dk_27 (dk_at dksX1_isOnFlaw_0 2 rfl rfl)
theorem dX1_isOnFlaw_3 : decode cX1_isOnFlaw 3 = .ok (.aload_n 0, 1) := dk_42 (dk_at dksX1_isOnFlaw_0 3 rfl rfl)
theorem dX1_isOnFlaw_4 : decode cX1_isOnFlaw 4 = .ok (.getfield 30, 3) := dk_180 0 30 (dk_at dksX1_isOnFlaw_0 4 rfl rfl)
theorem dX1_isOnFlaw_7 : decode cX1_isOnFlaw 7 = .ok (.invokevirtual 246, 3) := dk_182 0 246 (dk_at dksX1_isOnFlaw_0 7 rfl rfl)
theorem dX1_isOnFlaw_10 : decode cX1_isOnFlaw 10 = .ok (.if_icmp .ge 34, 3) := dk_162 0 34 (dk_at dksX1_isOnFlaw_0 10 rfl rfl)
theorem dX1_isOnFlaw_13 : decode cX1_isOnFlaw 13 = .ok (.aload_n 0, 1) := dk_42 (dk_at dksX1_isOnFlaw_0 13 rfl rfl)
theorem dX1_isOnFlaw_14 : decode cX1_isOnFlaw 14 = .ok (.aload_n 0, 1) := dk_42 (dk_at dksX1_isOnFlaw_0 14 rfl rfl)
theorem dX1_isOnFlaw_15 : decode cX1_isOnFlaw 15 = .ok (.getfield 30, 3) := dk_180 0 30 (dk_at dksX1_isOnFlaw_0 15 rfl rfl)
theorem dX1_isOnFlaw_18 : decode cX1_isOnFlaw 18 = .ok (.iload_n 1, 1) := dk_27 (dk_at dksX1_isOnFlaw_0 18 rfl rfl)
theorem dX1_isOnFlaw_19 : decode cX1_isOnFlaw 19 = .ok (.invokevirtual 248, 3) := dk_182 0 248 (dk_at dksX1_isOnFlaw_0 19 rfl rfl)
theorem dX1_isOnFlaw_22 : decode cX1_isOnFlaw 22 = .ok (.aload_n 0, 1) := dk_42 (dk_at dksX1_isOnFlaw_0 22 rfl rfl)
theorem dX1_isOnFlaw_23 : decode cX1_isOnFlaw 23 = .ok (.getfield 30, 3) := dk_180 0 30 (dk_at dksX1_isOnFlaw_1 0 rfl rfl)
theorem dX1_isOnFlaw_26 : decode cX1_isOnFlaw 26 = .ok (.iload_n 1, 1) := dk_27 (dk_at dksX1_isOnFlaw_1 3 rfl rfl)
theorem dX1_isOnFlaw_27 : decode cX1_isOnFlaw 27 = .ok (.invokevirtual 252, 3) := dk_182 0 252 (dk_at dksX1_isOnFlaw_1 4 rfl rfl)
theorem dX1_isOnFlaw_30 : decode cX1_isOnFlaw 30 = .ok (.invokevirtual 255, 3) := dk_182 0 255 (dk_at dksX1_isOnFlaw_1 7 rfl rfl)
theorem dX1_isOnFlaw_33 : decode cX1_isOnFlaw 33 = .ok (.ifCond .eq 5, 3) := dk_153 0 5 (dk_at dksX1_isOnFlaw_1 10 rfl rfl)
theorem dX1_isOnFlaw_36 : decode cX1_isOnFlaw 36 = .ok (.iconst 1, 1) := dk_4 (dk_at dksX1_isOnFlaw_1 13 rfl rfl)
theorem dX1_isOnFlaw_37 : decode cX1_isOnFlaw 37 = .ok (.ireturn, 1) := dk_172 (dk_at dksX1_isOnFlaw_1 14 rfl rfl)
theorem dX1_isOnFlaw_38 : decode cX1_isOnFlaw 38 = .ok (.iinc 1 1, 3) := dk_132 1 1 (dk_at dksX1_isOnFlaw_1 15 rfl rfl)
theorem dX1_isOnFlaw_41 : decode cX1_isOnFlaw 41 = .ok (.goto (-39), 3) := dk_167 255 217 (dk_at dksX1_isOnFlaw_1 18 rfl rfl)
theorem dX1_isOnFlaw_44 : decode cX1_isOnFlaw 44 = .ok (.iconst 0, 1) := dk_3 (dk_at dksX1_isOnFlaw_1 21 rfl rfl)
theorem dX1_isOnFlaw_45 : decode cX1_isOnFlaw 45 = .ok (.ireturn, 1) := dk_172 (dk_at dksX1_isOnFlaw_1 22 rfl rfl)
abbrev cX1_isFlawed : ByteArray := prog_1_method_21_code
def yX1_isFlawed : MethodName := ⟨RX1, "isFlawed", "(II)Z"⟩
def dkwX1_isFlawed_1 : List UInt8 := [42, 180, 0, 46, 4, 100, 28, 100, 51, 153, 0, 7, 4, 167, 0, 4, 3, 172]
abbrev dktX1_isFlawed_1 : List UInt8 := dkwX1_isFlawed_1 ++ []
def dkwX1_isFlawed_0 : List UInt8 := [42, 180, 0, 24, 27, 50, 28, 51, 154, 0, 28, 42, 180, 0, 199, 153, 0, 25, 42, 180, 0, 24, 27, 50]
abbrev dktX1_isFlawed_0 : List UInt8 := dkwX1_isFlawed_0 ++ dktX1_isFlawed_1
theorem dksX1_isFlawed_0 : cX1_isFlawed.data.toList.drop 0 = dktX1_isFlawed_0 := by decide +kernel
theorem dksX1_isFlawed_1 : cX1_isFlawed.data.toList.drop 24 = dktX1_isFlawed_1 := dk_seg dksX1_isFlawed_0 24 rfl rfl
theorem dX1_isFlawed_0 : decode cX1_isFlawed 0 = .ok (.aload_n 0, 1) := dk_42 (dk_at dksX1_isFlawed_0 0 rfl rfl)
theorem dX1_isFlawed_1 : decode cX1_isFlawed 1 = .ok (.getfield 24, 3) := dk_180 0 24 (dk_at dksX1_isFlawed_0 1 rfl rfl)
theorem dX1_isFlawed_4 : decode cX1_isFlawed 4 = .ok (.iload_n 1, 1) := dk_27 (dk_at dksX1_isFlawed_0 4 rfl rfl)
theorem dX1_isFlawed_5 : decode cX1_isFlawed 5 = .ok (.aaload, 1) := dk_50 (dk_at dksX1_isFlawed_0 5 rfl rfl)
theorem dX1_isFlawed_6 : decode cX1_isFlawed 6 = .ok (.iload_n 2, 1) := dk_28 (dk_at dksX1_isFlawed_0 6 rfl rfl)
theorem dX1_isFlawed_7 : decode cX1_isFlawed 7 = .ok (.baload, 1) := dk_51 (dk_at dksX1_isFlawed_0 7 rfl rfl)
theorem dX1_isFlawed_8 : decode cX1_isFlawed 8 = .ok (.ifCond .ne 28, 3) := dk_154 0 28 (dk_at dksX1_isFlawed_0 8 rfl rfl)
theorem dX1_isFlawed_11 : decode cX1_isFlawed 11 = .ok (.aload_n 0, 1) := dk_42 (dk_at dksX1_isFlawed_0 11 rfl rfl)
theorem dX1_isFlawed_12 : decode cX1_isFlawed 12 = .ok (.getfield 199, 3) := dk_180 0 199 (dk_at dksX1_isFlawed_0 12 rfl rfl)
theorem dX1_isFlawed_15 : decode cX1_isFlawed 15 = .ok (.ifCond .eq 25, 3) := dk_153 0 25 (dk_at dksX1_isFlawed_0 15 rfl rfl)
theorem dX1_isFlawed_18 : decode cX1_isFlawed 18 = .ok (.aload_n 0, 1) := dk_42 (dk_at dksX1_isFlawed_0 18 rfl rfl)
theorem dX1_isFlawed_19 : decode cX1_isFlawed 19 = .ok (.getfield 24, 3) := dk_180 0 24 (dk_at dksX1_isFlawed_0 19 rfl rfl)
theorem dX1_isFlawed_22 : decode cX1_isFlawed 22 = .ok (.iload_n 1, 1) := dk_27 (dk_at dksX1_isFlawed_0 22 rfl rfl)
theorem dX1_isFlawed_23 : decode cX1_isFlawed 23 = .ok (.aaload, 1) := dk_50 (dk_at dksX1_isFlawed_0 23 rfl rfl)
theorem dX1_isFlawed_24 : decode cX1_isFlawed 24 = .ok (.aload_n 0, 1) := dk_42 (dk_at dksX1_isFlawed_1 0 rfl rfl)
theorem dX1_isFlawed_25 : decode cX1_isFlawed 25 = .ok (.getfield 46, 3) := dk_180 0 46 (dk_at dksX1_isFlawed_1 1 rfl rfl)
theorem dX1_isFlawed_28 : decode cX1_isFlawed 28 = .ok (.iconst 1, 1) := dk_4 (dk_at dksX1_isFlawed_1 4 rfl rfl)
theorem dX1_isFlawed_29 : decode cX1_isFlawed 29 = .ok (.isub, 1) := dk_100 (dk_at dksX1_isFlawed_1 5 rfl rfl)
theorem dX1_isFlawed_30 : decode cX1_isFlawed 30 = .ok (.iload_n 2, 1) := dk_28 (dk_at dksX1_isFlawed_1 6 rfl rfl)
theorem dX1_isFlawed_31 : decode cX1_isFlawed 31 = .ok (.isub, 1) := dk_100 (dk_at dksX1_isFlawed_1 7 rfl rfl)
theorem dX1_isFlawed_32 : decode cX1_isFlawed 32 = .ok (.baload, 1) := dk_51 (dk_at dksX1_isFlawed_1 8 rfl rfl)
theorem dX1_isFlawed_33 : decode cX1_isFlawed 33 = .ok (.ifCond .eq 7, 3) := dk_153 0 7 (dk_at dksX1_isFlawed_1 9 rfl rfl)
theorem dX1_isFlawed_36 : decode cX1_isFlawed 36 = .ok (.iconst 1, 1) := dk_4 (dk_at dksX1_isFlawed_1 12 rfl rfl)
theorem dX1_isFlawed_37 : decode cX1_isFlawed 37 = .ok (.goto 4, 3) := dk_167 0 4 (dk_at dksX1_isFlawed_1 13 rfl rfl)
theorem dX1_isFlawed_40 : decode cX1_isFlawed 40 = .ok (.iconst 0, 1) := dk_3 (dk_at dksX1_isFlawed_1 16 rfl rfl)
theorem dX1_isFlawed_41 : decode cX1_isFlawed 41 = .ok (.ireturn, 1) := dk_172 (dk_at dksX1_isFlawed_1 17 rfl rfl)
abbrev cX1_lambda_new_5 : ByteArray := prog_1_method_76_code
def yX1_lambda_new_5 : MethodName := ⟨RX1, "lambda$new$5", "(LCuttingRoom$Sheet;)C"⟩
def dkwX1_lambda_new_5_0 : List UInt8 := [42, 182, 1, 163, 153, 0, 8, 16, 112, 167, 0, 5, 16, 45, 172]
abbrev dktX1_lambda_new_5_0 : List UInt8 := dkwX1_lambda_new_5_0 ++ []
theorem dksX1_lambda_new_5_0 : cX1_lambda_new_5.data.toList.drop 0 = dktX1_lambda_new_5_0 := by decide +kernel
theorem dX1_lambda_new_5_0 : decode cX1_lambda_new_5 0 = .ok (.aload_n 0, 1) := dk_42 (dk_at dksX1_lambda_new_5_0 0 rfl rfl)
theorem dX1_lambda_new_5_1 : decode cX1_lambda_new_5 1 = .ok (.invokevirtual 419, 3) := dk_182 1 163 (dk_at dksX1_lambda_new_5_0 1 rfl rfl)
theorem dX1_lambda_new_5_4 : decode cX1_lambda_new_5 4 = .ok (.ifCond .eq 8, 3) := dk_153 0 8 (dk_at dksX1_lambda_new_5_0 4 rfl rfl)
theorem dX1_lambda_new_5_7 : decode cX1_lambda_new_5 7 = .ok (.bipush 112, 2) := dk_16 112 (dk_at dksX1_lambda_new_5_0 7 rfl rfl)
theorem dX1_lambda_new_5_9 : decode cX1_lambda_new_5 9 = .ok (.goto 5, 3) := dk_167 0 5 (dk_at dksX1_lambda_new_5_0 9 rfl rfl)
theorem dX1_lambda_new_5_12 : decode cX1_lambda_new_5 12 = .ok (.bipush 45, 2) := dk_16 45 (dk_at dksX1_lambda_new_5_0 12 rfl rfl)
theorem dX1_lambda_new_5_14 : decode cX1_lambda_new_5 14 = .ok (.ireturn, 1) := dk_172 (dk_at dksX1_lambda_new_5_0 14 rfl rfl)
abbrev cX1_lambda_new_6 : ByteArray := prog_1_method_75_code
def yX1_lambda_new_6 : MethodName := ⟨RX1, "lambda$new$6", "(LCuttingRoom$Sheet;)C"⟩
def dkwX1_lambda_new_6_0 : List UInt8 := [42, 182, 1, 160, 153, 0, 8, 16, 45, 167, 0, 5, 16, 115, 172]
abbrev dktX1_lambda_new_6_0 : List UInt8 := dkwX1_lambda_new_6_0 ++ []
theorem dksX1_lambda_new_6_0 : cX1_lambda_new_6.data.toList.drop 0 = dktX1_lambda_new_6_0 := by decide +kernel
theorem dX1_lambda_new_6_0 : decode cX1_lambda_new_6 0 = .ok (.aload_n 0, 1) := dk_42 (dk_at dksX1_lambda_new_6_0 0 rfl rfl)
theorem dX1_lambda_new_6_1 : decode cX1_lambda_new_6 1 = .ok (.invokevirtual 416, 3) := dk_182 1 160 (dk_at dksX1_lambda_new_6_0 1 rfl rfl)
theorem dX1_lambda_new_6_4 : decode cX1_lambda_new_6 4 = .ok (.ifCond .eq 8, 3) := dk_153 0 8 (dk_at dksX1_lambda_new_6_0 4 rfl rfl)
theorem dX1_lambda_new_6_7 : decode cX1_lambda_new_6 7 = .ok (.bipush 45, 2) := dk_16 45 (dk_at dksX1_lambda_new_6_0 7 rfl rfl)
theorem dX1_lambda_new_6_9 : decode cX1_lambda_new_6 9 = .ok (.goto 5, 3) := dk_167 0 5 (dk_at dksX1_lambda_new_6_0 9 rfl rfl)
theorem dX1_lambda_new_6_12 : decode cX1_lambda_new_6 12 = .ok (.bipush 115, 2) := dk_16 115 (dk_at dksX1_lambda_new_6_0 12 rfl rfl)
theorem dX1_lambda_new_6_14 : decode cX1_lambda_new_6 14 = .ok (.ireturn, 1) := dk_172 (dk_at dksX1_lambda_new_6_0 14 rfl rfl)
abbrev cX1_clearFlaws : ByteArray := prog_1_method_23_code
def yX1_clearFlaws : MethodName := ⟨RX1, "clearFlaws", "()I"⟩
def dkwX1_clearFlaws_2 : List UInt8 := [181, 0, 202, 27, 172]
abbrev dktX1_clearFlaws_2 : List UInt8 := dkwX1_clearFlaws_2 ++ []
def dkwX1_clearFlaws_1 : List UInt8 := [180, 0, 24, 28, 50, 29, 3, 84, 132, 3, 1, 167, 255, 238, 132, 2, 1, 167, 255, 224, 42, 3]
abbrev dktX1_clearFlaws_1 : List UInt8 := dkwX1_clearFlaws_1 ++ dktX1_clearFlaws_2
def dkwX1_clearFlaws_0 : List UInt8 := [42, 180, 0, 202, 60, 3, 61, 28, 16, 60, 162, 0, 32, 3, 62, 29, 16, 12, 162, 0, 18, 42]
abbrev dktX1_clearFlaws_0 : List UInt8 := dkwX1_clearFlaws_0 ++ dktX1_clearFlaws_1
theorem dksX1_clearFlaws_0 : cX1_clearFlaws.data.toList.drop 0 = dktX1_clearFlaws_0 := by decide +kernel
theorem dksX1_clearFlaws_1 : cX1_clearFlaws.data.toList.drop 22 = dktX1_clearFlaws_1 := dk_seg dksX1_clearFlaws_0 22 rfl rfl
theorem dksX1_clearFlaws_2 : cX1_clearFlaws.data.toList.drop 44 = dktX1_clearFlaws_2 := dk_seg dksX1_clearFlaws_1 22 rfl rfl
theorem dX1_clearFlaws_0 : decode cX1_clearFlaws 0 = .ok (.aload_n 0, 1) := dk_42 (dk_at dksX1_clearFlaws_0 0 rfl rfl)
theorem dX1_clearFlaws_1 : decode cX1_clearFlaws 1 = .ok (.getfield 202, 3) := dk_180 0 202 (dk_at dksX1_clearFlaws_0 1 rfl rfl)
theorem dX1_clearFlaws_4 : decode cX1_clearFlaws 4 = .ok (.istore_n 1, 1) := dk_60 (dk_at dksX1_clearFlaws_0 4 rfl rfl)
theorem dX1_clearFlaws_5 : decode cX1_clearFlaws 5 = .ok (.iconst 0, 1) := dk_3 (dk_at dksX1_clearFlaws_0 5 rfl rfl)
theorem dX1_clearFlaws_6 : decode cX1_clearFlaws 6 = .ok (.istore_n 2, 1) := dk_61 (dk_at dksX1_clearFlaws_0 6 rfl rfl)
theorem dX1_clearFlaws_7 : decode cX1_clearFlaws 7 = .ok (.iload_n 2, 1) := dk_28 (dk_at dksX1_clearFlaws_0 7 rfl rfl)
theorem dX1_clearFlaws_8 : decode cX1_clearFlaws 8 = .ok (.bipush 60, 2) := dk_16 60 (dk_at dksX1_clearFlaws_0 8 rfl rfl)
theorem dX1_clearFlaws_10 : decode cX1_clearFlaws 10 = .ok (.if_icmp .ge 32, 3) := dk_162 0 32 (dk_at dksX1_clearFlaws_0 10 rfl rfl)
theorem dX1_clearFlaws_13 : decode cX1_clearFlaws 13 = .ok (.iconst 0, 1) := dk_3 (dk_at dksX1_clearFlaws_0 13 rfl rfl)
theorem dX1_clearFlaws_14 : decode cX1_clearFlaws 14 = .ok (.istore_n 3, 1) := dk_62 (dk_at dksX1_clearFlaws_0 14 rfl rfl)
theorem dX1_clearFlaws_15 : decode cX1_clearFlaws 15 = .ok (.iload_n 3, 1) := dk_29 (dk_at dksX1_clearFlaws_0 15 rfl rfl)
theorem dX1_clearFlaws_16 : decode cX1_clearFlaws 16 = .ok (.bipush 12, 2) := dk_16 12 (dk_at dksX1_clearFlaws_0 16 rfl rfl)
theorem dX1_clearFlaws_18 : decode cX1_clearFlaws 18 = .ok (.if_icmp .ge 18, 3) := dk_162 0 18 (dk_at dksX1_clearFlaws_0 18 rfl rfl)
theorem dX1_clearFlaws_21 : decode cX1_clearFlaws 21 = .ok (.aload_n 0, 1) := dk_42 (dk_at dksX1_clearFlaws_0 21 rfl rfl)
theorem dX1_clearFlaws_22 : decode cX1_clearFlaws 22 = .ok (.getfield 24, 3) := dk_180 0 24 (dk_at dksX1_clearFlaws_1 0 rfl rfl)
theorem dX1_clearFlaws_25 : decode cX1_clearFlaws 25 = .ok (.iload_n 2, 1) := dk_28 (dk_at dksX1_clearFlaws_1 3 rfl rfl)
theorem dX1_clearFlaws_26 : decode cX1_clearFlaws 26 = .ok (.aaload, 1) := dk_50 (dk_at dksX1_clearFlaws_1 4 rfl rfl)
theorem dX1_clearFlaws_27 : decode cX1_clearFlaws 27 = .ok (.iload_n 3, 1) := dk_29 (dk_at dksX1_clearFlaws_1 5 rfl rfl)
theorem dX1_clearFlaws_28 : decode cX1_clearFlaws 28 = .ok (.iconst 0, 1) := dk_3 (dk_at dksX1_clearFlaws_1 6 rfl rfl)
theorem dX1_clearFlaws_29 : decode cX1_clearFlaws 29 = .ok (.bastore, 1) := dk_84 (dk_at dksX1_clearFlaws_1 7 rfl rfl)
theorem dX1_clearFlaws_30 : decode cX1_clearFlaws 30 = .ok (.iinc 3 1, 3) := dk_132 3 1 (dk_at dksX1_clearFlaws_1 8 rfl rfl)
theorem dX1_clearFlaws_33 : decode cX1_clearFlaws 33 = .ok (.goto (-18), 3) := dk_167 255 238 (dk_at dksX1_clearFlaws_1 11 rfl rfl)
theorem dX1_clearFlaws_36 : decode cX1_clearFlaws 36 = .ok (.iinc 2 1, 3) := dk_132 2 1 (dk_at dksX1_clearFlaws_1 14 rfl rfl)
theorem dX1_clearFlaws_39 : decode cX1_clearFlaws 39 = .ok (.goto (-32), 3) := dk_167 255 224 (dk_at dksX1_clearFlaws_1 17 rfl rfl)
theorem dX1_clearFlaws_42 : decode cX1_clearFlaws 42 = .ok (.aload_n 0, 1) := dk_42 (dk_at dksX1_clearFlaws_1 20 rfl rfl)
theorem dX1_clearFlaws_43 : decode cX1_clearFlaws 43 = .ok (.iconst 0, 1) := dk_3 (dk_at dksX1_clearFlaws_1 21 rfl rfl)
theorem dX1_clearFlaws_44 : decode cX1_clearFlaws 44 = .ok (.putfield 202, 3) := dk_181 0 202 (dk_at dksX1_clearFlaws_2 0 rfl rfl)
theorem dX1_clearFlaws_47 : decode cX1_clearFlaws 47 = .ok (.iload_n 1, 1) := dk_27 (dk_at dksX1_clearFlaws_2 3 rfl rfl)
theorem dX1_clearFlaws_48 : decode cX1_clearFlaws 48 = .ok (.ireturn, 1) := dk_172 (dk_at dksX1_clearFlaws_2 4 rfl rfl)
abbrev cX1_clear : ByteArray := prog_1_method_36_code
def yX1_clear : MethodName := ⟨RX1, "clear", "()I"⟩
def dkwX1_clear_1 : List UInt8 := [42, 180, 0, 39, 182, 0, 215, 27, 172]
abbrev dktX1_clear_1 : List UInt8 := dkwX1_clear_1 ++ []
def dkwX1_clear_0 : List UInt8 := [42, 180, 0, 19, 185, 0, 77, 1, 0, 60, 42, 180, 0, 19, 185, 1, 44, 1, 0, 42, 3, 181, 1, 5]
abbrev dktX1_clear_0 : List UInt8 := dkwX1_clear_0 ++ dktX1_clear_1
theorem dksX1_clear_0 : cX1_clear.data.toList.drop 0 = dktX1_clear_0 := by decide +kernel
theorem dksX1_clear_1 : cX1_clear.data.toList.drop 24 = dktX1_clear_1 := dk_seg dksX1_clear_0 24 rfl rfl
theorem dX1_clear_0 : decode cX1_clear 0 = .ok (.aload_n 0, 1) := dk_42 (dk_at dksX1_clear_0 0 rfl rfl)
theorem dX1_clear_1 : decode cX1_clear 1 = .ok (.getfield 19, 3) := dk_180 0 19 (dk_at dksX1_clear_0 1 rfl rfl)
theorem dX1_clear_4 : decode cX1_clear 4 = .ok (.invokeinterface 77 1, 5) := by decide +kernel
theorem dX1_clear_9 : decode cX1_clear 9 = .ok (.istore_n 1, 1) := dk_60 (dk_at dksX1_clear_0 9 rfl rfl)
theorem dX1_clear_10 : decode cX1_clear 10 = .ok (.aload_n 0, 1) := dk_42 (dk_at dksX1_clear_0 10 rfl rfl)
theorem dX1_clear_11 : decode cX1_clear 11 = .ok (.getfield 19, 3) := dk_180 0 19 (dk_at dksX1_clear_0 11 rfl rfl)
theorem dX1_clear_14 : decode cX1_clear 14 = .ok (.invokeinterface 300 1, 5) := by decide +kernel
theorem dX1_clear_19 : decode cX1_clear 19 = .ok (.aload_n 0, 1) := dk_42 (dk_at dksX1_clear_0 19 rfl rfl)
theorem dX1_clear_20 : decode cX1_clear 20 = .ok (.iconst 0, 1) := dk_3 (dk_at dksX1_clear_0 20 rfl rfl)
theorem dX1_clear_21 : decode cX1_clear 21 = .ok (.putfield 261, 3) := dk_181 1 5 (dk_at dksX1_clear_0 21 rfl rfl)
theorem dX1_clear_24 : decode cX1_clear 24 = .ok (.aload_n 0, 1) := dk_42 (dk_at dksX1_clear_1 0 rfl rfl)
theorem dX1_clear_25 : decode cX1_clear 25 = .ok (.getfield 39, 3) := dk_180 0 39 (dk_at dksX1_clear_1 1 rfl rfl)
theorem dX1_clear_28 : decode cX1_clear 28 = .ok (.invokevirtual 215, 3) := dk_182 0 215 (dk_at dksX1_clear_1 4 rfl rfl)
theorem dX1_clear_31 : decode cX1_clear 31 = .ok (.iload_n 1, 1) := dk_27 (dk_at dksX1_clear_1 7 rfl rfl)
theorem dX1_clear_32 : decode cX1_clear 32 = .ok (.ireturn, 1) := dk_172 (dk_at dksX1_clear_1 8 rfl rfl)
abbrev cX1_inMarker : ByteArray := prog_1_method_37_code
def yX1_inMarker : MethodName := ⟨RX1, "inMarker", "()I"⟩
def dkwX1_inMarker_0 : List UInt8 := [42, 180, 0, 19, 185, 0, 77, 1, 0, 172]
abbrev dktX1_inMarker_0 : List UInt8 := dkwX1_inMarker_0 ++ []
theorem dksX1_inMarker_0 : cX1_inMarker.data.toList.drop 0 = dktX1_inMarker_0 := by decide +kernel
theorem dX1_inMarker_0 : decode cX1_inMarker 0 = .ok (.aload_n 0, 1) := dk_42 (dk_at dksX1_inMarker_0 0 rfl rfl)
theorem dX1_inMarker_1 : decode cX1_inMarker 1 = .ok (.getfield 19, 3) := dk_180 0 19 (dk_at dksX1_inMarker_0 1 rfl rfl)
theorem dX1_inMarker_4 : decode cX1_inMarker 4 = .ok (.invokeinterface 77 1, 5) := by decide +kernel
theorem dX1_inMarker_9 : decode cX1_inMarker 9 = .ok (.ireturn, 1) := dk_172 (dk_at dksX1_inMarker_0 9 rfl rfl)
abbrev cX1_length : ByteArray := prog_1_method_44_code
def yX1_length : MethodName := ⟨RX1, "length", "()I"⟩
def dkwX1_length_0 : List UInt8 := [42, 180, 0, 39, 180, 1, 41, 172]
abbrev dktX1_length_0 : List UInt8 := dkwX1_length_0 ++ []
theorem dksX1_length_0 : cX1_length.data.toList.drop 0 = dktX1_length_0 := by decide +kernel
theorem dX1_length_0 : decode cX1_length 0 = .ok (.aload_n 0, 1) := dk_42 (dk_at dksX1_length_0 0 rfl rfl)
theorem dX1_length_1 : decode cX1_length 1 = .ok (.getfield 39, 3) := dk_180 0 39 (dk_at dksX1_length_0 1 rfl rfl)
theorem dX1_length_4 : decode cX1_length 4 = .ok (.getfield 297, 3) := dk_180 1 41 (dk_at dksX1_length_0 4 rfl rfl)
theorem dX1_length_7 : decode cX1_length 7 = .ok (.ireturn, 1) := dk_172 (dk_at dksX1_length_0 7 rfl rfl)
abbrev cX1_used : ByteArray := prog_1_method_46_code
def yX1_used : MethodName := ⟨RX1, "used", "()I"⟩
theorem dX1_used_0 : decode cX1_used 0 = .ok (.aload_n 0, 1) := by decide +kernel
theorem dX1_used_1 : decode cX1_used 1 = .ok (.invokevirtual 310, 3) := by decide +kernel
theorem dX1_used_4 : decode cX1_used 4 = .ok (.ireturn, 1) := by decide +kernel
abbrev cX1_countCells : ByteArray := prog_1_method_45_code
def yX1_countCells : MethodName := ⟨RX1, "countCells", "()I"⟩
def dkwX1_countCells_2 : List UInt8 := [132, 2, 1, 167, 255, 211, 27, 172]
abbrev dktX1_countCells_2 : List UInt8 := dkwX1_countCells_2 ++ []
def dkwX1_countCells_1 : List UInt8 := [185, 0, 90, 2, 0, 192, 0, 117, 78, 27, 45, 180, 0, 144, 180, 0, 181, 185, 0, 77, 1, 0, 96, 60]
abbrev dktX1_countCells_1 : List UInt8 := dkwX1_countCells_1 ++ dktX1_countCells_2
def dkwX1_countCells_0 : List UInt8 := [3, 60, 3, 61, 28, 42, 180, 0, 19, 185, 0, 77, 1, 0, 162, 0, 38, 42, 180, 0, 19, 28]
abbrev dktX1_countCells_0 : List UInt8 := dkwX1_countCells_0 ++ dktX1_countCells_1
theorem dksX1_countCells_0 : cX1_countCells.data.toList.drop 0 = dktX1_countCells_0 := by decide +kernel
theorem dksX1_countCells_1 : cX1_countCells.data.toList.drop 22 = dktX1_countCells_1 := dk_seg dksX1_countCells_0 22 rfl rfl
theorem dksX1_countCells_2 : cX1_countCells.data.toList.drop 46 = dktX1_countCells_2 := dk_seg dksX1_countCells_1 24 rfl rfl
theorem dX1_countCells_0 : decode cX1_countCells 0 = .ok (.iconst 0, 1) := dk_3 (dk_at dksX1_countCells_0 0 rfl rfl)
theorem dX1_countCells_1 : decode cX1_countCells 1 = .ok (.istore_n 1, 1) := dk_60 (dk_at dksX1_countCells_0 1 rfl rfl)
theorem dX1_countCells_2 : decode cX1_countCells 2 = .ok (.iconst 0, 1) := dk_3 (dk_at dksX1_countCells_0 2 rfl rfl)
theorem dX1_countCells_3 : decode cX1_countCells 3 = .ok (.istore_n 2, 1) := dk_61 (dk_at dksX1_countCells_0 3 rfl rfl)
theorem dX1_countCells_4 : decode cX1_countCells 4 = .ok (.iload_n 2, 1) := dk_28 (dk_at dksX1_countCells_0 4 rfl rfl)
theorem dX1_countCells_5 : decode cX1_countCells 5 = .ok (.aload_n 0, 1) := dk_42 (dk_at dksX1_countCells_0 5 rfl rfl)
theorem dX1_countCells_6 : decode cX1_countCells 6 = .ok (.getfield 19, 3) := dk_180 0 19 (dk_at dksX1_countCells_0 6 rfl rfl)
theorem dX1_countCells_9 : decode cX1_countCells 9 = .ok (.invokeinterface 77 1, 5) := by decide +kernel
theorem dX1_countCells_14 : decode cX1_countCells 14 = .ok (.if_icmp .ge 38, 3) := dk_162 0 38 (dk_at dksX1_countCells_0 14 rfl rfl)
theorem dX1_countCells_17 : decode cX1_countCells 17 = .ok (.aload_n 0, 1) := dk_42 (dk_at dksX1_countCells_0 17 rfl rfl)
theorem dX1_countCells_18 : decode cX1_countCells 18 = .ok (.getfield 19, 3) := dk_180 0 19 (dk_at dksX1_countCells_0 18 rfl rfl)
theorem dX1_countCells_21 : decode cX1_countCells 21 = .ok (.iload_n 2, 1) := dk_28 (dk_at dksX1_countCells_0 21 rfl rfl)
theorem dX1_countCells_22 : decode cX1_countCells 22 = .ok (.invokeinterface 90 2, 5) := by decide +kernel
theorem dX1_countCells_27 : decode cX1_countCells 27 = .ok (.checkcast 117, 3) := dk_192 0 117 (dk_at dksX1_countCells_1 5 rfl rfl)
theorem dX1_countCells_30 : decode cX1_countCells 30 = .ok (.astore_n 3, 1) := dk_78 (dk_at dksX1_countCells_1 8 rfl rfl)
theorem dX1_countCells_31 : decode cX1_countCells 31 = .ok (.iload_n 1, 1) := dk_27 (dk_at dksX1_countCells_1 9 rfl rfl)
theorem dX1_countCells_32 : decode cX1_countCells 32 = .ok (.aload_n 3, 1) := dk_45 (dk_at dksX1_countCells_1 10 rfl rfl)
theorem dX1_countCells_33 : decode cX1_countCells 33 = .ok (.getfield 144, 3) := dk_180 0 144 (dk_at dksX1_countCells_1 11 rfl rfl)
theorem dX1_countCells_36 : decode cX1_countCells 36 = .ok (.getfield 181, 3) := dk_180 0 181 (dk_at dksX1_countCells_1 14 rfl rfl)
theorem dX1_countCells_39 : decode cX1_countCells 39 = .ok (.invokeinterface 77 1, 5) := by decide +kernel
theorem dX1_countCells_44 : decode cX1_countCells 44 = .ok (.iadd, 1) := dk_96 (dk_at dksX1_countCells_1 22 rfl rfl)
theorem dX1_countCells_45 : decode cX1_countCells 45 = .ok (.istore_n 1, 1) := dk_60 (dk_at dksX1_countCells_1 23 rfl rfl)
theorem dX1_countCells_46 : decode cX1_countCells 46 = .ok (.iinc 2 1, 3) := dk_132 2 1 (dk_at dksX1_countCells_2 0 rfl rfl)
theorem dX1_countCells_49 : decode cX1_countCells 49 = .ok (.goto (-45), 3) := dk_167 255 211 (dk_at dksX1_countCells_2 3 rfl rfl)
theorem dX1_countCells_52 : decode cX1_countCells 52 = .ok (.iload_n 1, 1) := dk_27 (dk_at dksX1_countCells_2 6 rfl rfl)
theorem dX1_countCells_53 : decode cX1_countCells 53 = .ok (.ireturn, 1) := dk_172 (dk_at dksX1_countCells_2 7 rfl rfl)
abbrev cX1_roll : ByteArray := prog_1_method_57_code
def yX1_roll : MethodName := ⟨RX1, "roll", "()I"⟩
theorem dX1_roll_0 : decode cX1_roll 0 = .ok (.aload_n 0, 1) := by decide +kernel
theorem dX1_roll_1 : decode cX1_roll 1 = .ok (.getfield 366, 3) := by decide +kernel
theorem dX1_roll_4 : decode cX1_roll 4 = .ok (.ireturn, 1) := by decide +kernel
abbrev cX1_cut : ByteArray := prog_1_method_68_code
def yX1_cut : MethodName := ⟨RX1, "cut", "()J"⟩
theorem dX1_cut_0 : decode cX1_cut 0 = .ok (.aload_n 0, 1) := by decide +kernel
theorem dX1_cut_1 : decode cX1_cut 1 = .ok (.getfield 386, 3) := by decide +kernel
theorem dX1_cut_4 : decode cX1_cut 4 = .ok (.lreturn, 1) := by decide +kernel
abbrev cX1_isSound : ByteArray := prog_1_method_74_code
def yX1_isSound : MethodName := ⟨RX1, "isSound", "()Z"⟩
def dkwX1_isSound_1 : List UInt8 := [172]
abbrev dktX1_isSound_1 : List UInt8 := dkwX1_isSound_1 ++ []
def dkwX1_isSound_0 : List UInt8 := [42, 182, 1, 153, 153, 0, 19, 42, 182, 1, 156, 42, 180, 1, 130, 148, 154, 0, 7, 4, 167, 0, 4, 3]
abbrev dktX1_isSound_0 : List UInt8 := dkwX1_isSound_0 ++ dktX1_isSound_1
theorem dksX1_isSound_0 : cX1_isSound.data.toList.drop 0 = dktX1_isSound_0 := by decide +kernel
theorem dksX1_isSound_1 : cX1_isSound.data.toList.drop 24 = dktX1_isSound_1 := dk_seg dksX1_isSound_0 24 rfl rfl
theorem dX1_isSound_0 : decode cX1_isSound 0 = .ok (.aload_n 0, 1) := dk_42 (dk_at dksX1_isSound_0 0 rfl rfl)
theorem dX1_isSound_1 : decode cX1_isSound 1 = .ok (.invokevirtual 409, 3) := dk_182 1 153 (dk_at dksX1_isSound_0 1 rfl rfl)
theorem dX1_isSound_4 : decode cX1_isSound 4 = .ok (.ifCond .eq 19, 3) := dk_153 0 19 (dk_at dksX1_isSound_0 4 rfl rfl)
theorem dX1_isSound_7 : decode cX1_isSound 7 = .ok (.aload_n 0, 1) := dk_42 (dk_at dksX1_isSound_0 7 rfl rfl)
theorem dX1_isSound_8 : decode cX1_isSound 8 = .ok (.invokevirtual 412, 3) := dk_182 1 156 (dk_at dksX1_isSound_0 8 rfl rfl)
theorem dX1_isSound_11 : decode cX1_isSound 11 = .ok (.aload_n 0, 1) := dk_42 (dk_at dksX1_isSound_0 11 rfl rfl)
theorem dX1_isSound_12 : decode cX1_isSound 12 = .ok (.getfield 386, 3) := dk_180 1 130 (dk_at dksX1_isSound_0 12 rfl rfl)
theorem dX1_isSound_15 : decode cX1_isSound 15 = .ok (.lcmp, 1) := dk_148 (dk_at dksX1_isSound_0 15 rfl rfl)
theorem dX1_isSound_16 : decode cX1_isSound 16 = .ok (.ifCond .ne 7, 3) := dk_154 0 7 (dk_at dksX1_isSound_0 16 rfl rfl)
theorem dX1_isSound_19 : decode cX1_isSound 19 = .ok (.iconst 1, 1) := dk_4 (dk_at dksX1_isSound_0 19 rfl rfl)
theorem dX1_isSound_20 : decode cX1_isSound 20 = .ok (.goto 4, 3) := dk_167 0 4 (dk_at dksX1_isSound_0 20 rfl rfl)
theorem dX1_isSound_23 : decode cX1_isSound 23 = .ok (.iconst 0, 1) := dk_3 (dk_at dksX1_isSound_0 23 rfl rfl)
theorem dX1_isSound_24 : decode cX1_isSound 24 = .ok (.ireturn, 1) := dk_172 (dk_at dksX1_isSound_1 0 rfl rfl)
abbrev cX1_areCellsRight : ByteArray := prog_1_method_72_code
def yX1_areCellsRight : MethodName := ⟨RX1, "areCellsRight", "()Z"⟩
def dkwX1_areCellsRight_3 : List UInt8 := [182, 1, 54, 160, 0, 7, 4, 167, 0, 4, 3, 172]
abbrev dktX1_areCellsRight_3 : List UInt8 := dkwX1_areCellsRight_3 ++ []
def dkwX1_areCellsRight_2 : List UInt8 := [182, 1, 51, 154, 0, 5, 3, 172, 132, 3, 1, 167, 255, 211, 132, 2, 1, 167, 255, 197, 27, 42]
abbrev dktX1_areCellsRight_2 : List UInt8 := dkwX1_areCellsRight_2 ++ dktX1_areCellsRight_3
def dkwX1_areCellsRight_1 : List UInt8 := [182, 0, 211, 54, 4, 21, 4, 2, 159, 0, 22, 132, 1, 1, 42, 21, 4, 182, 1, 31, 28, 29]
abbrev dktX1_areCellsRight_1 : List UInt8 := dkwX1_areCellsRight_1 ++ dktX1_areCellsRight_2
def dkwX1_areCellsRight_0 : List UInt8 := [3, 60, 3, 61, 28, 16, 60, 162, 0, 59, 3, 62, 29, 16, 12, 162, 0, 45, 42, 180, 0, 39, 28, 29]
abbrev dktX1_areCellsRight_0 : List UInt8 := dkwX1_areCellsRight_0 ++ dktX1_areCellsRight_1
theorem dksX1_areCellsRight_0 : cX1_areCellsRight.data.toList.drop 0 = dktX1_areCellsRight_0 := by decide +kernel
theorem dksX1_areCellsRight_1 : cX1_areCellsRight.data.toList.drop 24 = dktX1_areCellsRight_1 := dk_seg dksX1_areCellsRight_0 24 rfl rfl
theorem dksX1_areCellsRight_2 : cX1_areCellsRight.data.toList.drop 46 = dktX1_areCellsRight_2 := dk_seg dksX1_areCellsRight_1 22 rfl rfl
theorem dksX1_areCellsRight_3 : cX1_areCellsRight.data.toList.drop 68 = dktX1_areCellsRight_3 := dk_seg dksX1_areCellsRight_2 22 rfl rfl
theorem dX1_areCellsRight_0 : decode cX1_areCellsRight 0 = .ok (.iconst 0, 1) := dk_3 (dk_at dksX1_areCellsRight_0 0 rfl rfl)
theorem dX1_areCellsRight_1 : decode cX1_areCellsRight 1 = .ok (.istore_n 1, 1) := dk_60 (dk_at dksX1_areCellsRight_0 1 rfl rfl)
theorem dX1_areCellsRight_2 : decode cX1_areCellsRight 2 = .ok (.iconst 0, 1) := dk_3 (dk_at dksX1_areCellsRight_0 2 rfl rfl)
theorem dX1_areCellsRight_3 : decode cX1_areCellsRight 3 = .ok (.istore_n 2, 1) := dk_61 (dk_at dksX1_areCellsRight_0 3 rfl rfl)
theorem dX1_areCellsRight_4 : decode cX1_areCellsRight 4 = .ok (.iload_n 2, 1) := dk_28 (dk_at dksX1_areCellsRight_0 4 rfl rfl)
theorem dX1_areCellsRight_5 : decode cX1_areCellsRight 5 = .ok (.bipush 60, 2) := dk_16 60 (dk_at dksX1_areCellsRight_0 5 rfl rfl)
theorem dX1_areCellsRight_7 : decode cX1_areCellsRight 7 = .ok (.if_icmp .ge 59, 3) := dk_162 0 59 (dk_at dksX1_areCellsRight_0 7 rfl rfl)
theorem dX1_areCellsRight_10 : decode cX1_areCellsRight 10 = .ok (.iconst 0, 1) := dk_3 (dk_at dksX1_areCellsRight_0 10 rfl rfl)
theorem dX1_areCellsRight_11 : decode cX1_areCellsRight 11 = .ok (.istore_n 3, 1) := dk_62 (dk_at dksX1_areCellsRight_0 11 rfl rfl)
theorem dX1_areCellsRight_12 : decode cX1_areCellsRight 12 = .ok (.iload_n 3, 1) := dk_29 (dk_at dksX1_areCellsRight_0 12 rfl rfl)
theorem dX1_areCellsRight_13 : decode cX1_areCellsRight 13 = .ok (.bipush 12, 2) := dk_16 12 (dk_at dksX1_areCellsRight_0 13 rfl rfl)
theorem dX1_areCellsRight_15 : decode cX1_areCellsRight 15 = .ok (.if_icmp .ge 45, 3) := dk_162 0 45 (dk_at dksX1_areCellsRight_0 15 rfl rfl)
theorem dX1_areCellsRight_18 : decode cX1_areCellsRight 18 = .ok (.aload_n 0, 1) := dk_42 (dk_at dksX1_areCellsRight_0 18 rfl rfl)
theorem dX1_areCellsRight_19 : decode cX1_areCellsRight 19 = .ok (.getfield 39, 3) := dk_180 0 39 (dk_at dksX1_areCellsRight_0 19 rfl rfl)
theorem dX1_areCellsRight_22 : decode cX1_areCellsRight 22 = .ok (.iload_n 2, 1) := dk_28 (dk_at dksX1_areCellsRight_0 22 rfl rfl)
theorem dX1_areCellsRight_23 : decode cX1_areCellsRight 23 = .ok (.iload_n 3, 1) := dk_29 (dk_at dksX1_areCellsRight_0 23 rfl rfl)
theorem dX1_areCellsRight_24 : decode cX1_areCellsRight 24 = .ok (.invokevirtual 211, 3) := dk_182 0 211 (dk_at dksX1_areCellsRight_1 0 rfl rfl)
theorem dX1_areCellsRight_27 : decode cX1_areCellsRight 27 = .ok (.istore 4, 2) := dk_54 4 (dk_at dksX1_areCellsRight_1 3 rfl rfl)
theorem dX1_areCellsRight_29 : decode cX1_areCellsRight 29 = .ok (.iload 4, 2) := dk_21 4 (dk_at dksX1_areCellsRight_1 5 rfl rfl)
theorem dX1_areCellsRight_31 : decode cX1_areCellsRight 31 = .ok (.iconst (-1), 1) := dk_2 (dk_at dksX1_areCellsRight_1 7 rfl rfl)
theorem dX1_areCellsRight_32 : decode cX1_areCellsRight 32 = .ok (.if_icmp .eq 22, 3) := dk_159 0 22 (dk_at dksX1_areCellsRight_1 8 rfl rfl)
theorem dX1_areCellsRight_35 : decode cX1_areCellsRight 35 = .ok (.iinc 1 1, 3) := dk_132 1 1 (dk_at dksX1_areCellsRight_1 11 rfl rfl)
theorem dX1_areCellsRight_38 : decode cX1_areCellsRight 38 = .ok (.aload_n 0, 1) := dk_42 (dk_at dksX1_areCellsRight_1 14 rfl rfl)
theorem dX1_areCellsRight_39 : decode cX1_areCellsRight 39 = .ok (.iload 4, 2) := dk_21 4 (dk_at dksX1_areCellsRight_1 15 rfl rfl)
theorem dX1_areCellsRight_41 : decode cX1_areCellsRight 41 = .ok (.invokevirtual 287, 3) := dk_182 1 31 (dk_at dksX1_areCellsRight_1 17 rfl rfl)
theorem dX1_areCellsRight_44 : decode cX1_areCellsRight 44 = .ok (.iload_n 2, 1) := dk_28 (dk_at dksX1_areCellsRight_1 20 rfl rfl)
theorem dX1_areCellsRight_45 : decode cX1_areCellsRight 45 = .ok (.iload_n 3, 1) := dk_29 (dk_at dksX1_areCellsRight_1 21 rfl rfl)
theorem dX1_areCellsRight_46 : decode cX1_areCellsRight 46 = .ok (.invokevirtual 307, 3) := dk_182 1 51 (dk_at dksX1_areCellsRight_2 0 rfl rfl)
theorem dX1_areCellsRight_49 : decode cX1_areCellsRight 49 = .ok (.ifCond .ne 5, 3) := dk_154 0 5 (dk_at dksX1_areCellsRight_2 3 rfl rfl)
theorem dX1_areCellsRight_52 : decode cX1_areCellsRight 52 = .ok (.iconst 0, 1) := dk_3 (dk_at dksX1_areCellsRight_2 6 rfl rfl)
theorem dX1_areCellsRight_53 : decode cX1_areCellsRight 53 = .ok (.ireturn, 1) := dk_172 (dk_at dksX1_areCellsRight_2 7 rfl rfl)
theorem dX1_areCellsRight_54 : decode cX1_areCellsRight 54 = .ok (.iinc 3 1, 3) := dk_132 3 1 (dk_at dksX1_areCellsRight_2 8 rfl rfl)
theorem dX1_areCellsRight_57 : decode cX1_areCellsRight 57 = .ok (.goto (-45), 3) := dk_167 255 211 (dk_at dksX1_areCellsRight_2 11 rfl rfl)
theorem dX1_areCellsRight_60 : decode cX1_areCellsRight 60 = .ok (.iinc 2 1, 3) := dk_132 2 1 (dk_at dksX1_areCellsRight_2 14 rfl rfl)
theorem dX1_areCellsRight_63 : decode cX1_areCellsRight 63 = .ok (.goto (-59), 3) := dk_167 255 197 (dk_at dksX1_areCellsRight_2 17 rfl rfl)
theorem dX1_areCellsRight_66 : decode cX1_areCellsRight 66 = .ok (.iload_n 1, 1) := dk_27 (dk_at dksX1_areCellsRight_2 20 rfl rfl)
theorem dX1_areCellsRight_67 : decode cX1_areCellsRight 67 = .ok (.aload_n 0, 1) := dk_42 (dk_at dksX1_areCellsRight_2 21 rfl rfl)
theorem dX1_areCellsRight_68 : decode cX1_areCellsRight 68 = .ok (.invokevirtual 310, 3) := dk_182 1 54 (dk_at dksX1_areCellsRight_3 0 rfl rfl)
theorem dX1_areCellsRight_71 : decode cX1_areCellsRight 71 = .ok (.if_icmp .ne 7, 3) := dk_160 0 7 (dk_at dksX1_areCellsRight_3 3 rfl rfl)
theorem dX1_areCellsRight_74 : decode cX1_areCellsRight 74 = .ok (.iconst 1, 1) := dk_4 (dk_at dksX1_areCellsRight_3 6 rfl rfl)
theorem dX1_areCellsRight_75 : decode cX1_areCellsRight 75 = .ok (.goto 4, 3) := dk_167 0 4 (dk_at dksX1_areCellsRight_3 7 rfl rfl)
theorem dX1_areCellsRight_78 : decode cX1_areCellsRight 78 = .ok (.iconst 0, 1) := dk_3 (dk_at dksX1_areCellsRight_3 10 rfl rfl)
theorem dX1_areCellsRight_79 : decode cX1_areCellsRight 79 = .ok (.ireturn, 1) := dk_172 (dk_at dksX1_areCellsRight_3 11 rfl rfl)
abbrev cX1_checkedPiece : ByteArray := prog_1_method_10_code
def yX1_checkedPiece : MethodName := ⟨RX1, "checkedPiece", "(I)LCuttingRoom$Piece;"⟩
def dkwX1_checkedPiece_2 : List UInt8 := [167, 255, 216, 187, 0, 122, 89, 183, 0, 124, 191]
abbrev dktX1_checkedPiece_2 : List UInt8 := dkwX1_checkedPiece_2 ++ []
def dkwX1_checkedPiece_1 : List UInt8 := [185, 0, 90, 2, 0, 192, 0, 117, 78, 45, 180, 0, 119, 27, 160, 0, 5, 45, 176, 132, 2, 1]
abbrev dktX1_checkedPiece_1 : List UInt8 := dkwX1_checkedPiece_1 ++ dktX1_checkedPiece_2
def dkwX1_checkedPiece_0 : List UInt8 := [3, 61, 28, 42, 180, 0, 19, 185, 0, 77, 1, 0, 162, 0, 33, 42, 180, 0, 19, 28]
abbrev dktX1_checkedPiece_0 : List UInt8 := dkwX1_checkedPiece_0 ++ dktX1_checkedPiece_1
theorem dksX1_checkedPiece_0 : cX1_checkedPiece.data.toList.drop 0 = dktX1_checkedPiece_0 := by decide +kernel
theorem dksX1_checkedPiece_1 : cX1_checkedPiece.data.toList.drop 20 = dktX1_checkedPiece_1 := dk_seg dksX1_checkedPiece_0 20 rfl rfl
theorem dksX1_checkedPiece_2 : cX1_checkedPiece.data.toList.drop 42 = dktX1_checkedPiece_2 := dk_seg dksX1_checkedPiece_1 22 rfl rfl
theorem dX1_checkedPiece_0 : decode cX1_checkedPiece 0 = .ok (.iconst 0, 1) := dk_3 (dk_at dksX1_checkedPiece_0 0 rfl rfl)
theorem dX1_checkedPiece_1 : decode cX1_checkedPiece 1 = .ok (.istore_n 2, 1) := dk_61 (dk_at dksX1_checkedPiece_0 1 rfl rfl)
theorem dX1_checkedPiece_2 : decode cX1_checkedPiece 2 = .ok (.iload_n 2, 1) := dk_28 (dk_at dksX1_checkedPiece_0 2 rfl rfl)
theorem dX1_checkedPiece_3 : decode cX1_checkedPiece 3 = .ok (.aload_n 0, 1) := dk_42 (dk_at dksX1_checkedPiece_0 3 rfl rfl)
theorem dX1_checkedPiece_4 : decode cX1_checkedPiece 4 = .ok (.getfield 19, 3) := dk_180 0 19 (dk_at dksX1_checkedPiece_0 4 rfl rfl)
theorem dX1_checkedPiece_7 : decode cX1_checkedPiece 7 = .ok (.invokeinterface 77 1, 5) := by decide +kernel
theorem dX1_checkedPiece_12 : decode cX1_checkedPiece 12 = .ok (.if_icmp .ge 33, 3) := dk_162 0 33 (dk_at dksX1_checkedPiece_0 12 rfl rfl)
theorem dX1_checkedPiece_15 : decode cX1_checkedPiece 15 = .ok (.aload_n 0, 1) := dk_42 (dk_at dksX1_checkedPiece_0 15 rfl rfl)
theorem dX1_checkedPiece_16 : decode cX1_checkedPiece 16 = .ok (.getfield 19, 3) := dk_180 0 19 (dk_at dksX1_checkedPiece_0 16 rfl rfl)
theorem dX1_checkedPiece_19 : decode cX1_checkedPiece 19 = .ok (.iload_n 2, 1) := dk_28 (dk_at dksX1_checkedPiece_0 19 rfl rfl)
theorem dX1_checkedPiece_20 : decode cX1_checkedPiece 20 = .ok (.invokeinterface 90 2, 5) := by decide +kernel
theorem dX1_checkedPiece_25 : decode cX1_checkedPiece 25 = .ok (.checkcast 117, 3) := dk_192 0 117 (dk_at dksX1_checkedPiece_1 5 rfl rfl)
theorem dX1_checkedPiece_28 : decode cX1_checkedPiece 28 = .ok (.astore_n 3, 1) := dk_78 (dk_at dksX1_checkedPiece_1 8 rfl rfl)
theorem dX1_checkedPiece_29 : decode cX1_checkedPiece 29 = .ok (.aload_n 3, 1) := dk_45 (dk_at dksX1_checkedPiece_1 9 rfl rfl)
theorem dX1_checkedPiece_30 : decode cX1_checkedPiece 30 = .ok (.getfield 119, 3) := dk_180 0 119 (dk_at dksX1_checkedPiece_1 10 rfl rfl)
theorem dX1_checkedPiece_33 : decode cX1_checkedPiece 33 = .ok (.iload_n 1, 1) := dk_27 (dk_at dksX1_checkedPiece_1 13 rfl rfl)
theorem dX1_checkedPiece_34 : decode cX1_checkedPiece 34 = .ok (.if_icmp .ne 5, 3) := dk_160 0 5 (dk_at dksX1_checkedPiece_1 14 rfl rfl)
theorem dX1_checkedPiece_37 : decode cX1_checkedPiece 37 = .ok (.aload_n 3, 1) := dk_45 (dk_at dksX1_checkedPiece_1 17 rfl rfl)
theorem dX1_checkedPiece_38 : decode cX1_checkedPiece 38 = .ok (.areturn, 1) := dk_176 (dk_at dksX1_checkedPiece_1 18 rfl rfl)
theorem dX1_checkedPiece_39 : decode cX1_checkedPiece 39 = .ok (.iinc 2 1, 3) := dk_132 2 1 (dk_at dksX1_checkedPiece_1 19 rfl rfl)
theorem dX1_checkedPiece_42 : decode cX1_checkedPiece 42 = .ok (.goto (-40), 3) := dk_167 255 216 (dk_at dksX1_checkedPiece_2 0 rfl rfl)
theorem dX1_checkedPiece_45 : decode cX1_checkedPiece 45 = .ok (.new 122, 3) := dk_187 0 122 (dk_at dksX1_checkedPiece_2 3 rfl rfl)
theorem dX1_checkedPiece_48 : decode cX1_checkedPiece 48 = .ok (.dup, 1) := dk_89 (dk_at dksX1_checkedPiece_2 6 rfl rfl)
theorem dX1_checkedPiece_49 : decode cX1_checkedPiece 49 = .ok (.invokespecial 124, 3) := dk_183 0 124 (dk_at dksX1_checkedPiece_2 7 rfl rfl)
theorem dX1_checkedPiece_52 : decode cX1_checkedPiece 52 = .ok (.athrow, 1) := dk_191 (dk_at dksX1_checkedPiece_2 10 rfl rfl)
abbrev cX1_countPieces : ByteArray := prog_1_method_73_code
def yX1_countPieces : MethodName := ⟨RX1, "countPieces", "()J"⟩
def dkwX1_countPieces_4 : List UInt8 := [182, 1, 73, 133, 105, 97, 64, 132, 3, 1, 167, 255, 209, 31, 173]
abbrev dktX1_countPieces_4 : List UInt8 := dkwX1_countPieces_4 ++ []
def dkwX1_countPieces_3 : List UInt8 := [180, 0, 16, 29, 185, 0, 90, 2, 0, 192, 0, 100, 58, 4, 31, 25, 4, 180, 1, 65, 133, 25, 4]
abbrev dktX1_countPieces_3 : List UInt8 := dkwX1_countPieces_3 ++ dktX1_countPieces_4
def dkwX1_countPieces_2 : List UInt8 := [64, 132, 3, 1, 167, 255, 210, 3, 62, 29, 42, 180, 0, 16, 185, 0, 77, 1, 0, 162, 0, 40, 42]
abbrev dktX1_countPieces_2 : List UInt8 := dkwX1_countPieces_2 ++ dktX1_countPieces_3
def dkwX1_countPieces_1 : List UInt8 := [185, 0, 90, 2, 0, 192, 0, 98, 58, 4, 31, 25, 4, 180, 1, 117, 25, 4, 180, 1, 124, 96, 133, 97]
abbrev dktX1_countPieces_1 : List UInt8 := dkwX1_countPieces_1 ++ dktX1_countPieces_2
def dkwX1_countPieces_0 : List UInt8 := [9, 64, 3, 62, 29, 42, 180, 0, 12, 185, 0, 77, 1, 0, 162, 0, 39, 42, 180, 0, 12, 29]
abbrev dktX1_countPieces_0 : List UInt8 := dkwX1_countPieces_0 ++ dktX1_countPieces_1
theorem dksX1_countPieces_0 : cX1_countPieces.data.toList.drop 0 = dktX1_countPieces_0 := by decide +kernel
theorem dksX1_countPieces_1 : cX1_countPieces.data.toList.drop 22 = dktX1_countPieces_1 := dk_seg dksX1_countPieces_0 22 rfl rfl
theorem dksX1_countPieces_2 : cX1_countPieces.data.toList.drop 46 = dktX1_countPieces_2 := dk_seg dksX1_countPieces_1 24 rfl rfl
theorem dksX1_countPieces_3 : cX1_countPieces.data.toList.drop 69 = dktX1_countPieces_3 := dk_seg dksX1_countPieces_2 23 rfl rfl
theorem dksX1_countPieces_4 : cX1_countPieces.data.toList.drop 92 = dktX1_countPieces_4 := dk_seg dksX1_countPieces_3 23 rfl rfl
theorem dX1_countPieces_0 : decode cX1_countPieces 0 = .ok (.lconst 0, 1) := dk_9 (dk_at dksX1_countPieces_0 0 rfl rfl)
theorem dX1_countPieces_1 : decode cX1_countPieces 1 = .ok (.lstore_n 1, 1) := dk_64 (dk_at dksX1_countPieces_0 1 rfl rfl)
theorem dX1_countPieces_2 : decode cX1_countPieces 2 = .ok (.iconst 0, 1) := dk_3 (dk_at dksX1_countPieces_0 2 rfl rfl)
theorem dX1_countPieces_3 : decode cX1_countPieces 3 = .ok (.istore_n 3, 1) := dk_62 (dk_at dksX1_countPieces_0 3 rfl rfl)
theorem dX1_countPieces_4 : decode cX1_countPieces 4 = .ok (.iload_n 3, 1) := dk_29 (dk_at dksX1_countPieces_0 4 rfl rfl)
theorem dX1_countPieces_5 : decode cX1_countPieces 5 = .ok (.aload_n 0, 1) := dk_42 (dk_at dksX1_countPieces_0 5 rfl rfl)
theorem dX1_countPieces_6 : decode cX1_countPieces 6 = .ok (.getfield 12, 3) := dk_180 0 12 (dk_at dksX1_countPieces_0 6 rfl rfl)
theorem dX1_countPieces_9 : decode cX1_countPieces 9 = .ok (.invokeinterface 77 1, 5) := by decide +kernel
theorem dX1_countPieces_14 : decode cX1_countPieces 14 = .ok (.if_icmp .ge 39, 3) := dk_162 0 39 (dk_at dksX1_countPieces_0 14 rfl rfl)
theorem dX1_countPieces_17 : decode cX1_countPieces 17 = .ok (.aload_n 0, 1) := dk_42 (dk_at dksX1_countPieces_0 17 rfl rfl)
theorem dX1_countPieces_18 : decode cX1_countPieces 18 = .ok (.getfield 12, 3) := dk_180 0 12 (dk_at dksX1_countPieces_0 18 rfl rfl)
theorem dX1_countPieces_21 : decode cX1_countPieces 21 = .ok (.iload_n 3, 1) := dk_29 (dk_at dksX1_countPieces_0 21 rfl rfl)
theorem dX1_countPieces_22 : decode cX1_countPieces 22 = .ok (.invokeinterface 90 2, 5) := by decide +kernel
theorem dX1_countPieces_27 : decode cX1_countPieces 27 = .ok (.checkcast 98, 3) := dk_192 0 98 (dk_at dksX1_countPieces_1 5 rfl rfl)
theorem dX1_countPieces_30 : decode cX1_countPieces 30 = .ok (.astore 4, 2) := dk_58 4 (dk_at dksX1_countPieces_1 8 rfl rfl)
theorem dX1_countPieces_32 : decode cX1_countPieces 32 = .ok (.lload_n 1, 1) := dk_31 (dk_at dksX1_countPieces_1 10 rfl rfl)
theorem dX1_countPieces_33 : decode cX1_countPieces 33 = .ok (.aload 4, 2) := dk_25 4 (dk_at dksX1_countPieces_1 11 rfl rfl)
theorem dX1_countPieces_35 : decode cX1_countPieces 35 = .ok (.getfield 373, 3) := dk_180 1 117 (dk_at dksX1_countPieces_1 13 rfl rfl)
theorem dX1_countPieces_38 : decode cX1_countPieces 38 = .ok (.aload 4, 2) := dk_25 4 (dk_at dksX1_countPieces_1 16 rfl rfl)
theorem dX1_countPieces_40 : decode cX1_countPieces 40 = .ok (.getfield 380, 3) := dk_180 1 124 (dk_at dksX1_countPieces_1 18 rfl rfl)
theorem dX1_countPieces_43 : decode cX1_countPieces 43 = .ok (.iadd, 1) := dk_96 (dk_at dksX1_countPieces_1 21 rfl rfl)
theorem dX1_countPieces_44 : decode cX1_countPieces 44 = .ok (.i2l, 1) := dk_133 (dk_at dksX1_countPieces_1 22 rfl rfl)
theorem dX1_countPieces_45 : decode cX1_countPieces 45 = .ok (.ladd, 1) := dk_97 (dk_at dksX1_countPieces_1 23 rfl rfl)
theorem dX1_countPieces_46 : decode cX1_countPieces 46 = .ok (.lstore_n 1, 1) := dk_64 (dk_at dksX1_countPieces_2 0 rfl rfl)
theorem dX1_countPieces_47 : decode cX1_countPieces 47 = .ok (.iinc 3 1, 3) := dk_132 3 1 (dk_at dksX1_countPieces_2 1 rfl rfl)
theorem dX1_countPieces_50 : decode cX1_countPieces 50 = .ok (.goto (-46), 3) := dk_167 255 210 (dk_at dksX1_countPieces_2 4 rfl rfl)
theorem dX1_countPieces_53 : decode cX1_countPieces 53 = .ok (.iconst 0, 1) := dk_3 (dk_at dksX1_countPieces_2 7 rfl rfl)
theorem dX1_countPieces_54 : decode cX1_countPieces 54 = .ok (.istore_n 3, 1) := dk_62 (dk_at dksX1_countPieces_2 8 rfl rfl)
theorem dX1_countPieces_55 : decode cX1_countPieces 55 = .ok (.iload_n 3, 1) := dk_29 (dk_at dksX1_countPieces_2 9 rfl rfl)
theorem dX1_countPieces_56 : decode cX1_countPieces 56 = .ok (.aload_n 0, 1) := dk_42 (dk_at dksX1_countPieces_2 10 rfl rfl)
theorem dX1_countPieces_57 : decode cX1_countPieces 57 = .ok (.getfield 16, 3) := dk_180 0 16 (dk_at dksX1_countPieces_2 11 rfl rfl)
theorem dX1_countPieces_60 : decode cX1_countPieces 60 = .ok (.invokeinterface 77 1, 5) := by decide +kernel
theorem dX1_countPieces_65 : decode cX1_countPieces 65 = .ok (.if_icmp .ge 40, 3) := dk_162 0 40 (dk_at dksX1_countPieces_2 19 rfl rfl)
theorem dX1_countPieces_68 : decode cX1_countPieces 68 = .ok (.aload_n 0, 1) := dk_42 (dk_at dksX1_countPieces_2 22 rfl rfl)
theorem dX1_countPieces_69 : decode cX1_countPieces 69 = .ok (.getfield 16, 3) := dk_180 0 16 (dk_at dksX1_countPieces_3 0 rfl rfl)
theorem dX1_countPieces_72 : decode cX1_countPieces 72 = .ok (.iload_n 3, 1) := dk_29 (dk_at dksX1_countPieces_3 3 rfl rfl)
theorem dX1_countPieces_73 : decode cX1_countPieces 73 = .ok (.invokeinterface 90 2, 5) := by decide +kernel
theorem dX1_countPieces_78 : decode cX1_countPieces 78 = .ok (.checkcast 100, 3) := dk_192 0 100 (dk_at dksX1_countPieces_3 9 rfl rfl)
theorem dX1_countPieces_81 : decode cX1_countPieces 81 = .ok (.astore 4, 2) := dk_58 4 (dk_at dksX1_countPieces_3 12 rfl rfl)
theorem dX1_countPieces_83 : decode cX1_countPieces 83 = .ok (.lload_n 1, 1) := dk_31 (dk_at dksX1_countPieces_3 14 rfl rfl)
theorem dX1_countPieces_84 : decode cX1_countPieces 84 = .ok (.aload 4, 2) := dk_25 4 (dk_at dksX1_countPieces_3 15 rfl rfl)
theorem dX1_countPieces_86 : decode cX1_countPieces 86 = .ok (.getfield 321, 3) := dk_180 1 65 (dk_at dksX1_countPieces_3 17 rfl rfl)
theorem dX1_countPieces_89 : decode cX1_countPieces 89 = .ok (.i2l, 1) := dk_133 (dk_at dksX1_countPieces_3 20 rfl rfl)
theorem dX1_countPieces_90 : decode cX1_countPieces 90 = .ok (.aload 4, 2) := dk_25 4 (dk_at dksX1_countPieces_3 21 rfl rfl)
theorem dX1_countPieces_92 : decode cX1_countPieces 92 = .ok (.invokevirtual 329, 3) := dk_182 1 73 (dk_at dksX1_countPieces_4 0 rfl rfl)
theorem dX1_countPieces_95 : decode cX1_countPieces 95 = .ok (.i2l, 1) := dk_133 (dk_at dksX1_countPieces_4 3 rfl rfl)
theorem dX1_countPieces_96 : decode cX1_countPieces 96 = .ok (.lmul, 1) := dk_105 (dk_at dksX1_countPieces_4 4 rfl rfl)
theorem dX1_countPieces_97 : decode cX1_countPieces 97 = .ok (.ladd, 1) := dk_97 (dk_at dksX1_countPieces_4 5 rfl rfl)
theorem dX1_countPieces_98 : decode cX1_countPieces 98 = .ok (.lstore_n 1, 1) := dk_64 (dk_at dksX1_countPieces_4 6 rfl rfl)
theorem dX1_countPieces_99 : decode cX1_countPieces 99 = .ok (.iinc 3 1, 3) := dk_132 3 1 (dk_at dksX1_countPieces_4 7 rfl rfl)
theorem dX1_countPieces_102 : decode cX1_countPieces 102 = .ok (.goto (-47), 3) := dk_167 255 209 (dk_at dksX1_countPieces_4 10 rfl rfl)
theorem dX1_countPieces_105 : decode cX1_countPieces 105 = .ok (.lload_n 1, 1) := dk_31 (dk_at dksX1_countPieces_4 13 rfl rfl)
theorem dX1_countPieces_106 : decode cX1_countPieces 106 = .ok (.lreturn, 1) := dk_173 (dk_at dksX1_countPieces_4 14 rfl rfl)
abbrev cX1_setCloth : ByteArray := prog_1_method_19_code
def yX1_setCloth : MethodName := ⟨RX1, "setCloth", "(IZI)I"⟩
def dkwX1_setCloth_3 : List UInt8 := [29, 181, 0, 208, 21, 4, 172]
abbrev dktX1_setCloth_3 : List UInt8 := dkwX1_setCloth_3 ++ []
def dkwX1_setCloth_2 : List UInt8 := [167, 0, 4, 3, 184, 0, 152, 42, 180, 0, 46, 54, 4, 42, 27, 181, 0, 46, 42, 28, 181, 0, 205, 42]
abbrev dktX1_setCloth_2 : List UInt8 := dkwX1_setCloth_2 ++ dktX1_setCloth_3
def dkwX1_setCloth_1 : List UInt8 := [3, 184, 0, 141, 42, 180, 0, 19, 185, 0, 109, 1, 0, 153, 0, 14, 42, 180, 0, 202, 154, 0, 7, 4]
abbrev dktX1_setCloth_1 : List UInt8 := dkwX1_setCloth_1 ++ dktX1_setCloth_2
def dkwX1_setCloth_0 : List UInt8 := [27, 5, 16, 12, 184, 0, 83, 153, 0, 17, 29, 3, 16, 6, 184, 0, 83, 153, 0, 7, 4, 167, 0, 4]
abbrev dktX1_setCloth_0 : List UInt8 := dkwX1_setCloth_0 ++ dktX1_setCloth_1
theorem dksX1_setCloth_0 : cX1_setCloth.data.toList.drop 0 = dktX1_setCloth_0 := by decide +kernel
theorem dksX1_setCloth_1 : cX1_setCloth.data.toList.drop 24 = dktX1_setCloth_1 := dk_seg dksX1_setCloth_0 24 rfl rfl
theorem dksX1_setCloth_2 : cX1_setCloth.data.toList.drop 48 = dktX1_setCloth_2 := dk_seg dksX1_setCloth_1 24 rfl rfl
theorem dksX1_setCloth_3 : cX1_setCloth.data.toList.drop 72 = dktX1_setCloth_3 := dk_seg dksX1_setCloth_2 24 rfl rfl
theorem dX1_setCloth_0 : decode cX1_setCloth 0 = .ok (.iload_n 1, 1) := dk_27 (dk_at dksX1_setCloth_0 0 rfl rfl)
theorem dX1_setCloth_1 : decode cX1_setCloth 1 = .ok (.iconst 2, 1) := dk_5 (dk_at dksX1_setCloth_0 1 rfl rfl)
theorem dX1_setCloth_2 : decode cX1_setCloth 2 = .ok (.bipush 12, 2) := dk_16 12 (dk_at dksX1_setCloth_0 2 rfl rfl)
theorem dX1_setCloth_4 : decode cX1_setCloth 4 = .ok (.invokestatic 83, 3) := dk_184 0 83 (dk_at dksX1_setCloth_0 4 rfl rfl)
theorem dX1_setCloth_7 : decode cX1_setCloth 7 = .ok (.ifCond .eq 17, 3) := dk_153 0 17 (dk_at dksX1_setCloth_0 7 rfl rfl)
theorem dX1_setCloth_10 : decode cX1_setCloth 10 = .ok (.iload_n 3, 1) := dk_29 (dk_at dksX1_setCloth_0 10 rfl rfl)
theorem dX1_setCloth_11 : decode cX1_setCloth 11 = .ok (.iconst 0, 1) := dk_3 (dk_at dksX1_setCloth_0 11 rfl rfl)
theorem dX1_setCloth_12 : decode cX1_setCloth 12 = .ok (.bipush 6, 2) := dk_16 6 (dk_at dksX1_setCloth_0 12 rfl rfl)
theorem dX1_setCloth_14 : decode cX1_setCloth 14 = .ok (.invokestatic 83, 3) := dk_184 0 83 (dk_at dksX1_setCloth_0 14 rfl rfl)
theorem dX1_setCloth_17 : decode cX1_setCloth 17 = .ok (.ifCond .eq 7, 3) := dk_153 0 7 (dk_at dksX1_setCloth_0 17 rfl rfl)
theorem dX1_setCloth_20 : decode cX1_setCloth 20 = .ok (.iconst 1, 1) := dk_4 (dk_at dksX1_setCloth_0 20 rfl rfl)
theorem dX1_setCloth_21 : decode cX1_setCloth 21 = .ok (.goto 4, 3) := dk_167 0 4 (dk_at dksX1_setCloth_0 21 rfl rfl)
theorem dX1_setCloth_24 : decode cX1_setCloth 24 = .ok (.iconst 0, 1) := dk_3 (dk_at dksX1_setCloth_1 0 rfl rfl)
theorem dX1_setCloth_25 : decode cX1_setCloth 25 = .ok (.invokestatic 141, 3) := dk_184 0 141 (dk_at dksX1_setCloth_1 1 rfl rfl)
theorem dX1_setCloth_28 : decode cX1_setCloth 28 = .ok (.aload_n 0, 1) := dk_42 (dk_at dksX1_setCloth_1 4 rfl rfl)
theorem dX1_setCloth_29 : decode cX1_setCloth 29 = .ok (.getfield 19, 3) := dk_180 0 19 (dk_at dksX1_setCloth_1 5 rfl rfl)
theorem dX1_setCloth_32 : decode cX1_setCloth 32 = .ok (.invokeinterface 109 1, 5) := by decide +kernel
theorem dX1_setCloth_37 : decode cX1_setCloth 37 = .ok (.ifCond .eq 14, 3) := dk_153 0 14 (dk_at dksX1_setCloth_1 13 rfl rfl)
theorem dX1_setCloth_40 : decode cX1_setCloth 40 = .ok (.aload_n 0, 1) := dk_42 (dk_at dksX1_setCloth_1 16 rfl rfl)
theorem dX1_setCloth_41 : decode cX1_setCloth 41 = .ok (.getfield 202, 3) := dk_180 0 202 (dk_at dksX1_setCloth_1 17 rfl rfl)
theorem dX1_setCloth_44 : decode cX1_setCloth 44 = .ok (.ifCond .ne 7, 3) := dk_154 0 7 (dk_at dksX1_setCloth_1 20 rfl rfl)
theorem dX1_setCloth_47 : decode cX1_setCloth 47 = .ok (.iconst 1, 1) := dk_4 (dk_at dksX1_setCloth_1 23 rfl rfl)
theorem dX1_setCloth_48 : decode cX1_setCloth 48 = .ok (.goto 4, 3) := dk_167 0 4 (dk_at dksX1_setCloth_2 0 rfl rfl)
theorem dX1_setCloth_51 : decode cX1_setCloth 51 = .ok (.iconst 0, 1) := dk_3 (dk_at dksX1_setCloth_2 3 rfl rfl)
theorem dX1_setCloth_52 : decode cX1_setCloth 52 = .ok (.invokestatic 152, 3) := dk_184 0 152 (dk_at dksX1_setCloth_2 4 rfl rfl)
theorem dX1_setCloth_55 : decode cX1_setCloth 55 = .ok (.aload_n 0, 1) := dk_42 (dk_at dksX1_setCloth_2 7 rfl rfl)
theorem dX1_setCloth_56 : decode cX1_setCloth 56 = .ok (.getfield 46, 3) := dk_180 0 46 (dk_at dksX1_setCloth_2 8 rfl rfl)
theorem dX1_setCloth_59 : decode cX1_setCloth 59 = .ok (.istore 4, 2) := dk_54 4 (dk_at dksX1_setCloth_2 11 rfl rfl)
theorem dX1_setCloth_61 : decode cX1_setCloth 61 = .ok (.aload_n 0, 1) := dk_42 (dk_at dksX1_setCloth_2 13 rfl rfl)
theorem dX1_setCloth_62 : decode cX1_setCloth 62 = .ok (.iload_n 1, 1) := dk_27 (dk_at dksX1_setCloth_2 14 rfl rfl)
theorem dX1_setCloth_63 : decode cX1_setCloth 63 = .ok (.putfield 46, 3) := dk_181 0 46 (dk_at dksX1_setCloth_2 15 rfl rfl)
theorem dX1_setCloth_66 : decode cX1_setCloth 66 = .ok (.aload_n 0, 1) := dk_42 (dk_at dksX1_setCloth_2 18 rfl rfl)
theorem dX1_setCloth_67 : decode cX1_setCloth 67 = .ok (.iload_n 2, 1) := dk_28 (dk_at dksX1_setCloth_2 19 rfl rfl)
theorem dX1_setCloth_68 : decode cX1_setCloth 68 = .ok (.putfield 205, 3) := dk_181 0 205 (dk_at dksX1_setCloth_2 20 rfl rfl)
theorem dX1_setCloth_71 : decode cX1_setCloth 71 = .ok (.aload_n 0, 1) := dk_42 (dk_at dksX1_setCloth_2 23 rfl rfl)
theorem dX1_setCloth_72 : decode cX1_setCloth 72 = .ok (.iload_n 3, 1) := dk_29 (dk_at dksX1_setCloth_3 0 rfl rfl)
theorem dX1_setCloth_73 : decode cX1_setCloth 73 = .ok (.putfield 208, 3) := dk_181 0 208 (dk_at dksX1_setCloth_3 1 rfl rfl)
theorem dX1_setCloth_76 : decode cX1_setCloth 76 = .ok (.iload 4, 2) := dk_21 4 (dk_at dksX1_setCloth_3 4 rfl rfl)
theorem dX1_setCloth_78 : decode cX1_setCloth 78 = .ok (.ireturn, 1) := dk_172 (dk_at dksX1_setCloth_3 6 rfl rfl)
abbrev cX1_checkArgument : ByteArray := prog_1_method_3_code
def yX1_checkArgument : MethodName := ⟨RX1, "checkArgument", "(Z)V"⟩
def dkwX1_checkArgument_0 : List UInt8 := [26, 154, 0, 11, 187, 0, 68, 89, 183, 0, 70, 191, 177]
abbrev dktX1_checkArgument_0 : List UInt8 := dkwX1_checkArgument_0 ++ []
theorem dksX1_checkArgument_0 : cX1_checkArgument.data.toList.drop 0 = dktX1_checkArgument_0 := by decide +kernel
theorem dX1_checkArgument_0 : decode cX1_checkArgument 0 = .ok (.iload_n 0, 1) := dk_26 (dk_at dksX1_checkArgument_0 0 rfl rfl)
theorem dX1_checkArgument_1 : decode cX1_checkArgument 1 = .ok (.ifCond .ne 11, 3) := dk_154 0 11 (dk_at dksX1_checkArgument_0 1 rfl rfl)
theorem dX1_checkArgument_4 : decode cX1_checkArgument 4 = .ok (.new 68, 3) := dk_187 0 68 (dk_at dksX1_checkArgument_0 4 rfl rfl)
theorem dX1_checkArgument_7 : decode cX1_checkArgument 7 = .ok (.dup, 1) := dk_89 (dk_at dksX1_checkArgument_0 7 rfl rfl)
theorem dX1_checkArgument_8 : decode cX1_checkArgument 8 = .ok (.invokespecial 70, 3) := dk_183 0 70 (dk_at dksX1_checkArgument_0 8 rfl rfl)
theorem dX1_checkArgument_11 : decode cX1_checkArgument 11 = .ok (.athrow, 1) := dk_191 (dk_at dksX1_checkArgument_0 11 rfl rfl)
theorem dX1_checkArgument_12 : decode cX1_checkArgument 12 = .ok (.return_, 1) := dk_177 (dk_at dksX1_checkArgument_0 12 rfl rfl)
abbrev cX1_checkState : ByteArray := prog_1_method_4_code
def yX1_checkState : MethodName := ⟨RX1, "checkState", "(Z)V"⟩
def dkwX1_checkState_0 : List UInt8 := [26, 154, 0, 11, 187, 0, 71, 89, 183, 0, 73, 191, 177]
abbrev dktX1_checkState_0 : List UInt8 := dkwX1_checkState_0 ++ []
theorem dksX1_checkState_0 : cX1_checkState.data.toList.drop 0 = dktX1_checkState_0 := by decide +kernel
theorem dX1_checkState_0 : decode cX1_checkState 0 = .ok (.iload_n 0, 1) := dk_26 (dk_at dksX1_checkState_0 0 rfl rfl)
theorem dX1_checkState_1 : decode cX1_checkState 1 = .ok (.ifCond .ne 11, 3) := dk_154 0 11 (dk_at dksX1_checkState_0 1 rfl rfl)
theorem dX1_checkState_4 : decode cX1_checkState 4 = .ok (.new 71, 3) := dk_187 0 71 (dk_at dksX1_checkState_0 4 rfl rfl)
theorem dX1_checkState_7 : decode cX1_checkState 7 = .ok (.dup, 1) := dk_89 (dk_at dksX1_checkState_0 7 rfl rfl)
theorem dX1_checkState_8 : decode cX1_checkState 8 = .ok (.invokespecial 73, 3) := dk_183 0 73 (dk_at dksX1_checkState_0 8 rfl rfl)
theorem dX1_checkState_11 : decode cX1_checkState 11 = .ok (.athrow, 1) := dk_191 (dk_at dksX1_checkState_0 11 rfl rfl)
theorem dX1_checkState_12 : decode cX1_checkState 12 = .ok (.return_, 1) := dk_177 (dk_at dksX1_checkState_0 12 rfl rfl)
abbrev cX1_fold : ByteArray := prog_1_method_20_code
def yX1_fold : MethodName := ⟨RX1, "fold", "(Z)Z"⟩
def dkwX1_fold_0 : List UInt8 := [42, 180, 0, 19, 185, 0, 109, 1, 0, 184, 0, 152, 42, 180, 0, 199, 61, 42, 27, 181, 0, 199, 28, 172]
abbrev dktX1_fold_0 : List UInt8 := dkwX1_fold_0 ++ []
theorem dksX1_fold_0 : cX1_fold.data.toList.drop 0 = dktX1_fold_0 := by decide +kernel
theorem dX1_fold_0 : decode cX1_fold 0 = .ok (.aload_n 0, 1) := dk_42 (dk_at dksX1_fold_0 0 rfl rfl)
theorem dX1_fold_1 : decode cX1_fold 1 = .ok (.getfield 19, 3) := dk_180 0 19 (dk_at dksX1_fold_0 1 rfl rfl)
theorem dX1_fold_4 : decode cX1_fold 4 = .ok (.invokeinterface 109 1, 5) := by decide +kernel
theorem dX1_fold_9 : decode cX1_fold 9 = .ok (.invokestatic 152, 3) := dk_184 0 152 (dk_at dksX1_fold_0 9 rfl rfl)
theorem dX1_fold_12 : decode cX1_fold 12 = .ok (.aload_n 0, 1) := dk_42 (dk_at dksX1_fold_0 12 rfl rfl)
theorem dX1_fold_13 : decode cX1_fold 13 = .ok (.getfield 199, 3) := dk_180 0 199 (dk_at dksX1_fold_0 13 rfl rfl)
theorem dX1_fold_16 : decode cX1_fold 16 = .ok (.istore_n 2, 1) := dk_61 (dk_at dksX1_fold_0 16 rfl rfl)
theorem dX1_fold_17 : decode cX1_fold 17 = .ok (.aload_n 0, 1) := dk_42 (dk_at dksX1_fold_0 17 rfl rfl)
theorem dX1_fold_18 : decode cX1_fold 18 = .ok (.iload_n 1, 1) := dk_27 (dk_at dksX1_fold_0 18 rfl rfl)
theorem dX1_fold_19 : decode cX1_fold 19 = .ok (.putfield 199, 3) := dk_181 0 199 (dk_at dksX1_fold_0 19 rfl rfl)
theorem dX1_fold_22 : decode cX1_fold 22 = .ok (.iload_n 2, 1) := dk_28 (dk_at dksX1_fold_0 22 rfl rfl)
theorem dX1_fold_23 : decode cX1_fold 23 = .ok (.ireturn, 1) := dk_172 (dk_at dksX1_fold_0 23 rfl rfl)
abbrev cX1_addFlaw : ByteArray := prog_1_method_22_code
def yX1_addFlaw : MethodName := ⟨RX1, "addFlaw", "(II)I"⟩
def dkwX1_addFlaw_5 : List UInt8 := [180, 0, 202, 4, 96, 181, 0, 202, 42, 180, 0, 202, 172]
abbrev dktX1_addFlaw_5 : List UInt8 := dkwX1_addFlaw_5 ++ []
def dkwX1_addFlaw_4 : List UInt8 := [16, 12, 162, 0, 7, 4, 167, 0, 4, 3, 184, 0, 152, 42, 180, 0, 24, 27, 50, 28, 4, 84, 42, 89]
abbrev dktX1_addFlaw_4 : List UInt8 := dkwX1_addFlaw_4 ++ dktX1_addFlaw_5
def dkwX1_addFlaw_3 : List UInt8 := [4, 100, 28, 100, 182, 0, 211, 2, 160, 0, 7, 4, 167, 0, 4, 3, 184, 0, 113, 42, 180, 0, 202]
abbrev dktX1_addFlaw_3 : List UInt8 := dkwX1_addFlaw_3 ++ dktX1_addFlaw_4
def dkwX1_addFlaw_2 : List UInt8 := [28, 182, 0, 211, 2, 160, 0, 34, 42, 180, 0, 199, 153, 0, 23, 42, 180, 0, 39, 27, 42, 180, 0, 46]
abbrev dktX1_addFlaw_2 : List UInt8 := dkwX1_addFlaw_2 ++ dktX1_addFlaw_3
def dkwX1_addFlaw_1 : List UInt8 := [4, 167, 0, 4, 3, 184, 0, 141, 42, 180, 0, 24, 27, 50, 28, 51, 154, 0, 87, 42, 180, 0, 39, 27]
abbrev dktX1_addFlaw_1 : List UInt8 := dkwX1_addFlaw_1 ++ dktX1_addFlaw_2
def dkwX1_addFlaw_0 : List UInt8 := [27, 3, 16, 59, 184, 0, 83, 153, 0, 21, 28, 3, 42, 180, 0, 46, 4, 100, 184, 0, 83, 153, 0, 7]
abbrev dktX1_addFlaw_0 : List UInt8 := dkwX1_addFlaw_0 ++ dktX1_addFlaw_1
theorem dksX1_addFlaw_0 : cX1_addFlaw.data.toList.drop 0 = dktX1_addFlaw_0 := by decide +kernel
theorem dksX1_addFlaw_1 : cX1_addFlaw.data.toList.drop 24 = dktX1_addFlaw_1 := dk_seg dksX1_addFlaw_0 24 rfl rfl
theorem dksX1_addFlaw_2 : cX1_addFlaw.data.toList.drop 48 = dktX1_addFlaw_2 := dk_seg dksX1_addFlaw_1 24 rfl rfl
theorem dksX1_addFlaw_3 : cX1_addFlaw.data.toList.drop 72 = dktX1_addFlaw_3 := dk_seg dksX1_addFlaw_2 24 rfl rfl
theorem dksX1_addFlaw_4 : cX1_addFlaw.data.toList.drop 95 = dktX1_addFlaw_4 := dk_seg dksX1_addFlaw_3 23 rfl rfl
theorem dksX1_addFlaw_5 : cX1_addFlaw.data.toList.drop 119 = dktX1_addFlaw_5 := dk_seg dksX1_addFlaw_4 24 rfl rfl
theorem dX1_addFlaw_0 : decode cX1_addFlaw 0 = .ok (.iload_n 1, 1) := dk_27 (dk_at dksX1_addFlaw_0 0 rfl rfl)
theorem dX1_addFlaw_1 : decode cX1_addFlaw 1 = .ok (.iconst 0, 1) := dk_3 (dk_at dksX1_addFlaw_0 1 rfl rfl)
theorem dX1_addFlaw_2 : decode cX1_addFlaw 2 = .ok (.bipush 59, 2) := dk_16 59 (dk_at dksX1_addFlaw_0 2 rfl rfl)
theorem dX1_addFlaw_4 : decode cX1_addFlaw 4 = .ok (.invokestatic 83, 3) := dk_184 0 83 (dk_at dksX1_addFlaw_0 4 rfl rfl)
theorem dX1_addFlaw_7 : decode cX1_addFlaw 7 = .ok (.ifCond .eq 21, 3) := dk_153 0 21 (dk_at dksX1_addFlaw_0 7 rfl rfl)
theorem dX1_addFlaw_10 : decode cX1_addFlaw 10 = .ok (.iload_n 2, 1) := dk_28 (dk_at dksX1_addFlaw_0 10 rfl rfl)
theorem dX1_addFlaw_11 : decode cX1_addFlaw 11 = .ok (.iconst 0, 1) := dk_3 (dk_at dksX1_addFlaw_0 11 rfl rfl)
theorem dX1_addFlaw_12 : decode cX1_addFlaw 12 = .ok (.aload_n 0, 1) := dk_42 (dk_at dksX1_addFlaw_0 12 rfl rfl)
theorem dX1_addFlaw_13 : decode cX1_addFlaw 13 = .ok (.getfield 46, 3) := dk_180 0 46 (dk_at dksX1_addFlaw_0 13 rfl rfl)
theorem dX1_addFlaw_16 : decode cX1_addFlaw 16 = .ok (.iconst 1, 1) := dk_4 (dk_at dksX1_addFlaw_0 16 rfl rfl)
theorem dX1_addFlaw_17 : decode cX1_addFlaw 17 = .ok (.isub, 1) := dk_100 (dk_at dksX1_addFlaw_0 17 rfl rfl)
theorem dX1_addFlaw_18 : decode cX1_addFlaw 18 = .ok (.invokestatic 83, 3) := dk_184 0 83 (dk_at dksX1_addFlaw_0 18 rfl rfl)
theorem dX1_addFlaw_21 : decode cX1_addFlaw 21 = .ok (.ifCond .eq 7, 3) := dk_153 0 7 (dk_at dksX1_addFlaw_0 21 rfl rfl)
theorem dX1_addFlaw_24 : decode cX1_addFlaw 24 = .ok (.iconst 1, 1) := dk_4 (dk_at dksX1_addFlaw_1 0 rfl rfl)
theorem dX1_addFlaw_25 : decode cX1_addFlaw 25 = .ok (.goto 4, 3) := dk_167 0 4 (dk_at dksX1_addFlaw_1 1 rfl rfl)
theorem dX1_addFlaw_28 : decode cX1_addFlaw 28 = .ok (.iconst 0, 1) := dk_3 (dk_at dksX1_addFlaw_1 4 rfl rfl)
theorem dX1_addFlaw_29 : decode cX1_addFlaw 29 = .ok (.invokestatic 141, 3) := dk_184 0 141 (dk_at dksX1_addFlaw_1 5 rfl rfl)
theorem dX1_addFlaw_32 : decode cX1_addFlaw 32 = .ok (.aload_n 0, 1) := dk_42 (dk_at dksX1_addFlaw_1 8 rfl rfl)
theorem dX1_addFlaw_33 : decode cX1_addFlaw 33 = .ok (.getfield 24, 3) := dk_180 0 24 (dk_at dksX1_addFlaw_1 9 rfl rfl)
theorem dX1_addFlaw_36 : decode cX1_addFlaw 36 = .ok (.iload_n 1, 1) := dk_27 (dk_at dksX1_addFlaw_1 12 rfl rfl)
theorem dX1_addFlaw_37 : decode cX1_addFlaw 37 = .ok (.aaload, 1) := dk_50 (dk_at dksX1_addFlaw_1 13 rfl rfl)
theorem dX1_addFlaw_38 : decode cX1_addFlaw 38 = .ok (.iload_n 2, 1) := dk_28 (dk_at dksX1_addFlaw_1 14 rfl rfl)
theorem dX1_addFlaw_39 : decode cX1_addFlaw 39 = .ok (.baload, 1) := dk_51 (dk_at dksX1_addFlaw_1 15 rfl rfl)
theorem dX1_addFlaw_40 : decode cX1_addFlaw 40 = .ok (.ifCond .ne 87, 3) := dk_154 0 87 (dk_at dksX1_addFlaw_1 16 rfl rfl)
theorem dX1_addFlaw_43 : decode cX1_addFlaw 43 = .ok (.aload_n 0, 1) := dk_42 (dk_at dksX1_addFlaw_1 19 rfl rfl)
theorem dX1_addFlaw_44 : decode cX1_addFlaw 44 = .ok (.getfield 39, 3) := dk_180 0 39 (dk_at dksX1_addFlaw_1 20 rfl rfl)
theorem dX1_addFlaw_47 : decode cX1_addFlaw 47 = .ok (.iload_n 1, 1) := dk_27 (dk_at dksX1_addFlaw_1 23 rfl rfl)
theorem dX1_addFlaw_48 : decode cX1_addFlaw 48 = .ok (.iload_n 2, 1) := dk_28 (dk_at dksX1_addFlaw_2 0 rfl rfl)
theorem dX1_addFlaw_49 : decode cX1_addFlaw 49 = .ok (.invokevirtual 211, 3) := dk_182 0 211 (dk_at dksX1_addFlaw_2 1 rfl rfl)
theorem dX1_addFlaw_52 : decode cX1_addFlaw 52 = .ok (.iconst (-1), 1) := dk_2 (dk_at dksX1_addFlaw_2 4 rfl rfl)
theorem dX1_addFlaw_53 : decode cX1_addFlaw 53 = .ok (.if_icmp .ne 34, 3) := dk_160 0 34 (dk_at dksX1_addFlaw_2 5 rfl rfl)
theorem dX1_addFlaw_56 : decode cX1_addFlaw 56 = .ok (.aload_n 0, 1) := dk_42 (dk_at dksX1_addFlaw_2 8 rfl rfl)
theorem dX1_addFlaw_57 : decode cX1_addFlaw 57 = .ok (.getfield 199, 3) := dk_180 0 199 (dk_at dksX1_addFlaw_2 9 rfl rfl)
theorem dX1_addFlaw_60 : decode cX1_addFlaw 60 = .ok (.ifCond .eq 23, 3) := dk_153 0 23 (dk_at dksX1_addFlaw_2 12 rfl rfl)
theorem dX1_addFlaw_63 : decode cX1_addFlaw 63 = .ok (.aload_n 0, 1) := dk_42 (dk_at dksX1_addFlaw_2 15 rfl rfl)
theorem dX1_addFlaw_64 : decode cX1_addFlaw 64 = .ok (.getfield 39, 3) := dk_180 0 39 (dk_at dksX1_addFlaw_2 16 rfl rfl)
theorem dX1_addFlaw_67 : decode cX1_addFlaw 67 = .ok (.iload_n 1, 1) := dk_27 (dk_at dksX1_addFlaw_2 19 rfl rfl)
theorem dX1_addFlaw_68 : decode cX1_addFlaw 68 = .ok (.aload_n 0, 1) := dk_42 (dk_at dksX1_addFlaw_2 20 rfl rfl)
theorem dX1_addFlaw_69 : decode cX1_addFlaw 69 = .ok (.getfield 46, 3) := dk_180 0 46 (dk_at dksX1_addFlaw_2 21 rfl rfl)
theorem dX1_addFlaw_72 : decode cX1_addFlaw 72 = .ok (.iconst 1, 1) := dk_4 (dk_at dksX1_addFlaw_3 0 rfl rfl)
theorem dX1_addFlaw_73 : decode cX1_addFlaw 73 = .ok (.isub, 1) := dk_100 (dk_at dksX1_addFlaw_3 1 rfl rfl)
theorem dX1_addFlaw_74 : decode cX1_addFlaw 74 = .ok (.iload_n 2, 1) := dk_28 (dk_at dksX1_addFlaw_3 2 rfl rfl)
theorem dX1_addFlaw_75 : decode cX1_addFlaw 75 = .ok (.isub, 1) := dk_100 (dk_at dksX1_addFlaw_3 3 rfl rfl)
theorem dX1_addFlaw_76 : decode cX1_addFlaw 76 = .ok (.invokevirtual 211, 3) := dk_182 0 211 (dk_at dksX1_addFlaw_3 4 rfl rfl)
theorem dX1_addFlaw_79 : decode cX1_addFlaw 79 = .ok (.iconst (-1), 1) := dk_2 (dk_at dksX1_addFlaw_3 7 rfl rfl)
theorem dX1_addFlaw_80 : decode cX1_addFlaw 80 = .ok (.if_icmp .ne 7, 3) := dk_160 0 7 (dk_at dksX1_addFlaw_3 8 rfl rfl)
theorem dX1_addFlaw_83 : decode cX1_addFlaw 83 = .ok (.iconst 1, 1) := dk_4 (dk_at dksX1_addFlaw_3 11 rfl rfl)
theorem dX1_addFlaw_84 : decode cX1_addFlaw 84 = .ok (.goto 4, 3) := dk_167 0 4 (dk_at dksX1_addFlaw_3 12 rfl rfl)
theorem dX1_addFlaw_87 : decode cX1_addFlaw 87 = .ok (.iconst 0, 1) := dk_3 (dk_at dksX1_addFlaw_3 15 rfl rfl)
theorem dX1_addFlaw_88 : decode cX1_addFlaw 88 = .ok (.invokestatic 113, 3) := dk_184 0 113 (dk_at dksX1_addFlaw_3 16 rfl rfl)
theorem dX1_addFlaw_91 : decode cX1_addFlaw 91 = .ok (.aload_n 0, 1) := dk_42 (dk_at dksX1_addFlaw_3 19 rfl rfl)
theorem dX1_addFlaw_92 : decode cX1_addFlaw 92 = .ok (.getfield 202, 3) := dk_180 0 202 (dk_at dksX1_addFlaw_3 20 rfl rfl)
theorem dX1_addFlaw_95 : decode cX1_addFlaw 95 = .ok (.bipush 12, 2) := dk_16 12 (dk_at dksX1_addFlaw_4 0 rfl rfl)
theorem dX1_addFlaw_97 : decode cX1_addFlaw 97 = .ok (.if_icmp .ge 7, 3) := dk_162 0 7 (dk_at dksX1_addFlaw_4 2 rfl rfl)
theorem dX1_addFlaw_100 : decode cX1_addFlaw 100 = .ok (.iconst 1, 1) := dk_4 (dk_at dksX1_addFlaw_4 5 rfl rfl)
theorem dX1_addFlaw_101 : decode cX1_addFlaw 101 = .ok (.goto 4, 3) := dk_167 0 4 (dk_at dksX1_addFlaw_4 6 rfl rfl)
theorem dX1_addFlaw_104 : decode cX1_addFlaw 104 = .ok (.iconst 0, 1) := dk_3 (dk_at dksX1_addFlaw_4 9 rfl rfl)
theorem dX1_addFlaw_105 : decode cX1_addFlaw 105 = .ok (.invokestatic 152, 3) := dk_184 0 152 (dk_at dksX1_addFlaw_4 10 rfl rfl)
theorem dX1_addFlaw_108 : decode cX1_addFlaw 108 = .ok (.aload_n 0, 1) := dk_42 (dk_at dksX1_addFlaw_4 13 rfl rfl)
theorem dX1_addFlaw_109 : decode cX1_addFlaw 109 = .ok (.getfield 24, 3) := dk_180 0 24 (dk_at dksX1_addFlaw_4 14 rfl rfl)
theorem dX1_addFlaw_112 : decode cX1_addFlaw 112 = .ok (.iload_n 1, 1) := dk_27 (dk_at dksX1_addFlaw_4 17 rfl rfl)
theorem dX1_addFlaw_113 : decode cX1_addFlaw 113 = .ok (.aaload, 1) := dk_50 (dk_at dksX1_addFlaw_4 18 rfl rfl)
theorem dX1_addFlaw_114 : decode cX1_addFlaw 114 = .ok (.iload_n 2, 1) := dk_28 (dk_at dksX1_addFlaw_4 19 rfl rfl)
theorem dX1_addFlaw_115 : decode cX1_addFlaw 115 = .ok (.iconst 1, 1) := dk_4 (dk_at dksX1_addFlaw_4 20 rfl rfl)
theorem dX1_addFlaw_116 : decode cX1_addFlaw 116 = .ok (.bastore, 1) := dk_84 (dk_at dksX1_addFlaw_4 21 rfl rfl)
theorem dX1_addFlaw_117 : decode cX1_addFlaw 117 = .ok (.aload_n 0, 1) := dk_42 (dk_at dksX1_addFlaw_4 22 rfl rfl)
theorem dX1_addFlaw_118 : decode cX1_addFlaw 118 = .ok (.dup, 1) := dk_89 (dk_at dksX1_addFlaw_4 23 rfl rfl)
theorem dX1_addFlaw_119 : decode cX1_addFlaw 119 = .ok (.getfield 202, 3) := dk_180 0 202 (dk_at dksX1_addFlaw_5 0 rfl rfl)
theorem dX1_addFlaw_122 : decode cX1_addFlaw 122 = .ok (.iconst 1, 1) := dk_4 (dk_at dksX1_addFlaw_5 3 rfl rfl)
theorem dX1_addFlaw_123 : decode cX1_addFlaw 123 = .ok (.iadd, 1) := dk_96 (dk_at dksX1_addFlaw_5 4 rfl rfl)
theorem dX1_addFlaw_124 : decode cX1_addFlaw 124 = .ok (.putfield 202, 3) := dk_181 0 202 (dk_at dksX1_addFlaw_5 5 rfl rfl)
theorem dX1_addFlaw_127 : decode cX1_addFlaw 127 = .ok (.aload_n 0, 1) := dk_42 (dk_at dksX1_addFlaw_5 8 rfl rfl)
theorem dX1_addFlaw_128 : decode cX1_addFlaw 128 = .ok (.getfield 202, 3) := dk_180 0 202 (dk_at dksX1_addFlaw_5 9 rfl rfl)
theorem dX1_addFlaw_131 : decode cX1_addFlaw 131 = .ok (.ireturn, 1) := dk_172 (dk_at dksX1_addFlaw_5 12 rfl rfl)
abbrev cX1_checkSupported : ByteArray := prog_1_method_5_code
def yX1_checkSupported : MethodName := ⟨RX1, "checkSupported", "(Z)V"⟩
def dkwX1_checkSupported_0 : List UInt8 := [26, 154, 0, 11, 187, 0, 74, 89, 183, 0, 76, 191, 177]
abbrev dktX1_checkSupported_0 : List UInt8 := dkwX1_checkSupported_0 ++ []
theorem dksX1_checkSupported_0 : cX1_checkSupported.data.toList.drop 0 = dktX1_checkSupported_0 := by decide +kernel
theorem dX1_checkSupported_0 : decode cX1_checkSupported 0 = .ok (.iload_n 0, 1) := dk_26 (dk_at dksX1_checkSupported_0 0 rfl rfl)
theorem dX1_checkSupported_1 : decode cX1_checkSupported 1 = .ok (.ifCond .ne 11, 3) := dk_154 0 11 (dk_at dksX1_checkSupported_0 1 rfl rfl)
theorem dX1_checkSupported_4 : decode cX1_checkSupported 4 = .ok (.new 74, 3) := dk_187 0 74 (dk_at dksX1_checkSupported_0 4 rfl rfl)
theorem dX1_checkSupported_7 : decode cX1_checkSupported 7 = .ok (.dup, 1) := dk_89 (dk_at dksX1_checkSupported_0 7 rfl rfl)
theorem dX1_checkSupported_8 : decode cX1_checkSupported 8 = .ok (.invokespecial 76, 3) := dk_183 0 76 (dk_at dksX1_checkSupported_0 8 rfl rfl)
theorem dX1_checkSupported_11 : decode cX1_checkSupported 11 = .ok (.athrow, 1) := dk_191 (dk_at dksX1_checkSupported_0 11 rfl rfl)
theorem dX1_checkSupported_12 : decode cX1_checkSupported 12 = .ok (.return_, 1) := dk_177 (dk_at dksX1_checkSupported_0 12 rfl rfl)
abbrev cX1_addShape : ByteArray := prog_1_method_13_code
def yX1_addShape : MethodName := ⟨RX1, "addShape", "(CZ)I"⟩
def dkwX1_addShape_2 : List UInt8 := [180, 0, 12, 185, 0, 77, 1, 0, 4, 100, 172]
abbrev dktX1_addShape_2 : List UInt8 := dkwX1_addShape_2 ++ []
def dkwX1_addShape_1 : List UInt8 := [184, 0, 152, 42, 180, 0, 12, 187, 0, 98, 89, 45, 28, 183, 0, 155, 185, 0, 158, 2, 0, 87, 42]
abbrev dktX1_addShape_1 : List UInt8 := dkwX1_addShape_1 ++ dktX1_addShape_2
def dkwX1_addShape_0 : List UInt8 := [27, 184, 0, 148, 78, 42, 180, 0, 12, 185, 0, 77, 1, 0, 16, 8, 162, 0, 7, 4, 167, 0, 4, 3]
abbrev dktX1_addShape_0 : List UInt8 := dkwX1_addShape_0 ++ dktX1_addShape_1
theorem dksX1_addShape_0 : cX1_addShape.data.toList.drop 0 = dktX1_addShape_0 := by decide +kernel
theorem dksX1_addShape_1 : cX1_addShape.data.toList.drop 24 = dktX1_addShape_1 := dk_seg dksX1_addShape_0 24 rfl rfl
theorem dksX1_addShape_2 : cX1_addShape.data.toList.drop 47 = dktX1_addShape_2 := dk_seg dksX1_addShape_1 23 rfl rfl
theorem dX1_addShape_0 : decode cX1_addShape 0 = .ok (.iload_n 1, 1) := dk_27 (dk_at dksX1_addShape_0 0 rfl rfl)
theorem dX1_addShape_1 : decode cX1_addShape 1 = .ok (.invokestatic 148, 3) := dk_184 0 148 (dk_at dksX1_addShape_0 1 rfl rfl)
theorem dX1_addShape_4 : decode cX1_addShape 4 = .ok (.astore_n 3, 1) := dk_78 (dk_at dksX1_addShape_0 4 rfl rfl)
theorem dX1_addShape_5 : decode cX1_addShape 5 = .ok (.aload_n 0, 1) := dk_42 (dk_at dksX1_addShape_0 5 rfl rfl)
theorem dX1_addShape_6 : decode cX1_addShape 6 = .ok (.getfield 12, 3) := dk_180 0 12 (dk_at dksX1_addShape_0 6 rfl rfl)
theorem dX1_addShape_9 : decode cX1_addShape 9 = .ok (.invokeinterface 77 1, 5) := by decide +kernel
theorem dX1_addShape_14 : decode cX1_addShape 14 = .ok (.bipush 8, 2) := dk_16 8 (dk_at dksX1_addShape_0 14 rfl rfl)
theorem dX1_addShape_16 : decode cX1_addShape 16 = .ok (.if_icmp .ge 7, 3) := dk_162 0 7 (dk_at dksX1_addShape_0 16 rfl rfl)
theorem dX1_addShape_19 : decode cX1_addShape 19 = .ok (.iconst 1, 1) := dk_4 (dk_at dksX1_addShape_0 19 rfl rfl)
theorem dX1_addShape_20 : decode cX1_addShape 20 = .ok (.goto 4, 3) := dk_167 0 4 (dk_at dksX1_addShape_0 20 rfl rfl)
theorem dX1_addShape_23 : decode cX1_addShape 23 = .ok (.iconst 0, 1) := dk_3 (dk_at dksX1_addShape_0 23 rfl rfl)
theorem dX1_addShape_24 : decode cX1_addShape 24 = .ok (.invokestatic 152, 3) := dk_184 0 152 (dk_at dksX1_addShape_1 0 rfl rfl)
theorem dX1_addShape_27 : decode cX1_addShape 27 = .ok (.aload_n 0, 1) := dk_42 (dk_at dksX1_addShape_1 3 rfl rfl)
theorem dX1_addShape_28 : decode cX1_addShape 28 = .ok (.getfield 12, 3) := dk_180 0 12 (dk_at dksX1_addShape_1 4 rfl rfl)
theorem dX1_addShape_31 : decode cX1_addShape 31 = .ok (.new 98, 3) := dk_187 0 98 (dk_at dksX1_addShape_1 7 rfl rfl)
theorem dX1_addShape_34 : decode cX1_addShape 34 = .ok (.dup, 1) := dk_89 (dk_at dksX1_addShape_1 10 rfl rfl)
theorem dX1_addShape_35 : decode cX1_addShape 35 = .ok (.aload_n 3, 1) := dk_45 (dk_at dksX1_addShape_1 11 rfl rfl)
theorem dX1_addShape_36 : decode cX1_addShape 36 = .ok (.iload_n 2, 1) := dk_28 (dk_at dksX1_addShape_1 12 rfl rfl)
theorem dX1_addShape_37 : decode cX1_addShape 37 = .ok (.invokespecial 155, 3) := dk_183 0 155 (dk_at dksX1_addShape_1 13 rfl rfl)
theorem dX1_addShape_40 : decode cX1_addShape 40 = .ok (.invokeinterface 158 2, 5) := by decide +kernel
theorem dX1_addShape_45 : decode cX1_addShape 45 = .ok (.pop, 1) := dk_87 (dk_at dksX1_addShape_1 21 rfl rfl)
theorem dX1_addShape_46 : decode cX1_addShape 46 = .ok (.aload_n 0, 1) := dk_42 (dk_at dksX1_addShape_1 22 rfl rfl)
theorem dX1_addShape_47 : decode cX1_addShape 47 = .ok (.getfield 12, 3) := dk_180 0 12 (dk_at dksX1_addShape_2 0 rfl rfl)
theorem dX1_addShape_50 : decode cX1_addShape 50 = .ok (.invokeinterface 77 1, 5) := by decide +kernel
theorem dX1_addShape_55 : decode cX1_addShape 55 = .ok (.iconst 1, 1) := dk_4 (dk_at dksX1_addShape_2 8 rfl rfl)
theorem dX1_addShape_56 : decode cX1_addShape 56 = .ok (.isub, 1) := dk_100 (dk_at dksX1_addShape_2 9 rfl rfl)
theorem dX1_addShape_57 : decode cX1_addShape 57 = .ok (.ireturn, 1) := dk_172 (dk_at dksX1_addShape_2 10 rfl rfl)
abbrev cX1_ruleOf : ByteArray := prog_1_method_11_code
def yX1_ruleOf : MethodName := ⟨RX1, "ruleOf", "(C)LCuttingRoom$Rule;"⟩
def dkwX1_ruleOf_2 : List UInt8 := [180, 0, 131, 160, 0, 9, 178, 0, 135, 167, 0, 6, 178, 0, 138, 176]
abbrev dktX1_ruleOf_2 : List UInt8 := dkwX1_ruleOf_2 ++ []
def dkwX1_ruleOf_1 : List UInt8 := [26, 178, 0, 138, 180, 0, 131, 160, 0, 7, 4, 167, 0, 4, 3, 184, 0, 141, 26, 178, 0, 135]
abbrev dktX1_ruleOf_1 : List UInt8 := dkwX1_ruleOf_1 ++ dktX1_ruleOf_2
def dkwX1_ruleOf_0 : List UInt8 := [26, 178, 0, 125, 180, 0, 131, 160, 0, 7, 178, 0, 125, 176, 26, 178, 0, 135, 180, 0, 131, 159, 0, 13]
abbrev dktX1_ruleOf_0 : List UInt8 := dkwX1_ruleOf_0 ++ dktX1_ruleOf_1
theorem dksX1_ruleOf_0 : cX1_ruleOf.data.toList.drop 0 = dktX1_ruleOf_0 := by decide +kernel
theorem dksX1_ruleOf_1 : cX1_ruleOf.data.toList.drop 24 = dktX1_ruleOf_1 := dk_seg dksX1_ruleOf_0 24 rfl rfl
theorem dksX1_ruleOf_2 : cX1_ruleOf.data.toList.drop 46 = dktX1_ruleOf_2 := dk_seg dksX1_ruleOf_1 22 rfl rfl
theorem dX1_ruleOf_0 : decode cX1_ruleOf 0 = .ok (.iload_n 0, 1) := dk_26 (dk_at dksX1_ruleOf_0 0 rfl rfl)
theorem dX1_ruleOf_1 : decode cX1_ruleOf 1 = .ok (.getstatic 125, 3) := dk_178 0 125 (dk_at dksX1_ruleOf_0 1 rfl rfl)
theorem dX1_ruleOf_4 : decode cX1_ruleOf 4 = .ok (.getfield 131, 3) := dk_180 0 131 (dk_at dksX1_ruleOf_0 4 rfl rfl)
theorem dX1_ruleOf_7 : decode cX1_ruleOf 7 = .ok (.if_icmp .ne 7, 3) := dk_160 0 7 (dk_at dksX1_ruleOf_0 7 rfl rfl)
theorem dX1_ruleOf_10 : decode cX1_ruleOf 10 = .ok (.getstatic 125, 3) := dk_178 0 125 (dk_at dksX1_ruleOf_0 10 rfl rfl)
theorem dX1_ruleOf_13 : decode cX1_ruleOf 13 = .ok (.areturn, 1) := dk_176 (dk_at dksX1_ruleOf_0 13 rfl rfl)
theorem dX1_ruleOf_14 : decode cX1_ruleOf 14 = .ok (.iload_n 0, 1) := dk_26 (dk_at dksX1_ruleOf_0 14 rfl rfl)
theorem dX1_ruleOf_15 : decode cX1_ruleOf 15 = .ok (.getstatic 135, 3) := dk_178 0 135 (dk_at dksX1_ruleOf_0 15 rfl rfl)
theorem dX1_ruleOf_18 : decode cX1_ruleOf 18 = .ok (.getfield 131, 3) := dk_180 0 131 (dk_at dksX1_ruleOf_0 18 rfl rfl)
theorem dX1_ruleOf_21 : decode cX1_ruleOf 21 = .ok (.if_icmp .eq 13, 3) := dk_159 0 13 (dk_at dksX1_ruleOf_0 21 rfl rfl)
theorem dX1_ruleOf_24 : decode cX1_ruleOf 24 = .ok (.iload_n 0, 1) := dk_26 (dk_at dksX1_ruleOf_1 0 rfl rfl)
theorem dX1_ruleOf_25 : decode cX1_ruleOf 25 = .ok (.getstatic 138, 3) := dk_178 0 138 (dk_at dksX1_ruleOf_1 1 rfl rfl)
theorem dX1_ruleOf_28 : decode cX1_ruleOf 28 = .ok (.getfield 131, 3) := dk_180 0 131 (dk_at dksX1_ruleOf_1 4 rfl rfl)
theorem dX1_ruleOf_31 : decode cX1_ruleOf 31 = .ok (.if_icmp .ne 7, 3) := dk_160 0 7 (dk_at dksX1_ruleOf_1 7 rfl rfl)
theorem dX1_ruleOf_34 : decode cX1_ruleOf 34 = .ok (.iconst 1, 1) := dk_4 (dk_at dksX1_ruleOf_1 10 rfl rfl)
theorem dX1_ruleOf_35 : decode cX1_ruleOf 35 = .ok (.goto 4, 3) := dk_167 0 4 (dk_at dksX1_ruleOf_1 11 rfl rfl)
theorem dX1_ruleOf_38 : decode cX1_ruleOf 38 = .ok (.iconst 0, 1) := dk_3 (dk_at dksX1_ruleOf_1 14 rfl rfl)
theorem dX1_ruleOf_39 : decode cX1_ruleOf 39 = .ok (.invokestatic 141, 3) := dk_184 0 141 (dk_at dksX1_ruleOf_1 15 rfl rfl)
theorem dX1_ruleOf_42 : decode cX1_ruleOf 42 = .ok (.iload_n 0, 1) := dk_26 (dk_at dksX1_ruleOf_1 18 rfl rfl)
theorem dX1_ruleOf_43 : decode cX1_ruleOf 43 = .ok (.getstatic 135, 3) := dk_178 0 135 (dk_at dksX1_ruleOf_1 19 rfl rfl)
theorem dX1_ruleOf_46 : decode cX1_ruleOf 46 = .ok (.getfield 131, 3) := dk_180 0 131 (dk_at dksX1_ruleOf_2 0 rfl rfl)
theorem dX1_ruleOf_49 : decode cX1_ruleOf 49 = .ok (.if_icmp .ne 9, 3) := dk_160 0 9 (dk_at dksX1_ruleOf_2 3 rfl rfl)
theorem dX1_ruleOf_52 : decode cX1_ruleOf 52 = .ok (.getstatic 135, 3) := dk_178 0 135 (dk_at dksX1_ruleOf_2 6 rfl rfl)
theorem dX1_ruleOf_55 : decode cX1_ruleOf 55 = .ok (.goto 6, 3) := dk_167 0 6 (dk_at dksX1_ruleOf_2 9 rfl rfl)
theorem dX1_ruleOf_58 : decode cX1_ruleOf 58 = .ok (.getstatic 138, 3) := dk_178 0 138 (dk_at dksX1_ruleOf_2 12 rfl rfl)
theorem dX1_ruleOf_61 : decode cX1_ruleOf 61 = .ok (.areturn, 1) := dk_176 (dk_at dksX1_ruleOf_2 15 rfl rfl)
abbrev cX1_addCell : ByteArray := prog_1_method_15_code
def yX1_addCell : MethodName := ⟨RX1, "addCell", "(III)I"⟩
def dkwX1_addCell_4 : List UInt8 := [185, 0, 77, 1, 0, 172]
abbrev dktX1_addCell_4 : List UInt8 := dkwX1_addCell_4 ++ []
def dkwX1_addCell_3 : List UInt8 := [29, 183, 0, 186, 185, 0, 158, 2, 0, 87, 25, 4, 182, 0, 189, 25, 4, 180, 0, 181]
abbrev dktX1_addCell_3 : List UInt8 := dkwX1_addCell_3 ++ dktX1_addCell_4
def dkwX1_addCell_2 : List UInt8 := [180, 0, 177, 154, 0, 7, 4, 167, 0, 4, 3, 184, 0, 152, 25, 4, 180, 0, 181, 187, 0, 184, 89, 28]
abbrev dktX1_addCell_2 : List UInt8 := dkwX1_addCell_2 ++ dktX1_addCell_3
def dkwX1_addCell_1 : List UInt8 := [154, 0, 7, 4, 167, 0, 4, 3, 184, 0, 113, 42, 25, 4, 182, 0, 173, 154, 0, 15, 25, 4]
abbrev dktX1_addCell_1 : List UInt8 := dkwX1_addCell_1 ++ dktX1_addCell_2
def dkwX1_addCell_0 : List UInt8 := [42, 27, 182, 0, 162, 58, 4, 28, 29, 184, 0, 166, 184, 0, 141, 25, 4, 28, 29, 182, 0, 170]
abbrev dktX1_addCell_0 : List UInt8 := dkwX1_addCell_0 ++ dktX1_addCell_1
theorem dksX1_addCell_0 : cX1_addCell.data.toList.drop 0 = dktX1_addCell_0 := by decide +kernel
theorem dksX1_addCell_1 : cX1_addCell.data.toList.drop 22 = dktX1_addCell_1 := dk_seg dksX1_addCell_0 22 rfl rfl
theorem dksX1_addCell_2 : cX1_addCell.data.toList.drop 44 = dktX1_addCell_2 := dk_seg dksX1_addCell_1 22 rfl rfl
theorem dksX1_addCell_3 : cX1_addCell.data.toList.drop 68 = dktX1_addCell_3 := dk_seg dksX1_addCell_2 24 rfl rfl
theorem dksX1_addCell_4 : cX1_addCell.data.toList.drop 88 = dktX1_addCell_4 := dk_seg dksX1_addCell_3 20 rfl rfl
theorem dX1_addCell_0 : decode cX1_addCell 0 = .ok (.aload_n 0, 1) := dk_42 (dk_at dksX1_addCell_0 0 rfl rfl)
theorem dX1_addCell_1 : decode cX1_addCell 1 = .ok (.iload_n 1, 1) := dk_27 (dk_at dksX1_addCell_0 1 rfl rfl)
theorem dX1_addCell_2 : decode cX1_addCell 2 = .ok (.invokevirtual 162, 3) := dk_182 0 162 (dk_at dksX1_addCell_0 2 rfl rfl)
theorem dX1_addCell_5 : decode cX1_addCell 5 = .ok (.astore 4, 2) := dk_58 4 (dk_at dksX1_addCell_0 5 rfl rfl)
theorem dX1_addCell_7 : decode cX1_addCell 7 = .ok (.iload_n 2, 1) := dk_28 (dk_at dksX1_addCell_0 7 rfl rfl)
theorem dX1_addCell_8 : decode cX1_addCell 8 = .ok (.iload_n 3, 1) := dk_29 (dk_at dksX1_addCell_0 8 rfl rfl)
theorem dX1_addCell_9 : decode cX1_addCell 9 = .ok (.invokestatic 166, 3) := dk_184 0 166 (dk_at dksX1_addCell_0 9 rfl rfl)
theorem dX1_addCell_12 : decode cX1_addCell 12 = .ok (.invokestatic 141, 3) := dk_184 0 141 (dk_at dksX1_addCell_0 12 rfl rfl)
theorem dX1_addCell_15 : decode cX1_addCell 15 = .ok (.aload 4, 2) := dk_25 4 (dk_at dksX1_addCell_0 15 rfl rfl)
theorem dX1_addCell_17 : decode cX1_addCell 17 = .ok (.iload_n 2, 1) := dk_28 (dk_at dksX1_addCell_0 17 rfl rfl)
theorem dX1_addCell_18 : decode cX1_addCell 18 = .ok (.iload_n 3, 1) := dk_29 (dk_at dksX1_addCell_0 18 rfl rfl)
theorem dX1_addCell_19 : decode cX1_addCell 19 = .ok (.invokevirtual 170, 3) := dk_182 0 170 (dk_at dksX1_addCell_0 19 rfl rfl)
theorem dX1_addCell_22 : decode cX1_addCell 22 = .ok (.ifCond .ne 7, 3) := dk_154 0 7 (dk_at dksX1_addCell_1 0 rfl rfl)
theorem dX1_addCell_25 : decode cX1_addCell 25 = .ok (.iconst 1, 1) := dk_4 (dk_at dksX1_addCell_1 3 rfl rfl)
theorem dX1_addCell_26 : decode cX1_addCell 26 = .ok (.goto 4, 3) := dk_167 0 4 (dk_at dksX1_addCell_1 4 rfl rfl)
theorem dX1_addCell_29 : decode cX1_addCell 29 = .ok (.iconst 0, 1) := dk_3 (dk_at dksX1_addCell_1 7 rfl rfl)
theorem dX1_addCell_30 : decode cX1_addCell 30 = .ok (.invokestatic 113, 3) := dk_184 0 113 (dk_at dksX1_addCell_1 8 rfl rfl)
theorem dX1_addCell_33 : decode cX1_addCell 33 = .ok (.aload_n 0, 1) := dk_42 (dk_at dksX1_addCell_1 11 rfl rfl)
theorem dX1_addCell_34 : decode cX1_addCell 34 = .ok (.aload 4, 2) := dk_25 4 (dk_at dksX1_addCell_1 12 rfl rfl)
theorem dX1_addCell_36 : decode cX1_addCell 36 = .ok (.invokevirtual 173, 3) := dk_182 0 173 (dk_at dksX1_addCell_1 14 rfl rfl)
theorem dX1_addCell_39 : decode cX1_addCell 39 = .ok (.ifCond .ne 15, 3) := dk_154 0 15 (dk_at dksX1_addCell_1 17 rfl rfl)
theorem dX1_addCell_42 : decode cX1_addCell 42 = .ok (.aload 4, 2) := dk_25 4 (dk_at dksX1_addCell_1 20 rfl rfl)
theorem dX1_addCell_44 : decode cX1_addCell 44 = .ok (.getfield 177, 3) := dk_180 0 177 (dk_at dksX1_addCell_2 0 rfl rfl)
theorem dX1_addCell_47 : decode cX1_addCell 47 = .ok (.ifCond .ne 7, 3) := dk_154 0 7 (dk_at dksX1_addCell_2 3 rfl rfl)
theorem dX1_addCell_50 : decode cX1_addCell 50 = .ok (.iconst 1, 1) := dk_4 (dk_at dksX1_addCell_2 6 rfl rfl)
theorem dX1_addCell_51 : decode cX1_addCell 51 = .ok (.goto 4, 3) := dk_167 0 4 (dk_at dksX1_addCell_2 7 rfl rfl)
theorem dX1_addCell_54 : decode cX1_addCell 54 = .ok (.iconst 0, 1) := dk_3 (dk_at dksX1_addCell_2 10 rfl rfl)
theorem dX1_addCell_55 : decode cX1_addCell 55 = .ok (.invokestatic 152, 3) := dk_184 0 152 (dk_at dksX1_addCell_2 11 rfl rfl)
theorem dX1_addCell_58 : decode cX1_addCell 58 = .ok (.aload 4, 2) := dk_25 4 (dk_at dksX1_addCell_2 14 rfl rfl)
theorem dX1_addCell_60 : decode cX1_addCell 60 = .ok (.getfield 181, 3) := dk_180 0 181 (dk_at dksX1_addCell_2 16 rfl rfl)
theorem dX1_addCell_63 : decode cX1_addCell 63 = .ok (.new 184, 3) := dk_187 0 184 (dk_at dksX1_addCell_2 19 rfl rfl)
theorem dX1_addCell_66 : decode cX1_addCell 66 = .ok (.dup, 1) := dk_89 (dk_at dksX1_addCell_2 22 rfl rfl)
theorem dX1_addCell_67 : decode cX1_addCell 67 = .ok (.iload_n 2, 1) := dk_28 (dk_at dksX1_addCell_2 23 rfl rfl)
theorem dX1_addCell_68 : decode cX1_addCell 68 = .ok (.iload_n 3, 1) := dk_29 (dk_at dksX1_addCell_3 0 rfl rfl)
theorem dX1_addCell_69 : decode cX1_addCell 69 = .ok (.invokespecial 186, 3) := dk_183 0 186 (dk_at dksX1_addCell_3 1 rfl rfl)
theorem dX1_addCell_72 : decode cX1_addCell 72 = .ok (.invokeinterface 158 2, 5) := by decide +kernel
theorem dX1_addCell_77 : decode cX1_addCell 77 = .ok (.pop, 1) := dk_87 (dk_at dksX1_addCell_3 9 rfl rfl)
theorem dX1_addCell_78 : decode cX1_addCell 78 = .ok (.aload 4, 2) := dk_25 4 (dk_at dksX1_addCell_3 10 rfl rfl)
theorem dX1_addCell_80 : decode cX1_addCell 80 = .ok (.invokevirtual 189, 3) := dk_182 0 189 (dk_at dksX1_addCell_3 12 rfl rfl)
theorem dX1_addCell_83 : decode cX1_addCell 83 = .ok (.aload 4, 2) := dk_25 4 (dk_at dksX1_addCell_3 15 rfl rfl)
theorem dX1_addCell_85 : decode cX1_addCell 85 = .ok (.getfield 181, 3) := dk_180 0 181 (dk_at dksX1_addCell_3 17 rfl rfl)
theorem dX1_addCell_88 : decode cX1_addCell 88 = .ok (.invokeinterface 77 1, 5) := by decide +kernel
theorem dX1_addCell_93 : decode cX1_addCell 93 = .ok (.ireturn, 1) := dk_172 (dk_at dksX1_addCell_4 5 rfl rfl)
abbrev cX1_checkedShape : ByteArray := prog_1_method_7_code
def yX1_checkedShape : MethodName := ⟨RX1, "checkedShape", "(I)LCuttingRoom$Shape;"⟩
def dkwX1_checkedShape_0 : List UInt8 := [42, 180, 0, 12, 27, 184, 0, 94, 192, 0, 98, 176]
abbrev dktX1_checkedShape_0 : List UInt8 := dkwX1_checkedShape_0 ++ []
theorem dksX1_checkedShape_0 : cX1_checkedShape.data.toList.drop 0 = dktX1_checkedShape_0 := by decide +kernel
theorem dX1_checkedShape_0 : decode cX1_checkedShape 0 = .ok (.aload_n 0, 1) := dk_42 (dk_at dksX1_checkedShape_0 0 rfl rfl)
theorem dX1_checkedShape_1 : decode cX1_checkedShape 1 = .ok (.getfield 12, 3) := dk_180 0 12 (dk_at dksX1_checkedShape_0 1 rfl rfl)
theorem dX1_checkedShape_4 : decode cX1_checkedShape 4 = .ok (.iload_n 1, 1) := dk_27 (dk_at dksX1_checkedShape_0 4 rfl rfl)
theorem dX1_checkedShape_5 : decode cX1_checkedShape 5 = .ok (.invokestatic 94, 3) := dk_184 0 94 (dk_at dksX1_checkedShape_0 5 rfl rfl)
theorem dX1_checkedShape_8 : decode cX1_checkedShape 8 = .ok (.checkcast 98, 3) := dk_192 0 98 (dk_at dksX1_checkedShape_0 8 rfl rfl)
theorem dX1_checkedShape_11 : decode cX1_checkedShape 11 = .ok (.areturn, 1) := dk_176 (dk_at dksX1_checkedShape_0 11 rfl rfl)
abbrev cX1_checkedIndex : ByteArray := prog_1_method_6_code
def yX1_checkedIndex : MethodName := ⟨RX1, "checkedIndex", "(Ljava/util/List;I)Ljava/lang/Object;"⟩
def dkwX1_checkedIndex_1 : List UInt8 := [42, 27, 185, 0, 90, 2, 0, 176]
abbrev dktX1_checkedIndex_1 : List UInt8 := dkwX1_checkedIndex_1 ++ []
def dkwX1_checkedIndex_0 : List UInt8 := [27, 3, 42, 185, 0, 77, 1, 0, 4, 100, 184, 0, 83, 154, 0, 11, 187, 0, 87, 89, 183, 0, 89, 191]
abbrev dktX1_checkedIndex_0 : List UInt8 := dkwX1_checkedIndex_0 ++ dktX1_checkedIndex_1
theorem dksX1_checkedIndex_0 : cX1_checkedIndex.data.toList.drop 0 = dktX1_checkedIndex_0 := by decide +kernel
theorem dksX1_checkedIndex_1 : cX1_checkedIndex.data.toList.drop 24 = dktX1_checkedIndex_1 := dk_seg dksX1_checkedIndex_0 24 rfl rfl
theorem dX1_checkedIndex_0 : decode cX1_checkedIndex 0 = .ok (.iload_n 1, 1) := dk_27 (dk_at dksX1_checkedIndex_0 0 rfl rfl)
theorem dX1_checkedIndex_1 : decode cX1_checkedIndex 1 = .ok (.iconst 0, 1) := dk_3 (dk_at dksX1_checkedIndex_0 1 rfl rfl)
theorem dX1_checkedIndex_2 : decode cX1_checkedIndex 2 = .ok (.aload_n 0, 1) := dk_42 (dk_at dksX1_checkedIndex_0 2 rfl rfl)
theorem dX1_checkedIndex_3 : decode cX1_checkedIndex 3 = .ok (.invokeinterface 77 1, 5) := by decide +kernel
theorem dX1_checkedIndex_8 : decode cX1_checkedIndex 8 = .ok (.iconst 1, 1) := dk_4 (dk_at dksX1_checkedIndex_0 8 rfl rfl)
theorem dX1_checkedIndex_9 : decode cX1_checkedIndex 9 = .ok (.isub, 1) := dk_100 (dk_at dksX1_checkedIndex_0 9 rfl rfl)
theorem dX1_checkedIndex_10 : decode cX1_checkedIndex 10 = .ok (.invokestatic 83, 3) := dk_184 0 83 (dk_at dksX1_checkedIndex_0 10 rfl rfl)
theorem dX1_checkedIndex_13 : decode cX1_checkedIndex 13 = .ok (.ifCond .ne 11, 3) := dk_154 0 11 (dk_at dksX1_checkedIndex_0 13 rfl rfl)
theorem dX1_checkedIndex_16 : decode cX1_checkedIndex 16 = .ok (.new 87, 3) := dk_187 0 87 (dk_at dksX1_checkedIndex_0 16 rfl rfl)
theorem dX1_checkedIndex_19 : decode cX1_checkedIndex 19 = .ok (.dup, 1) := dk_89 (dk_at dksX1_checkedIndex_0 19 rfl rfl)
theorem dX1_checkedIndex_20 : decode cX1_checkedIndex 20 = .ok (.invokespecial 89, 3) := dk_183 0 89 (dk_at dksX1_checkedIndex_0 20 rfl rfl)
theorem dX1_checkedIndex_23 : decode cX1_checkedIndex 23 = .ok (.athrow, 1) := dk_191 (dk_at dksX1_checkedIndex_0 23 rfl rfl)
theorem dX1_checkedIndex_24 : decode cX1_checkedIndex 24 = .ok (.aload_n 0, 1) := dk_42 (dk_at dksX1_checkedIndex_1 0 rfl rfl)
theorem dX1_checkedIndex_25 : decode cX1_checkedIndex 25 = .ok (.iload_n 1, 1) := dk_27 (dk_at dksX1_checkedIndex_1 1 rfl rfl)
theorem dX1_checkedIndex_26 : decode cX1_checkedIndex 26 = .ok (.invokeinterface 90 2, 5) := by decide +kernel
theorem dX1_checkedIndex_31 : decode cX1_checkedIndex 31 = .ok (.areturn, 1) := dk_176 (dk_at dksX1_checkedIndex_1 7 rfl rfl)
abbrev cX1_isInSquare : ByteArray := prog_1_method_14_code
def yX1_isInSquare : MethodName := ⟨RX1, "isInSquare", "(II)Z"⟩
def dkwX1_isInSquare_0 : List UInt8 := [26, 3, 7, 184, 0, 83, 153, 0, 16, 27, 3, 7, 184, 0, 83, 153, 0, 7, 4, 167, 0, 4, 3, 172]
abbrev dktX1_isInSquare_0 : List UInt8 := dkwX1_isInSquare_0 ++ []
theorem dksX1_isInSquare_0 : cX1_isInSquare.data.toList.drop 0 = dktX1_isInSquare_0 := by decide +kernel
theorem dX1_isInSquare_0 : decode cX1_isInSquare 0 = .ok (.iload_n 0, 1) := dk_26 (dk_at dksX1_isInSquare_0 0 rfl rfl)
theorem dX1_isInSquare_1 : decode cX1_isInSquare 1 = .ok (.iconst 0, 1) := dk_3 (dk_at dksX1_isInSquare_0 1 rfl rfl)
theorem dX1_isInSquare_2 : decode cX1_isInSquare 2 = .ok (.iconst 4, 1) := dk_7 (dk_at dksX1_isInSquare_0 2 rfl rfl)
theorem dX1_isInSquare_3 : decode cX1_isInSquare 3 = .ok (.invokestatic 83, 3) := dk_184 0 83 (dk_at dksX1_isInSquare_0 3 rfl rfl)
theorem dX1_isInSquare_6 : decode cX1_isInSquare 6 = .ok (.ifCond .eq 16, 3) := dk_153 0 16 (dk_at dksX1_isInSquare_0 6 rfl rfl)
theorem dX1_isInSquare_9 : decode cX1_isInSquare 9 = .ok (.iload_n 1, 1) := dk_27 (dk_at dksX1_isInSquare_0 9 rfl rfl)
theorem dX1_isInSquare_10 : decode cX1_isInSquare 10 = .ok (.iconst 0, 1) := dk_3 (dk_at dksX1_isInSquare_0 10 rfl rfl)
theorem dX1_isInSquare_11 : decode cX1_isInSquare 11 = .ok (.iconst 4, 1) := dk_7 (dk_at dksX1_isInSquare_0 11 rfl rfl)
theorem dX1_isInSquare_12 : decode cX1_isInSquare 12 = .ok (.invokestatic 83, 3) := dk_184 0 83 (dk_at dksX1_isInSquare_0 12 rfl rfl)
theorem dX1_isInSquare_15 : decode cX1_isInSquare 15 = .ok (.ifCond .eq 7, 3) := dk_153 0 7 (dk_at dksX1_isInSquare_0 15 rfl rfl)
theorem dX1_isInSquare_18 : decode cX1_isInSquare 18 = .ok (.iconst 1, 1) := dk_4 (dk_at dksX1_isInSquare_0 18 rfl rfl)
theorem dX1_isInSquare_19 : decode cX1_isInSquare 19 = .ok (.goto 4, 3) := dk_167 0 4 (dk_at dksX1_isInSquare_0 19 rfl rfl)
theorem dX1_isInSquare_22 : decode cX1_isInSquare 22 = .ok (.iconst 0, 1) := dk_3 (dk_at dksX1_isInSquare_0 22 rfl rfl)
theorem dX1_isInSquare_23 : decode cX1_isInSquare 23 = .ok (.ireturn, 1) := dk_172 (dk_at dksX1_isInSquare_0 23 rfl rfl)
abbrev cX1_isInMarker : ByteArray := prog_1_method_12_code
def yX1_isInMarker : MethodName := ⟨RX1, "isInMarker", "(LCuttingRoom$Shape;)Z"⟩
def dkwX1_isInMarker_2 : List UInt8 := [167, 255, 216, 3, 172]
abbrev dktX1_isInMarker_2 : List UInt8 := dkwX1_isInMarker_2 ++ []
def dkwX1_isInMarker_1 : List UInt8 := [185, 0, 90, 2, 0, 192, 0, 117, 78, 45, 180, 0, 144, 43, 166, 0, 5, 4, 172, 132, 2, 1]
abbrev dktX1_isInMarker_1 : List UInt8 := dkwX1_isInMarker_1 ++ dktX1_isInMarker_2
def dkwX1_isInMarker_0 : List UInt8 := [3, 61, 28, 42, 180, 0, 19, 185, 0, 77, 1, 0, 162, 0, 33, 42, 180, 0, 19, 28]
abbrev dktX1_isInMarker_0 : List UInt8 := dkwX1_isInMarker_0 ++ dktX1_isInMarker_1
theorem dksX1_isInMarker_0 : cX1_isInMarker.data.toList.drop 0 = dktX1_isInMarker_0 := by decide +kernel
theorem dksX1_isInMarker_1 : cX1_isInMarker.data.toList.drop 20 = dktX1_isInMarker_1 := dk_seg dksX1_isInMarker_0 20 rfl rfl
theorem dksX1_isInMarker_2 : cX1_isInMarker.data.toList.drop 42 = dktX1_isInMarker_2 := dk_seg dksX1_isInMarker_1 22 rfl rfl
theorem dX1_isInMarker_0 : decode cX1_isInMarker 0 = .ok (.iconst 0, 1) := dk_3 (dk_at dksX1_isInMarker_0 0 rfl rfl)
theorem dX1_isInMarker_1 : decode cX1_isInMarker 1 = .ok (.istore_n 2, 1) := dk_61 (dk_at dksX1_isInMarker_0 1 rfl rfl)
theorem dX1_isInMarker_2 : decode cX1_isInMarker 2 = .ok (.iload_n 2, 1) := dk_28 (dk_at dksX1_isInMarker_0 2 rfl rfl)
theorem dX1_isInMarker_3 : decode cX1_isInMarker 3 = .ok (.aload_n 0, 1) := dk_42 (dk_at dksX1_isInMarker_0 3 rfl rfl)
theorem dX1_isInMarker_4 : decode cX1_isInMarker 4 = .ok (.getfield 19, 3) := dk_180 0 19 (dk_at dksX1_isInMarker_0 4 rfl rfl)
theorem dX1_isInMarker_7 : decode cX1_isInMarker 7 = .ok (.invokeinterface 77 1, 5) := by decide +kernel
theorem dX1_isInMarker_12 : decode cX1_isInMarker 12 = .ok (.if_icmp .ge 33, 3) := dk_162 0 33 (dk_at dksX1_isInMarker_0 12 rfl rfl)
theorem dX1_isInMarker_15 : decode cX1_isInMarker 15 = .ok (.aload_n 0, 1) := dk_42 (dk_at dksX1_isInMarker_0 15 rfl rfl)
theorem dX1_isInMarker_16 : decode cX1_isInMarker 16 = .ok (.getfield 19, 3) := dk_180 0 19 (dk_at dksX1_isInMarker_0 16 rfl rfl)
theorem dX1_isInMarker_19 : decode cX1_isInMarker 19 = .ok (.iload_n 2, 1) := dk_28 (dk_at dksX1_isInMarker_0 19 rfl rfl)
theorem dX1_isInMarker_20 : decode cX1_isInMarker 20 = .ok (.invokeinterface 90 2, 5) := by decide +kernel
theorem dX1_isInMarker_25 : decode cX1_isInMarker 25 = .ok (.checkcast 117, 3) := dk_192 0 117 (dk_at dksX1_isInMarker_1 5 rfl rfl)
theorem dX1_isInMarker_28 : decode cX1_isInMarker 28 = .ok (.astore_n 3, 1) := dk_78 (dk_at dksX1_isInMarker_1 8 rfl rfl)
theorem dX1_isInMarker_29 : decode cX1_isInMarker 29 = .ok (.aload_n 3, 1) := dk_45 (dk_at dksX1_isInMarker_1 9 rfl rfl)
theorem dX1_isInMarker_30 : decode cX1_isInMarker 30 = .ok (.getfield 144, 3) := dk_180 0 144 (dk_at dksX1_isInMarker_1 10 rfl rfl)
theorem dX1_isInMarker_33 : decode cX1_isInMarker 33 = .ok (.aload_n 1, 1) := dk_43 (dk_at dksX1_isInMarker_1 13 rfl rfl)
theorem dX1_isInMarker_34 : decode cX1_isInMarker 34 = .ok (.if_acmp .ne 5, 3) := dk_166 0 5 (dk_at dksX1_isInMarker_1 14 rfl rfl)
theorem dX1_isInMarker_37 : decode cX1_isInMarker 37 = .ok (.iconst 1, 1) := dk_4 (dk_at dksX1_isInMarker_1 17 rfl rfl)
theorem dX1_isInMarker_38 : decode cX1_isInMarker 38 = .ok (.ireturn, 1) := dk_172 (dk_at dksX1_isInMarker_1 18 rfl rfl)
theorem dX1_isInMarker_39 : decode cX1_isInMarker 39 = .ok (.iinc 2 1, 3) := dk_132 2 1 (dk_at dksX1_isInMarker_1 19 rfl rfl)
theorem dX1_isInMarker_42 : decode cX1_isInMarker 42 = .ok (.goto (-40), 3) := dk_167 255 216 (dk_at dksX1_isInMarker_2 0 rfl rfl)
theorem dX1_isInMarker_45 : decode cX1_isInMarker 45 = .ok (.iconst 0, 1) := dk_3 (dk_at dksX1_isInMarker_2 3 rfl rfl)
theorem dX1_isInMarker_46 : decode cX1_isInMarker 46 = .ok (.ireturn, 1) := dk_172 (dk_at dksX1_isInMarker_2 4 rfl rfl)
abbrev cX1_setMark : ByteArray := prog_1_method_16_code
def yX1_setMark : MethodName := ⟨RX1, "setMark", "(IIII)I"⟩
def dkwX1_setMark_3 : List UInt8 := [21, 4, 183, 0, 186, 181, 0, 195, 25, 5, 182, 0, 189, 21, 6, 172]
abbrev dktX1_setMark_3 : List UInt8 := dkwX1_setMark_3 ++ []
def dkwX1_setMark_2 : List UInt8 := [3, 184, 0, 152, 25, 5, 180, 0, 192, 54, 6, 25, 5, 28, 181, 0, 192, 25, 5, 187, 0, 184, 89, 29]
abbrev dktX1_setMark_2 : List UInt8 := dkwX1_setMark_2 ++ dktX1_setMark_3
def dkwX1_setMark_1 : List UInt8 := [153, 0, 7, 4, 167, 0, 4, 3, 184, 0, 141, 42, 25, 5, 182, 0, 173, 154, 0, 7, 4, 167, 0, 4]
abbrev dktX1_setMark_1 : List UInt8 := dkwX1_setMark_1 ++ dktX1_setMark_2
def dkwX1_setMark_0 : List UInt8 := [42, 27, 182, 0, 162, 58, 5, 28, 2, 6, 184, 0, 83, 153, 0, 16, 29, 21, 4, 184, 0, 166]
abbrev dktX1_setMark_0 : List UInt8 := dkwX1_setMark_0 ++ dktX1_setMark_1
theorem dksX1_setMark_0 : cX1_setMark.data.toList.drop 0 = dktX1_setMark_0 := by decide +kernel
theorem dksX1_setMark_1 : cX1_setMark.data.toList.drop 22 = dktX1_setMark_1 := dk_seg dksX1_setMark_0 22 rfl rfl
theorem dksX1_setMark_2 : cX1_setMark.data.toList.drop 46 = dktX1_setMark_2 := dk_seg dksX1_setMark_1 24 rfl rfl
theorem dksX1_setMark_3 : cX1_setMark.data.toList.drop 70 = dktX1_setMark_3 := dk_seg dksX1_setMark_2 24 rfl rfl
theorem dX1_setMark_0 : decode cX1_setMark 0 = .ok (.aload_n 0, 1) := dk_42 (dk_at dksX1_setMark_0 0 rfl rfl)
theorem dX1_setMark_1 : decode cX1_setMark 1 = .ok (.iload_n 1, 1) := dk_27 (dk_at dksX1_setMark_0 1 rfl rfl)
theorem dX1_setMark_2 : decode cX1_setMark 2 = .ok (.invokevirtual 162, 3) := dk_182 0 162 (dk_at dksX1_setMark_0 2 rfl rfl)
theorem dX1_setMark_5 : decode cX1_setMark 5 = .ok (.astore 5, 2) := dk_58 5 (dk_at dksX1_setMark_0 5 rfl rfl)
theorem dX1_setMark_7 : decode cX1_setMark 7 = .ok (.iload_n 2, 1) := dk_28 (dk_at dksX1_setMark_0 7 rfl rfl)
theorem dX1_setMark_8 : decode cX1_setMark 8 = .ok (.iconst (-1), 1) := dk_2 (dk_at dksX1_setMark_0 8 rfl rfl)
theorem dX1_setMark_9 : decode cX1_setMark 9 = .ok (.iconst 3, 1) := dk_6 (dk_at dksX1_setMark_0 9 rfl rfl)
theorem dX1_setMark_10 : decode cX1_setMark 10 = .ok (.invokestatic 83, 3) := dk_184 0 83 (dk_at dksX1_setMark_0 10 rfl rfl)
theorem dX1_setMark_13 : decode cX1_setMark 13 = .ok (.ifCond .eq 16, 3) := dk_153 0 16 (dk_at dksX1_setMark_0 13 rfl rfl)
theorem dX1_setMark_16 : decode cX1_setMark 16 = .ok (.iload_n 3, 1) := dk_29 (dk_at dksX1_setMark_0 16 rfl rfl)
theorem dX1_setMark_17 : decode cX1_setMark 17 = .ok (.iload 4, 2) := dk_21 4 (dk_at dksX1_setMark_0 17 rfl rfl)
theorem dX1_setMark_19 : decode cX1_setMark 19 = .ok (.invokestatic 166, 3) := dk_184 0 166 (dk_at dksX1_setMark_0 19 rfl rfl)
theorem dX1_setMark_22 : decode cX1_setMark 22 = .ok (.ifCond .eq 7, 3) := dk_153 0 7 (dk_at dksX1_setMark_1 0 rfl rfl)
theorem dX1_setMark_25 : decode cX1_setMark 25 = .ok (.iconst 1, 1) := dk_4 (dk_at dksX1_setMark_1 3 rfl rfl)
theorem dX1_setMark_26 : decode cX1_setMark 26 = .ok (.goto 4, 3) := dk_167 0 4 (dk_at dksX1_setMark_1 4 rfl rfl)
theorem dX1_setMark_29 : decode cX1_setMark 29 = .ok (.iconst 0, 1) := dk_3 (dk_at dksX1_setMark_1 7 rfl rfl)
theorem dX1_setMark_30 : decode cX1_setMark 30 = .ok (.invokestatic 141, 3) := dk_184 0 141 (dk_at dksX1_setMark_1 8 rfl rfl)
theorem dX1_setMark_33 : decode cX1_setMark 33 = .ok (.aload_n 0, 1) := dk_42 (dk_at dksX1_setMark_1 11 rfl rfl)
theorem dX1_setMark_34 : decode cX1_setMark 34 = .ok (.aload 5, 2) := dk_25 5 (dk_at dksX1_setMark_1 12 rfl rfl)
theorem dX1_setMark_36 : decode cX1_setMark 36 = .ok (.invokevirtual 173, 3) := dk_182 0 173 (dk_at dksX1_setMark_1 14 rfl rfl)
theorem dX1_setMark_39 : decode cX1_setMark 39 = .ok (.ifCond .ne 7, 3) := dk_154 0 7 (dk_at dksX1_setMark_1 17 rfl rfl)
theorem dX1_setMark_42 : decode cX1_setMark 42 = .ok (.iconst 1, 1) := dk_4 (dk_at dksX1_setMark_1 20 rfl rfl)
theorem dX1_setMark_43 : decode cX1_setMark 43 = .ok (.goto 4, 3) := dk_167 0 4 (dk_at dksX1_setMark_1 21 rfl rfl)
theorem dX1_setMark_46 : decode cX1_setMark 46 = .ok (.iconst 0, 1) := dk_3 (dk_at dksX1_setMark_2 0 rfl rfl)
theorem dX1_setMark_47 : decode cX1_setMark 47 = .ok (.invokestatic 152, 3) := dk_184 0 152 (dk_at dksX1_setMark_2 1 rfl rfl)
theorem dX1_setMark_50 : decode cX1_setMark 50 = .ok (.aload 5, 2) := dk_25 5 (dk_at dksX1_setMark_2 4 rfl rfl)
theorem dX1_setMark_52 : decode cX1_setMark 52 = .ok (.getfield 192, 3) := dk_180 0 192 (dk_at dksX1_setMark_2 6 rfl rfl)
theorem dX1_setMark_55 : decode cX1_setMark 55 = .ok (.istore 6, 2) := dk_54 6 (dk_at dksX1_setMark_2 9 rfl rfl)
theorem dX1_setMark_57 : decode cX1_setMark 57 = .ok (.aload 5, 2) := dk_25 5 (dk_at dksX1_setMark_2 11 rfl rfl)
theorem dX1_setMark_59 : decode cX1_setMark 59 = .ok (.iload_n 2, 1) := dk_28 (dk_at dksX1_setMark_2 13 rfl rfl)
theorem dX1_setMark_60 : decode cX1_setMark 60 = .ok (.putfield 192, 3) := dk_181 0 192 (dk_at dksX1_setMark_2 14 rfl rfl)
theorem dX1_setMark_63 : decode cX1_setMark 63 = .ok (.aload 5, 2) := dk_25 5 (dk_at dksX1_setMark_2 17 rfl rfl)
theorem dX1_setMark_65 : decode cX1_setMark 65 = .ok (.new 184, 3) := dk_187 0 184 (dk_at dksX1_setMark_2 19 rfl rfl)
theorem dX1_setMark_68 : decode cX1_setMark 68 = .ok (.dup, 1) := dk_89 (dk_at dksX1_setMark_2 22 rfl rfl)
theorem dX1_setMark_69 : decode cX1_setMark 69 = .ok (.iload_n 3, 1) := dk_29 (dk_at dksX1_setMark_2 23 rfl rfl)
theorem dX1_setMark_70 : decode cX1_setMark 70 = .ok (.iload 4, 2) := dk_21 4 (dk_at dksX1_setMark_3 0 rfl rfl)
theorem dX1_setMark_72 : decode cX1_setMark 72 = .ok (.invokespecial 186, 3) := dk_183 0 186 (dk_at dksX1_setMark_3 2 rfl rfl)
theorem dX1_setMark_75 : decode cX1_setMark 75 = .ok (.putfield 195, 3) := dk_181 0 195 (dk_at dksX1_setMark_3 5 rfl rfl)
theorem dX1_setMark_78 : decode cX1_setMark 78 = .ok (.aload 5, 2) := dk_25 5 (dk_at dksX1_setMark_3 8 rfl rfl)
theorem dX1_setMark_80 : decode cX1_setMark 80 = .ok (.invokevirtual 189, 3) := dk_182 0 189 (dk_at dksX1_setMark_3 10 rfl rfl)
theorem dX1_setMark_83 : decode cX1_setMark 83 = .ok (.iload 6, 2) := dk_21 6 (dk_at dksX1_setMark_3 13 rfl rfl)
theorem dX1_setMark_85 : decode cX1_setMark 85 = .ok (.ireturn, 1) := dk_172 (dk_at dksX1_setMark_3 15 rfl rfl)
abbrev cX1_cellsOf : ByteArray := prog_1_method_17_code
def yX1_cellsOf : MethodName := ⟨RX1, "cellsOf", "(I)I"⟩
def dkwX1_cellsOf_0 : List UInt8 := [42, 27, 182, 0, 162, 180, 0, 181, 185, 0, 77, 1, 0, 172]
abbrev dktX1_cellsOf_0 : List UInt8 := dkwX1_cellsOf_0 ++ []
theorem dksX1_cellsOf_0 : cX1_cellsOf.data.toList.drop 0 = dktX1_cellsOf_0 := by decide +kernel
theorem dX1_cellsOf_0 : decode cX1_cellsOf 0 = .ok (.aload_n 0, 1) := dk_42 (dk_at dksX1_cellsOf_0 0 rfl rfl)
theorem dX1_cellsOf_1 : decode cX1_cellsOf 1 = .ok (.iload_n 1, 1) := dk_27 (dk_at dksX1_cellsOf_0 1 rfl rfl)
theorem dX1_cellsOf_2 : decode cX1_cellsOf 2 = .ok (.invokevirtual 162, 3) := dk_182 0 162 (dk_at dksX1_cellsOf_0 2 rfl rfl)
theorem dX1_cellsOf_5 : decode cX1_cellsOf 5 = .ok (.getfield 181, 3) := dk_180 0 181 (dk_at dksX1_cellsOf_0 5 rfl rfl)
theorem dX1_cellsOf_8 : decode cX1_cellsOf 8 = .ok (.invokeinterface 77 1, 5) := by decide +kernel
theorem dX1_cellsOf_13 : decode cX1_cellsOf 13 = .ok (.ireturn, 1) := dk_172 (dk_at dksX1_cellsOf_0 13 rfl rfl)
abbrev cX1_lay : ByteArray := prog_1_method_31_code
def yX1_lay : MethodName := ⟨RX1, "lay", "(IIIIZ)I"⟩
def dkwX1_lay_3 : List UInt8 := [184, 0, 152, 42, 182, 1, 24, 172]
abbrev dktX1_lay_3 : List UInt8 := dkwX1_lay_3 ++ []
def dkwX1_lay_2 : List UInt8 := [184, 0, 113, 42, 180, 0, 19, 185, 0, 77, 1, 0, 16, 40, 162, 0, 7, 4, 167, 0, 4, 3]
abbrev dktX1_lay_2 : List UInt8 := dkwX1_lay_2 ++ dktX1_lay_3
def dkwX1_lay_1 : List UInt8 := [21, 4, 182, 1, 17, 42, 42, 180, 0, 39, 182, 1, 21, 16, 45, 160, 0, 7, 4, 167, 0, 4, 3]
abbrev dktX1_lay_1 : List UInt8 := dkwX1_lay_1 ++ dktX1_lay_2
def dkwX1_lay_0 : List UInt8 := [42, 180, 0, 30, 42, 27, 182, 0, 162, 21, 5, 182, 1, 11, 28, 184, 1, 14, 42, 180, 0, 30, 28, 29]
abbrev dktX1_lay_0 : List UInt8 := dkwX1_lay_0 ++ dktX1_lay_1
theorem dksX1_lay_0 : cX1_lay.data.toList.drop 0 = dktX1_lay_0 := by decide +kernel
theorem dksX1_lay_1 : cX1_lay.data.toList.drop 24 = dktX1_lay_1 := dk_seg dksX1_lay_0 24 rfl rfl
theorem dksX1_lay_2 : cX1_lay.data.toList.drop 47 = dktX1_lay_2 := dk_seg dksX1_lay_1 23 rfl rfl
theorem dksX1_lay_3 : cX1_lay.data.toList.drop 69 = dktX1_lay_3 := dk_seg dksX1_lay_2 22 rfl rfl
theorem dX1_lay_0 : decode cX1_lay 0 = .ok (.aload_n 0, 1) := dk_42 (dk_at dksX1_lay_0 0 rfl rfl)
theorem dX1_lay_1 : decode cX1_lay 1 = .ok (.getfield 30, 3) := dk_180 0 30 (dk_at dksX1_lay_0 1 rfl rfl)
theorem dX1_lay_4 : decode cX1_lay 4 = .ok (.aload_n 0, 1) := dk_42 (dk_at dksX1_lay_0 4 rfl rfl)
theorem dX1_lay_5 : decode cX1_lay 5 = .ok (.iload_n 1, 1) := dk_27 (dk_at dksX1_lay_0 5 rfl rfl)
theorem dX1_lay_6 : decode cX1_lay 6 = .ok (.invokevirtual 162, 3) := dk_182 0 162 (dk_at dksX1_lay_0 6 rfl rfl)
theorem dX1_lay_9 : decode cX1_lay 9 = .ok (.iload 5, 2) := dk_21 5 (dk_at dksX1_lay_0 9 rfl rfl)
theorem dX1_lay_11 : decode cX1_lay 11 = .ok (.invokevirtual 267, 3) := dk_182 1 11 (dk_at dksX1_lay_0 11 rfl rfl)
theorem dX1_lay_14 : decode cX1_lay 14 = .ok (.iload_n 2, 1) := dk_28 (dk_at dksX1_lay_0 14 rfl rfl)
theorem dX1_lay_15 : decode cX1_lay 15 = .ok (.invokestatic 270, 3) := dk_184 1 14 (dk_at dksX1_lay_0 15 rfl rfl)
theorem dX1_lay_18 : decode cX1_lay 18 = .ok (.aload_n 0, 1) := dk_42 (dk_at dksX1_lay_0 18 rfl rfl)
theorem dX1_lay_19 : decode cX1_lay 19 = .ok (.getfield 30, 3) := dk_180 0 30 (dk_at dksX1_lay_0 19 rfl rfl)
theorem dX1_lay_22 : decode cX1_lay 22 = .ok (.iload_n 2, 1) := dk_28 (dk_at dksX1_lay_0 22 rfl rfl)
theorem dX1_lay_23 : decode cX1_lay 23 = .ok (.iload_n 3, 1) := dk_29 (dk_at dksX1_lay_0 23 rfl rfl)
theorem dX1_lay_24 : decode cX1_lay 24 = .ok (.iload 4, 2) := dk_21 4 (dk_at dksX1_lay_1 0 rfl rfl)
theorem dX1_lay_26 : decode cX1_lay 26 = .ok (.invokevirtual 273, 3) := dk_182 1 17 (dk_at dksX1_lay_1 2 rfl rfl)
theorem dX1_lay_29 : decode cX1_lay 29 = .ok (.aload_n 0, 1) := dk_42 (dk_at dksX1_lay_1 5 rfl rfl)
theorem dX1_lay_30 : decode cX1_lay 30 = .ok (.aload_n 0, 1) := dk_42 (dk_at dksX1_lay_1 6 rfl rfl)
theorem dX1_lay_31 : decode cX1_lay 31 = .ok (.getfield 39, 3) := dk_180 0 39 (dk_at dksX1_lay_1 7 rfl rfl)
theorem dX1_lay_34 : decode cX1_lay 34 = .ok (.invokevirtual 277, 3) := dk_182 1 21 (dk_at dksX1_lay_1 10 rfl rfl)
theorem dX1_lay_37 : decode cX1_lay 37 = .ok (.bipush 45, 2) := dk_16 45 (dk_at dksX1_lay_1 13 rfl rfl)
theorem dX1_lay_39 : decode cX1_lay 39 = .ok (.if_icmp .ne 7, 3) := dk_160 0 7 (dk_at dksX1_lay_1 15 rfl rfl)
theorem dX1_lay_42 : decode cX1_lay 42 = .ok (.iconst 1, 1) := dk_4 (dk_at dksX1_lay_1 18 rfl rfl)
theorem dX1_lay_43 : decode cX1_lay 43 = .ok (.goto 4, 3) := dk_167 0 4 (dk_at dksX1_lay_1 19 rfl rfl)
theorem dX1_lay_46 : decode cX1_lay 46 = .ok (.iconst 0, 1) := dk_3 (dk_at dksX1_lay_1 22 rfl rfl)
theorem dX1_lay_47 : decode cX1_lay 47 = .ok (.invokestatic 113, 3) := dk_184 0 113 (dk_at dksX1_lay_2 0 rfl rfl)
theorem dX1_lay_50 : decode cX1_lay 50 = .ok (.aload_n 0, 1) := dk_42 (dk_at dksX1_lay_2 3 rfl rfl)
theorem dX1_lay_51 : decode cX1_lay 51 = .ok (.getfield 19, 3) := dk_180 0 19 (dk_at dksX1_lay_2 4 rfl rfl)
theorem dX1_lay_54 : decode cX1_lay 54 = .ok (.invokeinterface 77 1, 5) := by decide +kernel
theorem dX1_lay_59 : decode cX1_lay 59 = .ok (.bipush 40, 2) := dk_16 40 (dk_at dksX1_lay_2 12 rfl rfl)
theorem dX1_lay_61 : decode cX1_lay 61 = .ok (.if_icmp .ge 7, 3) := dk_162 0 7 (dk_at dksX1_lay_2 14 rfl rfl)
theorem dX1_lay_64 : decode cX1_lay 64 = .ok (.iconst 1, 1) := dk_4 (dk_at dksX1_lay_2 17 rfl rfl)
theorem dX1_lay_65 : decode cX1_lay 65 = .ok (.goto 4, 3) := dk_167 0 4 (dk_at dksX1_lay_2 18 rfl rfl)
theorem dX1_lay_68 : decode cX1_lay 68 = .ok (.iconst 0, 1) := dk_3 (dk_at dksX1_lay_2 21 rfl rfl)
theorem dX1_lay_69 : decode cX1_lay 69 = .ok (.invokestatic 152, 3) := dk_184 0 152 (dk_at dksX1_lay_3 0 rfl rfl)
theorem dX1_lay_72 : decode cX1_lay 72 = .ok (.aload_n 0, 1) := dk_42 (dk_at dksX1_lay_3 3 rfl rfl)
theorem dX1_lay_73 : decode cX1_lay 73 = .ok (.invokevirtual 280, 3) := dk_182 1 24 (dk_at dksX1_lay_3 4 rfl rfl)
theorem dX1_lay_76 : decode cX1_lay 76 = .ok (.ireturn, 1) := dk_172 (dk_at dksX1_lay_3 7 rfl rfl)
abbrev cX1_checkTurns : ByteArray := prog_1_method_30_code
def yX1_checkTurns : MethodName := ⟨RX1, "checkTurns", "(I)V"⟩
def dkwX1_checkTurns_0 : List UInt8 := [26, 3, 6, 184, 0, 83, 184, 0, 141, 177]
abbrev dktX1_checkTurns_0 : List UInt8 := dkwX1_checkTurns_0 ++ []
theorem dksX1_checkTurns_0 : cX1_checkTurns.data.toList.drop 0 = dktX1_checkTurns_0 := by decide +kernel
theorem dX1_checkTurns_0 : decode cX1_checkTurns 0 = .ok (.iload_n 0, 1) := dk_26 (dk_at dksX1_checkTurns_0 0 rfl rfl)
theorem dX1_checkTurns_1 : decode cX1_checkTurns 1 = .ok (.iconst 0, 1) := dk_3 (dk_at dksX1_checkTurns_0 1 rfl rfl)
theorem dX1_checkTurns_2 : decode cX1_checkTurns 2 = .ok (.iconst 3, 1) := dk_6 (dk_at dksX1_checkTurns_0 2 rfl rfl)
theorem dX1_checkTurns_3 : decode cX1_checkTurns 3 = .ok (.invokestatic 83, 3) := dk_184 0 83 (dk_at dksX1_checkTurns_0 3 rfl rfl)
theorem dX1_checkTurns_6 : decode cX1_checkTurns 6 = .ok (.invokestatic 141, 3) := dk_184 0 141 (dk_at dksX1_checkTurns_0 6 rfl rfl)
theorem dX1_checkTurns_9 : decode cX1_checkTurns 9 = .ok (.return_, 1) := dk_177 (dk_at dksX1_checkTurns_0 9 rfl rfl)
abbrev cX1_findReason : ByteArray := prog_1_method_28_code
def yX1_findReason : MethodName := ⟨RX1, "findReason", "(LCuttingRoom$Sheet;)C"⟩
def dkwX1_findReason_2 : List UInt8 := [167, 255, 221, 16, 45, 172]
abbrev dktX1_findReason_2 : List UInt8 := dkwX1_findReason_2 ++ []
def dkwX1_findReason_1 : List UInt8 := [25, 5, 43, 185, 1, 2, 2, 0, 54, 6, 21, 6, 16, 45, 159, 0, 6, 21, 6, 172, 132, 4, 1]
abbrev dktX1_findReason_1 : List UInt8 := dkwX1_findReason_1 ++ dktX1_findReason_2
def dkwX1_findReason_0 : List UInt8 := [42, 180, 0, 64, 77, 44, 190, 62, 3, 54, 4, 21, 4, 29, 162, 0, 35, 44, 21, 4, 50, 58, 5]
abbrev dktX1_findReason_0 : List UInt8 := dkwX1_findReason_0 ++ dktX1_findReason_1
theorem dksX1_findReason_0 : cX1_findReason.data.toList.drop 0 = dktX1_findReason_0 := by decide +kernel
theorem dksX1_findReason_1 : cX1_findReason.data.toList.drop 23 = dktX1_findReason_1 := dk_seg dksX1_findReason_0 23 rfl rfl
theorem dksX1_findReason_2 : cX1_findReason.data.toList.drop 46 = dktX1_findReason_2 := dk_seg dksX1_findReason_1 23 rfl rfl
theorem dX1_findReason_0 : decode cX1_findReason 0 = .ok (.aload_n 0, 1) := dk_42 (dk_at dksX1_findReason_0 0 rfl rfl)
theorem dX1_findReason_1 : decode cX1_findReason 1 = .ok (.getfield 64, 3) := dk_180 0 64 (dk_at dksX1_findReason_0 1 rfl rfl)
theorem dX1_findReason_4 : decode cX1_findReason 4 = .ok (.astore_n 2, 1) := dk_77 (dk_at dksX1_findReason_0 4 rfl rfl)
theorem dX1_findReason_5 : decode cX1_findReason 5 = .ok (.aload_n 2, 1) := dk_44 (dk_at dksX1_findReason_0 5 rfl rfl)
theorem dX1_findReason_6 : decode cX1_findReason 6 = .ok (.arraylength, 1) := dk_190 (dk_at dksX1_findReason_0 6 rfl rfl)
theorem dX1_findReason_7 : decode cX1_findReason 7 = .ok (.istore_n 3, 1) := dk_62 (dk_at dksX1_findReason_0 7 rfl rfl)
theorem dX1_findReason_8 : decode cX1_findReason 8 = .ok (.iconst 0, 1) := dk_3 (dk_at dksX1_findReason_0 8 rfl rfl)
theorem dX1_findReason_9 : decode cX1_findReason 9 = .ok (.istore 4, 2) := dk_54 4 (dk_at dksX1_findReason_0 9 rfl rfl)
theorem dX1_findReason_11 : decode cX1_findReason 11 = .ok (.iload 4, 2) := dk_21 4 (dk_at dksX1_findReason_0 11 rfl rfl)
theorem dX1_findReason_13 : decode cX1_findReason 13 = .ok (.iload_n 3, 1) := dk_29 (dk_at dksX1_findReason_0 13 rfl rfl)
theorem dX1_findReason_14 : decode cX1_findReason 14 = .ok (.if_icmp .ge 35, 3) := dk_162 0 35 (dk_at dksX1_findReason_0 14 rfl rfl)
theorem dX1_findReason_17 : decode cX1_findReason 17 = .ok (.aload_n 2, 1) := dk_44 (dk_at dksX1_findReason_0 17 rfl rfl)
theorem dX1_findReason_18 : decode cX1_findReason 18 = .ok (.iload 4, 2) := dk_21 4 (dk_at dksX1_findReason_0 18 rfl rfl)
theorem dX1_findReason_20 : decode cX1_findReason 20 = .ok (.aaload, 1) := dk_50 (dk_at dksX1_findReason_0 20 rfl rfl)
theorem dX1_findReason_21 : decode cX1_findReason 21 = .ok (.astore 5, 2) := dk_58 5 (dk_at dksX1_findReason_0 21 rfl rfl)
theorem dX1_findReason_23 : decode cX1_findReason 23 = .ok (.aload 5, 2) := dk_25 5 (dk_at dksX1_findReason_1 0 rfl rfl)
theorem dX1_findReason_25 : decode cX1_findReason 25 = .ok (.aload_n 1, 1) := dk_43 (dk_at dksX1_findReason_1 2 rfl rfl)
theorem dX1_findReason_26 : decode cX1_findReason 26 = .ok (.invokeinterface 258 2, 5) := by decide +kernel
theorem dX1_findReason_31 : decode cX1_findReason 31 = .ok (.istore 6, 2) := dk_54 6 (dk_at dksX1_findReason_1 8 rfl rfl)
theorem dX1_findReason_33 : decode cX1_findReason 33 = .ok (.iload 6, 2) := dk_21 6 (dk_at dksX1_findReason_1 10 rfl rfl)
theorem dX1_findReason_35 : decode cX1_findReason 35 = .ok (.bipush 45, 2) := dk_16 45 (dk_at dksX1_findReason_1 12 rfl rfl)
theorem dX1_findReason_37 : decode cX1_findReason 37 = .ok (.if_icmp .eq 6, 3) := dk_159 0 6 (dk_at dksX1_findReason_1 14 rfl rfl)
theorem dX1_findReason_40 : decode cX1_findReason 40 = .ok (.iload 6, 2) := dk_21 6 (dk_at dksX1_findReason_1 17 rfl rfl)
theorem dX1_findReason_42 : decode cX1_findReason 42 = .ok (.ireturn, 1) := dk_172 (dk_at dksX1_findReason_1 19 rfl rfl)
theorem dX1_findReason_43 : decode cX1_findReason 43 = .ok (.iinc 4 1, 3) := dk_132 4 1 (dk_at dksX1_findReason_1 20 rfl rfl)
theorem dX1_findReason_46 : decode cX1_findReason 46 = .ok (.goto (-35), 3) := dk_167 255 221 (dk_at dksX1_findReason_2 0 rfl rfl)
theorem dX1_findReason_49 : decode cX1_findReason 49 = .ok (.bipush 45, 2) := dk_16 45 (dk_at dksX1_findReason_2 3 rfl rfl)
theorem dX1_findReason_51 : decode cX1_findReason 51 = .ok (.ireturn, 1) := dk_172 (dk_at dksX1_findReason_2 5 rfl rfl)
abbrev cX1_putIntoMarker : ByteArray := prog_1_method_29_code
def yX1_putIntoMarker : MethodName := ⟨RX1, "putIntoMarker", "()I"⟩
def dkwX1_putIntoMarker_2 : List UInt8 := [182, 0, 222, 43, 180, 0, 119, 172]
abbrev dktX1_putIntoMarker_2 : List UInt8 := dkwX1_putIntoMarker_2 ++ []
def dkwX1_putIntoMarker_1 : List UInt8 := [181, 1, 5, 42, 180, 0, 19, 43, 185, 0, 158, 2, 0, 87, 42, 180, 0, 39, 43, 180, 0, 119]
abbrev dktX1_putIntoMarker_1 : List UInt8 := dkwX1_putIntoMarker_1 ++ dktX1_putIntoMarker_2
def dkwX1_putIntoMarker_0 : List UInt8 := [187, 0, 117, 89, 42, 180, 1, 5, 42, 180, 0, 30, 183, 1, 8, 76, 42, 89, 180, 1, 5, 4, 96]
abbrev dktX1_putIntoMarker_0 : List UInt8 := dkwX1_putIntoMarker_0 ++ dktX1_putIntoMarker_1
theorem dksX1_putIntoMarker_0 : cX1_putIntoMarker.data.toList.drop 0 = dktX1_putIntoMarker_0 := by decide +kernel
theorem dksX1_putIntoMarker_1 : cX1_putIntoMarker.data.toList.drop 23 = dktX1_putIntoMarker_1 := dk_seg dksX1_putIntoMarker_0 23 rfl rfl
theorem dksX1_putIntoMarker_2 : cX1_putIntoMarker.data.toList.drop 45 = dktX1_putIntoMarker_2 := dk_seg dksX1_putIntoMarker_1 22 rfl rfl
theorem dX1_putIntoMarker_0 : decode cX1_putIntoMarker 0 = .ok (.new 117, 3) := dk_187 0 117 (dk_at dksX1_putIntoMarker_0 0 rfl rfl)
theorem dX1_putIntoMarker_3 : decode cX1_putIntoMarker 3 = .ok (.dup, 1) := dk_89 (dk_at dksX1_putIntoMarker_0 3 rfl rfl)
theorem dX1_putIntoMarker_4 : decode cX1_putIntoMarker 4 = .ok (.aload_n 0, 1) := dk_42 (dk_at dksX1_putIntoMarker_0 4 rfl rfl)
theorem dX1_putIntoMarker_5 : decode cX1_putIntoMarker 5 = .ok (.getfield 261, 3) := dk_180 1 5 (dk_at dksX1_putIntoMarker_0 5 rfl rfl)
theorem dX1_putIntoMarker_8 : decode cX1_putIntoMarker 8 = .ok (.aload_n 0, 1) := dk_42 (dk_at dksX1_putIntoMarker_0 8 rfl rfl)
theorem dX1_putIntoMarker_9 : decode cX1_putIntoMarker 9 = .ok (.getfield 30, 3) := dk_180 0 30 (dk_at dksX1_putIntoMarker_0 9 rfl rfl)
theorem dX1_putIntoMarker_12 : decode cX1_putIntoMarker 12 = .ok (.invokespecial 264, 3) := dk_183 1 8 (dk_at dksX1_putIntoMarker_0 12 rfl rfl)
theorem dX1_putIntoMarker_15 : decode cX1_putIntoMarker 15 = .ok (.astore_n 1, 1) := dk_76 (dk_at dksX1_putIntoMarker_0 15 rfl rfl)
theorem dX1_putIntoMarker_16 : decode cX1_putIntoMarker 16 = .ok (.aload_n 0, 1) := dk_42 (dk_at dksX1_putIntoMarker_0 16 rfl rfl)
theorem dX1_putIntoMarker_17 : decode cX1_putIntoMarker 17 = .ok (.dup, 1) := dk_89 (dk_at dksX1_putIntoMarker_0 17 rfl rfl)
theorem dX1_putIntoMarker_18 : decode cX1_putIntoMarker 18 = .ok (.getfield 261, 3) := dk_180 1 5 (dk_at dksX1_putIntoMarker_0 18 rfl rfl)
theorem dX1_putIntoMarker_21 : decode cX1_putIntoMarker 21 = .ok (.iconst 1, 1) := dk_4 (dk_at dksX1_putIntoMarker_0 21 rfl rfl)
theorem dX1_putIntoMarker_22 : decode cX1_putIntoMarker 22 = .ok (.iadd, 1) := dk_96 (dk_at dksX1_putIntoMarker_0 22 rfl rfl)
theorem dX1_putIntoMarker_23 : decode cX1_putIntoMarker 23 = .ok (.putfield 261, 3) := dk_181 1 5 (dk_at dksX1_putIntoMarker_1 0 rfl rfl)
theorem dX1_putIntoMarker_26 : decode cX1_putIntoMarker 26 = .ok (.aload_n 0, 1) := dk_42 (dk_at dksX1_putIntoMarker_1 3 rfl rfl)
theorem dX1_putIntoMarker_27 : decode cX1_putIntoMarker 27 = .ok (.getfield 19, 3) := dk_180 0 19 (dk_at dksX1_putIntoMarker_1 4 rfl rfl)
theorem dX1_putIntoMarker_30 : decode cX1_putIntoMarker 30 = .ok (.aload_n 1, 1) := dk_43 (dk_at dksX1_putIntoMarker_1 7 rfl rfl)
theorem dX1_putIntoMarker_31 : decode cX1_putIntoMarker 31 = .ok (.invokeinterface 158 2, 5) := by decide +kernel
theorem dX1_putIntoMarker_36 : decode cX1_putIntoMarker 36 = .ok (.pop, 1) := dk_87 (dk_at dksX1_putIntoMarker_1 13 rfl rfl)
theorem dX1_putIntoMarker_37 : decode cX1_putIntoMarker 37 = .ok (.aload_n 0, 1) := dk_42 (dk_at dksX1_putIntoMarker_1 14 rfl rfl)
theorem dX1_putIntoMarker_38 : decode cX1_putIntoMarker 38 = .ok (.getfield 39, 3) := dk_180 0 39 (dk_at dksX1_putIntoMarker_1 15 rfl rfl)
theorem dX1_putIntoMarker_41 : decode cX1_putIntoMarker 41 = .ok (.aload_n 1, 1) := dk_43 (dk_at dksX1_putIntoMarker_1 18 rfl rfl)
theorem dX1_putIntoMarker_42 : decode cX1_putIntoMarker 42 = .ok (.getfield 119, 3) := dk_180 0 119 (dk_at dksX1_putIntoMarker_1 19 rfl rfl)
theorem dX1_putIntoMarker_45 : decode cX1_putIntoMarker 45 = .ok (.invokevirtual 222, 3) := dk_182 0 222 (dk_at dksX1_putIntoMarker_2 0 rfl rfl)
theorem dX1_putIntoMarker_48 : decode cX1_putIntoMarker 48 = .ok (.aload_n 1, 1) := dk_43 (dk_at dksX1_putIntoMarker_2 3 rfl rfl)
theorem dX1_putIntoMarker_49 : decode cX1_putIntoMarker 49 = .ok (.getfield 119, 3) := dk_180 0 119 (dk_at dksX1_putIntoMarker_2 4 rfl rfl)
theorem dX1_putIntoMarker_52 : decode cX1_putIntoMarker 52 = .ok (.ireturn, 1) := dk_172 (dk_at dksX1_putIntoMarker_2 7 rfl rfl)
abbrev cX1_reason : ByteArray := prog_1_method_32_code
def yX1_reason : MethodName := ⟨RX1, "reason", "(IIIIZ)C"⟩
def dkwX1_reason_1 : List UInt8 := [21, 4, 182, 1, 17, 42, 42, 180, 0, 39, 182, 1, 21, 172]
abbrev dktX1_reason_1 : List UInt8 := dkwX1_reason_1 ++ []
def dkwX1_reason_0 : List UInt8 := [42, 180, 0, 30, 42, 27, 182, 0, 162, 21, 5, 182, 1, 11, 28, 184, 1, 14, 42, 180, 0, 30, 28, 29]
abbrev dktX1_reason_0 : List UInt8 := dkwX1_reason_0 ++ dktX1_reason_1
theorem dksX1_reason_0 : cX1_reason.data.toList.drop 0 = dktX1_reason_0 := by decide +kernel
theorem dksX1_reason_1 : cX1_reason.data.toList.drop 24 = dktX1_reason_1 := dk_seg dksX1_reason_0 24 rfl rfl
theorem dX1_reason_0 : decode cX1_reason 0 = .ok (.aload_n 0, 1) := dk_42 (dk_at dksX1_reason_0 0 rfl rfl)
theorem dX1_reason_1 : decode cX1_reason 1 = .ok (.getfield 30, 3) := dk_180 0 30 (dk_at dksX1_reason_0 1 rfl rfl)
theorem dX1_reason_4 : decode cX1_reason 4 = .ok (.aload_n 0, 1) := dk_42 (dk_at dksX1_reason_0 4 rfl rfl)
theorem dX1_reason_5 : decode cX1_reason 5 = .ok (.iload_n 1, 1) := dk_27 (dk_at dksX1_reason_0 5 rfl rfl)
theorem dX1_reason_6 : decode cX1_reason 6 = .ok (.invokevirtual 162, 3) := dk_182 0 162 (dk_at dksX1_reason_0 6 rfl rfl)
theorem dX1_reason_9 : decode cX1_reason 9 = .ok (.iload 5, 2) := dk_21 5 (dk_at dksX1_reason_0 9 rfl rfl)
theorem dX1_reason_11 : decode cX1_reason 11 = .ok (.invokevirtual 267, 3) := dk_182 1 11 (dk_at dksX1_reason_0 11 rfl rfl)
theorem dX1_reason_14 : decode cX1_reason 14 = .ok (.iload_n 2, 1) := dk_28 (dk_at dksX1_reason_0 14 rfl rfl)
theorem dX1_reason_15 : decode cX1_reason 15 = .ok (.invokestatic 270, 3) := dk_184 1 14 (dk_at dksX1_reason_0 15 rfl rfl)
theorem dX1_reason_18 : decode cX1_reason 18 = .ok (.aload_n 0, 1) := dk_42 (dk_at dksX1_reason_0 18 rfl rfl)
theorem dX1_reason_19 : decode cX1_reason 19 = .ok (.getfield 30, 3) := dk_180 0 30 (dk_at dksX1_reason_0 19 rfl rfl)
theorem dX1_reason_22 : decode cX1_reason 22 = .ok (.iload_n 2, 1) := dk_28 (dk_at dksX1_reason_0 22 rfl rfl)
theorem dX1_reason_23 : decode cX1_reason 23 = .ok (.iload_n 3, 1) := dk_29 (dk_at dksX1_reason_0 23 rfl rfl)
theorem dX1_reason_24 : decode cX1_reason 24 = .ok (.iload 4, 2) := dk_21 4 (dk_at dksX1_reason_1 0 rfl rfl)
theorem dX1_reason_26 : decode cX1_reason 26 = .ok (.invokevirtual 273, 3) := dk_182 1 17 (dk_at dksX1_reason_1 2 rfl rfl)
theorem dX1_reason_29 : decode cX1_reason 29 = .ok (.aload_n 0, 1) := dk_42 (dk_at dksX1_reason_1 5 rfl rfl)
theorem dX1_reason_30 : decode cX1_reason 30 = .ok (.aload_n 0, 1) := dk_42 (dk_at dksX1_reason_1 6 rfl rfl)
theorem dX1_reason_31 : decode cX1_reason 31 = .ok (.getfield 39, 3) := dk_180 0 39 (dk_at dksX1_reason_1 7 rfl rfl)
theorem dX1_reason_34 : decode cX1_reason 34 = .ok (.invokevirtual 277, 3) := dk_182 1 21 (dk_at dksX1_reason_1 10 rfl rfl)
theorem dX1_reason_37 : decode cX1_reason 37 = .ok (.ireturn, 1) := dk_172 (dk_at dksX1_reason_1 13 rfl rfl)
abbrev cX1_nest : ByteArray := prog_1_method_34_code
def yX1_nest : MethodName := ⟨RX1, "nest", "(IZ)I"⟩
def dkwX1_nest_2 : List UInt8 := [167, 0, 4, 3, 184, 0, 152, 42, 182, 1, 24, 172]
abbrev dktX1_nest_2 : List UInt8 := dkwX1_nest_2 ++ []
def dkwX1_nest_1 : List UInt8 := [187, 0, 122, 89, 183, 0, 124, 191, 42, 180, 0, 19, 185, 0, 77, 1, 0, 16, 40, 162, 0, 7, 4]
abbrev dktX1_nest_1 : List UInt8 := dkwX1_nest_1 ++ dktX1_nest_2
def dkwX1_nest_0 : List UInt8 := [42, 180, 0, 30, 42, 27, 182, 0, 162, 28, 182, 1, 11, 42, 42, 180, 0, 39, 182, 1, 27, 154, 0, 11]
abbrev dktX1_nest_0 : List UInt8 := dkwX1_nest_0 ++ dktX1_nest_1
theorem dksX1_nest_0 : cX1_nest.data.toList.drop 0 = dktX1_nest_0 := by decide +kernel
theorem dksX1_nest_1 : cX1_nest.data.toList.drop 24 = dktX1_nest_1 := dk_seg dksX1_nest_0 24 rfl rfl
theorem dksX1_nest_2 : cX1_nest.data.toList.drop 47 = dktX1_nest_2 := dk_seg dksX1_nest_1 23 rfl rfl
theorem dX1_nest_0 : decode cX1_nest 0 = .ok (.aload_n 0, 1) := dk_42 (dk_at dksX1_nest_0 0 rfl rfl)
theorem dX1_nest_1 : decode cX1_nest 1 = .ok (.getfield 30, 3) := dk_180 0 30 (dk_at dksX1_nest_0 1 rfl rfl)
theorem dX1_nest_4 : decode cX1_nest 4 = .ok (.aload_n 0, 1) := dk_42 (dk_at dksX1_nest_0 4 rfl rfl)
theorem dX1_nest_5 : decode cX1_nest 5 = .ok (.iload_n 1, 1) := dk_27 (dk_at dksX1_nest_0 5 rfl rfl)
theorem dX1_nest_6 : decode cX1_nest 6 = .ok (.invokevirtual 162, 3) := dk_182 0 162 (dk_at dksX1_nest_0 6 rfl rfl)
theorem dX1_nest_9 : decode cX1_nest 9 = .ok (.iload_n 2, 1) := dk_28 (dk_at dksX1_nest_0 9 rfl rfl)
theorem dX1_nest_10 : decode cX1_nest 10 = .ok (.invokevirtual 267, 3) := dk_182 1 11 (dk_at dksX1_nest_0 10 rfl rfl)
theorem dX1_nest_13 : decode cX1_nest 13 = .ok (.aload_n 0, 1) := dk_42 (dk_at dksX1_nest_0 13 rfl rfl)
theorem dX1_nest_14 : decode cX1_nest 14 = .ok (.aload_n 0, 1) := dk_42 (dk_at dksX1_nest_0 14 rfl rfl)
theorem dX1_nest_15 : decode cX1_nest 15 = .ok (.getfield 39, 3) := dk_180 0 39 (dk_at dksX1_nest_0 15 rfl rfl)
theorem dX1_nest_18 : decode cX1_nest 18 = .ok (.invokevirtual 283, 3) := dk_182 1 27 (dk_at dksX1_nest_0 18 rfl rfl)
theorem dX1_nest_21 : decode cX1_nest 21 = .ok (.ifCond .ne 11, 3) := dk_154 0 11 (dk_at dksX1_nest_0 21 rfl rfl)
theorem dX1_nest_24 : decode cX1_nest 24 = .ok (.new 122, 3) := dk_187 0 122 (dk_at dksX1_nest_1 0 rfl rfl)
theorem dX1_nest_27 : decode cX1_nest 27 = .ok (.dup, 1) := dk_89 (dk_at dksX1_nest_1 3 rfl rfl)
theorem dX1_nest_28 : decode cX1_nest 28 = .ok (.invokespecial 124, 3) := dk_183 0 124 (dk_at dksX1_nest_1 4 rfl rfl)
theorem dX1_nest_31 : decode cX1_nest 31 = .ok (.athrow, 1) := dk_191 (dk_at dksX1_nest_1 7 rfl rfl)
theorem dX1_nest_32 : decode cX1_nest 32 = .ok (.aload_n 0, 1) := dk_42 (dk_at dksX1_nest_1 8 rfl rfl)
theorem dX1_nest_33 : decode cX1_nest 33 = .ok (.getfield 19, 3) := dk_180 0 19 (dk_at dksX1_nest_1 9 rfl rfl)
theorem dX1_nest_36 : decode cX1_nest 36 = .ok (.invokeinterface 77 1, 5) := by decide +kernel
theorem dX1_nest_41 : decode cX1_nest 41 = .ok (.bipush 40, 2) := dk_16 40 (dk_at dksX1_nest_1 17 rfl rfl)
theorem dX1_nest_43 : decode cX1_nest 43 = .ok (.if_icmp .ge 7, 3) := dk_162 0 7 (dk_at dksX1_nest_1 19 rfl rfl)
theorem dX1_nest_46 : decode cX1_nest 46 = .ok (.iconst 1, 1) := dk_4 (dk_at dksX1_nest_1 22 rfl rfl)
theorem dX1_nest_47 : decode cX1_nest 47 = .ok (.goto 4, 3) := dk_167 0 4 (dk_at dksX1_nest_2 0 rfl rfl)
theorem dX1_nest_50 : decode cX1_nest 50 = .ok (.iconst 0, 1) := dk_3 (dk_at dksX1_nest_2 3 rfl rfl)
theorem dX1_nest_51 : decode cX1_nest 51 = .ok (.invokestatic 152, 3) := dk_184 0 152 (dk_at dksX1_nest_2 4 rfl rfl)
theorem dX1_nest_54 : decode cX1_nest 54 = .ok (.aload_n 0, 1) := dk_42 (dk_at dksX1_nest_2 7 rfl rfl)
theorem dX1_nest_55 : decode cX1_nest 55 = .ok (.invokevirtual 280, 3) := dk_182 1 24 (dk_at dksX1_nest_2 8 rfl rfl)
theorem dX1_nest_58 : decode cX1_nest 58 = .ok (.ireturn, 1) := dk_172 (dk_at dksX1_nest_2 11 rfl rfl)
abbrev cX1_findNest : ByteArray := prog_1_method_33_code
def yX1_findNest : MethodName := ⟨RX1, "findNest", "(LCuttingRoom$Sheet;)Z"⟩
def dkwX1_findNest_2 : List UInt8 := [4, 172, 132, 4, 1, 167, 255, 224, 132, 3, 1, 167, 255, 207, 132, 2, 1, 167, 255, 193, 3, 172]
abbrev dktX1_findNest_2 : List UInt8 := dkwX1_findNest_2 ++ []
def dkwX1_findNest_1 : List UInt8 := [162, 0, 32, 42, 180, 0, 30, 21, 4, 28, 29, 182, 1, 17, 42, 43, 182, 1, 21, 16, 45, 160, 0, 5]
abbrev dktX1_findNest_1 : List UInt8 := dkwX1_findNest_1 ++ dktX1_findNest_2
def dkwX1_findNest_0 : List UInt8 := [3, 61, 28, 16, 60, 162, 0, 63, 3, 62, 29, 42, 182, 0, 243, 162, 0, 47, 3, 54, 4, 21, 4, 7]
abbrev dktX1_findNest_0 : List UInt8 := dkwX1_findNest_0 ++ dktX1_findNest_1
theorem dksX1_findNest_0 : cX1_findNest.data.toList.drop 0 = dktX1_findNest_0 := by decide +kernel
theorem dksX1_findNest_1 : cX1_findNest.data.toList.drop 24 = dktX1_findNest_1 := dk_seg dksX1_findNest_0 24 rfl rfl
theorem dksX1_findNest_2 : cX1_findNest.data.toList.drop 48 = dktX1_findNest_2 := dk_seg dksX1_findNest_1 24 rfl rfl
theorem dX1_findNest_0 : decode cX1_findNest 0 = .ok (.iconst 0, 1) := dk_3 (dk_at dksX1_findNest_0 0 rfl rfl)
theorem dX1_findNest_1 : decode cX1_findNest 1 = .ok (.istore_n 2, 1) := dk_61 (dk_at dksX1_findNest_0 1 rfl rfl)
theorem dX1_findNest_2 : decode cX1_findNest 2 = .ok (.iload_n 2, 1) := dk_28 (dk_at dksX1_findNest_0 2 rfl rfl)
theorem dX1_findNest_3 : decode cX1_findNest 3 = .ok (.bipush 60, 2) := dk_16 60 (dk_at dksX1_findNest_0 3 rfl rfl)
theorem dX1_findNest_5 : decode cX1_findNest 5 = .ok (.if_icmp .ge 63, 3) := dk_162 0 63 (dk_at dksX1_findNest_0 5 rfl rfl)
theorem dX1_findNest_8 : decode cX1_findNest 8 = .ok (.iconst 0, 1) := dk_3 (dk_at dksX1_findNest_0 8 rfl rfl)
theorem dX1_findNest_9 : decode cX1_findNest 9 = .ok (.istore_n 3, 1) := dk_62 (dk_at dksX1_findNest_0 9 rfl rfl)
theorem dX1_findNest_10 : decode cX1_findNest 10 = .ok (.iload_n 3, 1) := dk_29 (dk_at dksX1_findNest_0 10 rfl rfl)
theorem dX1_findNest_11 : decode cX1_findNest 11 = .ok (.aload_n 0, 1) := dk_42 (dk_at dksX1_findNest_0 11 rfl rfl)
theorem dX1_findNest_12 : decode cX1_findNest 12 = .ok (.invokevirtual 243, 3) := dk_182 0 243 (dk_at dksX1_findNest_0 12 rfl rfl)
theorem dX1_findNest_15 : decode cX1_findNest 15 = .ok (.if_icmp .ge 47, 3) := dk_162 0 47 (dk_at dksX1_findNest_0 15 rfl rfl)
theorem dX1_findNest_18 : decode cX1_findNest 18 = .ok (.iconst 0, 1) := dk_3 (dk_at dksX1_findNest_0 18 rfl rfl)
theorem dX1_findNest_19 : decode cX1_findNest 19 = .ok (.istore 4, 2) := dk_54 4 (dk_at dksX1_findNest_0 19 rfl rfl)
theorem dX1_findNest_21 : decode cX1_findNest 21 = .ok (.iload 4, 2) := dk_21 4 (dk_at dksX1_findNest_0 21 rfl rfl)
theorem dX1_findNest_23 : decode cX1_findNest 23 = .ok (.iconst 4, 1) := dk_7 (dk_at dksX1_findNest_0 23 rfl rfl)
theorem dX1_findNest_24 : decode cX1_findNest 24 = .ok (.if_icmp .ge 32, 3) := dk_162 0 32 (dk_at dksX1_findNest_1 0 rfl rfl)
theorem dX1_findNest_27 : decode cX1_findNest 27 = .ok (.aload_n 0, 1) := dk_42 (dk_at dksX1_findNest_1 3 rfl rfl)
theorem dX1_findNest_28 : decode cX1_findNest 28 = .ok (.getfield 30, 3) := dk_180 0 30 (dk_at dksX1_findNest_1 4 rfl rfl)
theorem dX1_findNest_31 : decode cX1_findNest 31 = .ok (.iload 4, 2) := dk_21 4 (dk_at dksX1_findNest_1 7 rfl rfl)
theorem dX1_findNest_33 : decode cX1_findNest 33 = .ok (.iload_n 2, 1) := dk_28 (dk_at dksX1_findNest_1 9 rfl rfl)
theorem dX1_findNest_34 : decode cX1_findNest 34 = .ok (.iload_n 3, 1) := dk_29 (dk_at dksX1_findNest_1 10 rfl rfl)
theorem dX1_findNest_35 : decode cX1_findNest 35 = .ok (.invokevirtual 273, 3) := dk_182 1 17 (dk_at dksX1_findNest_1 11 rfl rfl)
theorem dX1_findNest_38 : decode cX1_findNest 38 = .ok (.aload_n 0, 1) := dk_42 (dk_at dksX1_findNest_1 14 rfl rfl)
theorem dX1_findNest_39 : decode cX1_findNest 39 = .ok (.aload_n 1, 1) := dk_43 (dk_at dksX1_findNest_1 15 rfl rfl)
theorem dX1_findNest_40 : decode cX1_findNest 40 = .ok (.invokevirtual 277, 3) := dk_182 1 21 (dk_at dksX1_findNest_1 16 rfl rfl)
theorem dX1_findNest_43 : decode cX1_findNest 43 = .ok (.bipush 45, 2) := dk_16 45 (dk_at dksX1_findNest_1 19 rfl rfl)
theorem dX1_findNest_45 : decode cX1_findNest 45 = .ok (.if_icmp .ne 5, 3) := dk_160 0 5 (dk_at dksX1_findNest_1 21 rfl rfl)
theorem dX1_findNest_48 : decode cX1_findNest 48 = .ok (.iconst 1, 1) := dk_4 (dk_at dksX1_findNest_2 0 rfl rfl)
theorem dX1_findNest_49 : decode cX1_findNest 49 = .ok (.ireturn, 1) := dk_172 (dk_at dksX1_findNest_2 1 rfl rfl)
theorem dX1_findNest_50 : decode cX1_findNest 50 = .ok (.iinc 4 1, 3) := dk_132 4 1 (dk_at dksX1_findNest_2 2 rfl rfl)
theorem dX1_findNest_53 : decode cX1_findNest 53 = .ok (.goto (-32), 3) := dk_167 255 224 (dk_at dksX1_findNest_2 5 rfl rfl)
theorem dX1_findNest_56 : decode cX1_findNest 56 = .ok (.iinc 3 1, 3) := dk_132 3 1 (dk_at dksX1_findNest_2 8 rfl rfl)
theorem dX1_findNest_59 : decode cX1_findNest 59 = .ok (.goto (-49), 3) := dk_167 255 207 (dk_at dksX1_findNest_2 11 rfl rfl)
theorem dX1_findNest_62 : decode cX1_findNest 62 = .ok (.iinc 2 1, 3) := dk_132 2 1 (dk_at dksX1_findNest_2 14 rfl rfl)
theorem dX1_findNest_65 : decode cX1_findNest 65 = .ok (.goto (-63), 3) := dk_167 255 193 (dk_at dksX1_findNest_2 17 rfl rfl)
theorem dX1_findNest_68 : decode cX1_findNest 68 = .ok (.iconst 0, 1) := dk_3 (dk_at dksX1_findNest_2 20 rfl rfl)
theorem dX1_findNest_69 : decode cX1_findNest 69 = .ok (.ireturn, 1) := dk_172 (dk_at dksX1_findNest_2 21 rfl rfl)
abbrev cX1_takeOff : ByteArray := prog_1_method_35_code
def yX1_takeOff : MethodName := ⟨RX1, "takeOff", "(I)I"⟩
def dkwX1_takeOff_1 : List UInt8 := [180, 1, 41, 172]
abbrev dktX1_takeOff_1 : List UInt8 := dkwX1_takeOff_1 ++ []
def dkwX1_takeOff_0 : List UInt8 := [42, 180, 0, 19, 42, 27, 182, 1, 31, 185, 1, 35, 2, 0, 87, 42, 182, 1, 38, 42, 180, 0, 39]
abbrev dktX1_takeOff_0 : List UInt8 := dkwX1_takeOff_0 ++ dktX1_takeOff_1
theorem dksX1_takeOff_0 : cX1_takeOff.data.toList.drop 0 = dktX1_takeOff_0 := by decide +kernel
theorem dksX1_takeOff_1 : cX1_takeOff.data.toList.drop 23 = dktX1_takeOff_1 := dk_seg dksX1_takeOff_0 23 rfl rfl
theorem dX1_takeOff_0 : decode cX1_takeOff 0 = .ok (.aload_n 0, 1) := dk_42 (dk_at dksX1_takeOff_0 0 rfl rfl)
theorem dX1_takeOff_1 : decode cX1_takeOff 1 = .ok (.getfield 19, 3) := dk_180 0 19 (dk_at dksX1_takeOff_0 1 rfl rfl)
theorem dX1_takeOff_4 : decode cX1_takeOff 4 = .ok (.aload_n 0, 1) := dk_42 (dk_at dksX1_takeOff_0 4 rfl rfl)
theorem dX1_takeOff_5 : decode cX1_takeOff 5 = .ok (.iload_n 1, 1) := dk_27 (dk_at dksX1_takeOff_0 5 rfl rfl)
theorem dX1_takeOff_6 : decode cX1_takeOff 6 = .ok (.invokevirtual 287, 3) := dk_182 1 31 (dk_at dksX1_takeOff_0 6 rfl rfl)
theorem dX1_takeOff_9 : decode cX1_takeOff 9 = .ok (.invokeinterface 291 2, 5) := by decide +kernel
theorem dX1_takeOff_14 : decode cX1_takeOff 14 = .ok (.pop, 1) := dk_87 (dk_at dksX1_takeOff_0 14 rfl rfl)
theorem dX1_takeOff_15 : decode cX1_takeOff 15 = .ok (.aload_n 0, 1) := dk_42 (dk_at dksX1_takeOff_0 15 rfl rfl)
theorem dX1_takeOff_16 : decode cX1_takeOff 16 = .ok (.invokevirtual 294, 3) := dk_182 1 38 (dk_at dksX1_takeOff_0 16 rfl rfl)
theorem dX1_takeOff_19 : decode cX1_takeOff 19 = .ok (.aload_n 0, 1) := dk_42 (dk_at dksX1_takeOff_0 19 rfl rfl)
theorem dX1_takeOff_20 : decode cX1_takeOff 20 = .ok (.getfield 39, 3) := dk_180 0 39 (dk_at dksX1_takeOff_0 20 rfl rfl)
theorem dX1_takeOff_23 : decode cX1_takeOff 23 = .ok (.getfield 297, 3) := dk_180 1 41 (dk_at dksX1_takeOff_1 0 rfl rfl)
theorem dX1_takeOff_26 : decode cX1_takeOff 26 = .ok (.ireturn, 1) := dk_172 (dk_at dksX1_takeOff_1 3 rfl rfl)
abbrev cX1_layAgain : ByteArray := prog_1_method_24_code
def yX1_layAgain : MethodName := ⟨RX1, "layAgain", "()V"⟩
def dkwX1_layAgain_2 : List UInt8 := [180, 0, 39, 44, 180, 0, 119, 182, 0, 222, 132, 1, 1, 167, 255, 207, 177]
abbrev dktX1_layAgain_2 : List UInt8 := dkwX1_layAgain_2 ++ []
def dkwX1_layAgain_1 : List UInt8 := [180, 0, 19, 27, 185, 0, 90, 2, 0, 192, 0, 117, 77, 42, 180, 0, 30, 44, 182, 0, 218, 42]
abbrev dktX1_layAgain_1 : List UInt8 := dkwX1_layAgain_1 ++ dktX1_layAgain_2
def dkwX1_layAgain_0 : List UInt8 := [42, 180, 0, 39, 182, 0, 215, 3, 60, 27, 42, 180, 0, 19, 185, 0, 77, 1, 0, 162, 0, 42, 42]
abbrev dktX1_layAgain_0 : List UInt8 := dkwX1_layAgain_0 ++ dktX1_layAgain_1
theorem dksX1_layAgain_0 : cX1_layAgain.data.toList.drop 0 = dktX1_layAgain_0 := by decide +kernel
theorem dksX1_layAgain_1 : cX1_layAgain.data.toList.drop 23 = dktX1_layAgain_1 := dk_seg dksX1_layAgain_0 23 rfl rfl
theorem dksX1_layAgain_2 : cX1_layAgain.data.toList.drop 45 = dktX1_layAgain_2 := dk_seg dksX1_layAgain_1 22 rfl rfl
theorem dX1_layAgain_0 : decode cX1_layAgain 0 = .ok (.aload_n 0, 1) := dk_42 (dk_at dksX1_layAgain_0 0 rfl rfl)
theorem dX1_layAgain_1 : decode cX1_layAgain 1 = .ok (.getfield 39, 3) := dk_180 0 39 (dk_at dksX1_layAgain_0 1 rfl rfl)
theorem dX1_layAgain_4 : decode cX1_layAgain 4 = .ok (.invokevirtual 215, 3) := dk_182 0 215 (dk_at dksX1_layAgain_0 4 rfl rfl)
theorem dX1_layAgain_7 : decode cX1_layAgain 7 = .ok (.iconst 0, 1) := dk_3 (dk_at dksX1_layAgain_0 7 rfl rfl)
theorem dX1_layAgain_8 : decode cX1_layAgain 8 = .ok (.istore_n 1, 1) := dk_60 (dk_at dksX1_layAgain_0 8 rfl rfl)
theorem dX1_layAgain_9 : decode cX1_layAgain 9 = .ok (.iload_n 1, 1) := dk_27 (dk_at dksX1_layAgain_0 9 rfl rfl)
theorem dX1_layAgain_10 : decode cX1_layAgain 10 = .ok (.aload_n 0, 1) := dk_42 (dk_at dksX1_layAgain_0 10 rfl rfl)
theorem dX1_layAgain_11 : decode cX1_layAgain 11 = .ok (.getfield 19, 3) := dk_180 0 19 (dk_at dksX1_layAgain_0 11 rfl rfl)
theorem dX1_layAgain_14 : decode cX1_layAgain 14 = .ok (.invokeinterface 77 1, 5) := by decide +kernel
theorem dX1_layAgain_19 : decode cX1_layAgain 19 = .ok (.if_icmp .ge 42, 3) := dk_162 0 42 (dk_at dksX1_layAgain_0 19 rfl rfl)
theorem dX1_layAgain_22 : decode cX1_layAgain 22 = .ok (.aload_n 0, 1) := dk_42 (dk_at dksX1_layAgain_0 22 rfl rfl)
theorem dX1_layAgain_23 : decode cX1_layAgain 23 = .ok (.getfield 19, 3) := dk_180 0 19 (dk_at dksX1_layAgain_1 0 rfl rfl)
theorem dX1_layAgain_26 : decode cX1_layAgain 26 = .ok (.iload_n 1, 1) := dk_27 (dk_at dksX1_layAgain_1 3 rfl rfl)
theorem dX1_layAgain_27 : decode cX1_layAgain 27 = .ok (.invokeinterface 90 2, 5) := by decide +kernel
theorem dX1_layAgain_32 : decode cX1_layAgain 32 = .ok (.checkcast 117, 3) := dk_192 0 117 (dk_at dksX1_layAgain_1 9 rfl rfl)
theorem dX1_layAgain_35 : decode cX1_layAgain 35 = .ok (.astore_n 2, 1) := dk_77 (dk_at dksX1_layAgain_1 12 rfl rfl)
theorem dX1_layAgain_36 : decode cX1_layAgain 36 = .ok (.aload_n 0, 1) := dk_42 (dk_at dksX1_layAgain_1 13 rfl rfl)
theorem dX1_layAgain_37 : decode cX1_layAgain 37 = .ok (.getfield 30, 3) := dk_180 0 30 (dk_at dksX1_layAgain_1 14 rfl rfl)
theorem dX1_layAgain_40 : decode cX1_layAgain 40 = .ok (.aload_n 2, 1) := dk_44 (dk_at dksX1_layAgain_1 17 rfl rfl)
theorem dX1_layAgain_41 : decode cX1_layAgain 41 = .ok (.invokevirtual 218, 3) := dk_182 0 218 (dk_at dksX1_layAgain_1 18 rfl rfl)
theorem dX1_layAgain_44 : decode cX1_layAgain 44 = .ok (.aload_n 0, 1) := dk_42 (dk_at dksX1_layAgain_1 21 rfl rfl)
theorem dX1_layAgain_45 : decode cX1_layAgain 45 = .ok (.getfield 39, 3) := dk_180 0 39 (dk_at dksX1_layAgain_2 0 rfl rfl)
theorem dX1_layAgain_48 : decode cX1_layAgain 48 = .ok (.aload_n 2, 1) := dk_44 (dk_at dksX1_layAgain_2 3 rfl rfl)
theorem dX1_layAgain_49 : decode cX1_layAgain 49 = .ok (.getfield 119, 3) := dk_180 0 119 (dk_at dksX1_layAgain_2 4 rfl rfl)
theorem dX1_layAgain_52 : decode cX1_layAgain 52 = .ok (.invokevirtual 222, 3) := dk_182 0 222 (dk_at dksX1_layAgain_2 7 rfl rfl)
theorem dX1_layAgain_55 : decode cX1_layAgain 55 = .ok (.iinc 1 1, 3) := dk_132 1 1 (dk_at dksX1_layAgain_2 10 rfl rfl)
theorem dX1_layAgain_58 : decode cX1_layAgain 58 = .ok (.goto (-49), 3) := dk_167 255 207 (dk_at dksX1_layAgain_2 13 rfl rfl)
theorem dX1_layAgain_61 : decode cX1_layAgain 61 = .ok (.return_, 1) := dk_177 (dk_at dksX1_layAgain_2 16 rfl rfl)
abbrev cX1_rowOf : ByteArray := prog_1_method_38_code
def yX1_rowOf : MethodName := ⟨RX1, "rowOf", "(I)I"⟩
def dkwX1_rowOf_0 : List UInt8 := [42, 27, 182, 1, 31, 180, 1, 45, 172]
abbrev dktX1_rowOf_0 : List UInt8 := dkwX1_rowOf_0 ++ []
theorem dksX1_rowOf_0 : cX1_rowOf.data.toList.drop 0 = dktX1_rowOf_0 := by decide +kernel
theorem dX1_rowOf_0 : decode cX1_rowOf 0 = .ok (.aload_n 0, 1) := dk_42 (dk_at dksX1_rowOf_0 0 rfl rfl)
theorem dX1_rowOf_1 : decode cX1_rowOf 1 = .ok (.iload_n 1, 1) := dk_27 (dk_at dksX1_rowOf_0 1 rfl rfl)
theorem dX1_rowOf_2 : decode cX1_rowOf 2 = .ok (.invokevirtual 287, 3) := dk_182 1 31 (dk_at dksX1_rowOf_0 2 rfl rfl)
theorem dX1_rowOf_5 : decode cX1_rowOf 5 = .ok (.getfield 301, 3) := dk_180 1 45 (dk_at dksX1_rowOf_0 5 rfl rfl)
theorem dX1_rowOf_8 : decode cX1_rowOf 8 = .ok (.ireturn, 1) := dk_172 (dk_at dksX1_rowOf_0 8 rfl rfl)
abbrev cX1_columnOf : ByteArray := prog_1_method_39_code
def yX1_columnOf : MethodName := ⟨RX1, "columnOf", "(I)I"⟩
def dkwX1_columnOf_0 : List UInt8 := [42, 27, 182, 1, 31, 180, 1, 46, 172]
abbrev dktX1_columnOf_0 : List UInt8 := dkwX1_columnOf_0 ++ []
theorem dksX1_columnOf_0 : cX1_columnOf.data.toList.drop 0 = dktX1_columnOf_0 := by decide +kernel
theorem dX1_columnOf_0 : decode cX1_columnOf 0 = .ok (.aload_n 0, 1) := dk_42 (dk_at dksX1_columnOf_0 0 rfl rfl)
theorem dX1_columnOf_1 : decode cX1_columnOf 1 = .ok (.iload_n 1, 1) := dk_27 (dk_at dksX1_columnOf_0 1 rfl rfl)
theorem dX1_columnOf_2 : decode cX1_columnOf 2 = .ok (.invokevirtual 287, 3) := dk_182 1 31 (dk_at dksX1_columnOf_0 2 rfl rfl)
theorem dX1_columnOf_5 : decode cX1_columnOf 5 = .ok (.getfield 302, 3) := dk_180 1 46 (dk_at dksX1_columnOf_0 5 rfl rfl)
theorem dX1_columnOf_8 : decode cX1_columnOf 8 = .ok (.ireturn, 1) := dk_172 (dk_at dksX1_columnOf_0 8 rfl rfl)
abbrev cX1_turnsOf : ByteArray := prog_1_method_40_code
def yX1_turnsOf : MethodName := ⟨RX1, "turnsOf", "(I)I"⟩
def dkwX1_turnsOf_0 : List UInt8 := [42, 27, 182, 1, 31, 180, 1, 47, 172]
abbrev dktX1_turnsOf_0 : List UInt8 := dkwX1_turnsOf_0 ++ []
theorem dksX1_turnsOf_0 : cX1_turnsOf.data.toList.drop 0 = dktX1_turnsOf_0 := by decide +kernel
theorem dX1_turnsOf_0 : decode cX1_turnsOf 0 = .ok (.aload_n 0, 1) := dk_42 (dk_at dksX1_turnsOf_0 0 rfl rfl)
theorem dX1_turnsOf_1 : decode cX1_turnsOf 1 = .ok (.iload_n 1, 1) := dk_27 (dk_at dksX1_turnsOf_0 1 rfl rfl)
theorem dX1_turnsOf_2 : decode cX1_turnsOf 2 = .ok (.invokevirtual 287, 3) := dk_182 1 31 (dk_at dksX1_turnsOf_0 2 rfl rfl)
theorem dX1_turnsOf_5 : decode cX1_turnsOf 5 = .ok (.getfield 303, 3) := dk_180 1 47 (dk_at dksX1_turnsOf_0 5 rfl rfl)
theorem dX1_turnsOf_8 : decode cX1_turnsOf 8 = .ok (.ireturn, 1) := dk_172 (dk_at dksX1_turnsOf_0 8 rfl rfl)
abbrev cX1_pieceAt : ByteArray := prog_1_method_42_code
def yX1_pieceAt : MethodName := ⟨RX1, "pieceAt", "(II)I"⟩
def dkwX1_pieceAt_1 : List UInt8 := [184, 0, 152, 42, 180, 0, 39, 27, 28, 182, 0, 211, 172]
abbrev dktX1_pieceAt_1 : List UInt8 := dkwX1_pieceAt_1 ++ []
def dkwX1_pieceAt_0 : List UInt8 := [27, 28, 184, 1, 48, 42, 180, 0, 39, 27, 28, 182, 0, 211, 2, 159, 0, 7, 4, 167, 0, 4, 3]
abbrev dktX1_pieceAt_0 : List UInt8 := dkwX1_pieceAt_0 ++ dktX1_pieceAt_1
theorem dksX1_pieceAt_0 : cX1_pieceAt.data.toList.drop 0 = dktX1_pieceAt_0 := by decide +kernel
theorem dksX1_pieceAt_1 : cX1_pieceAt.data.toList.drop 23 = dktX1_pieceAt_1 := dk_seg dksX1_pieceAt_0 23 rfl rfl
theorem dX1_pieceAt_0 : decode cX1_pieceAt 0 = .ok (.iload_n 1, 1) := dk_27 (dk_at dksX1_pieceAt_0 0 rfl rfl)
theorem dX1_pieceAt_1 : decode cX1_pieceAt 1 = .ok (.iload_n 2, 1) := dk_28 (dk_at dksX1_pieceAt_0 1 rfl rfl)
theorem dX1_pieceAt_2 : decode cX1_pieceAt 2 = .ok (.invokestatic 304, 3) := dk_184 1 48 (dk_at dksX1_pieceAt_0 2 rfl rfl)
theorem dX1_pieceAt_5 : decode cX1_pieceAt 5 = .ok (.aload_n 0, 1) := dk_42 (dk_at dksX1_pieceAt_0 5 rfl rfl)
theorem dX1_pieceAt_6 : decode cX1_pieceAt 6 = .ok (.getfield 39, 3) := dk_180 0 39 (dk_at dksX1_pieceAt_0 6 rfl rfl)
theorem dX1_pieceAt_9 : decode cX1_pieceAt 9 = .ok (.iload_n 1, 1) := dk_27 (dk_at dksX1_pieceAt_0 9 rfl rfl)
theorem dX1_pieceAt_10 : decode cX1_pieceAt 10 = .ok (.iload_n 2, 1) := dk_28 (dk_at dksX1_pieceAt_0 10 rfl rfl)
theorem dX1_pieceAt_11 : decode cX1_pieceAt 11 = .ok (.invokevirtual 211, 3) := dk_182 0 211 (dk_at dksX1_pieceAt_0 11 rfl rfl)
theorem dX1_pieceAt_14 : decode cX1_pieceAt 14 = .ok (.iconst (-1), 1) := dk_2 (dk_at dksX1_pieceAt_0 14 rfl rfl)
theorem dX1_pieceAt_15 : decode cX1_pieceAt 15 = .ok (.if_icmp .eq 7, 3) := dk_159 0 7 (dk_at dksX1_pieceAt_0 15 rfl rfl)
theorem dX1_pieceAt_18 : decode cX1_pieceAt 18 = .ok (.iconst 1, 1) := dk_4 (dk_at dksX1_pieceAt_0 18 rfl rfl)
theorem dX1_pieceAt_19 : decode cX1_pieceAt 19 = .ok (.goto 4, 3) := dk_167 0 4 (dk_at dksX1_pieceAt_0 19 rfl rfl)
theorem dX1_pieceAt_22 : decode cX1_pieceAt 22 = .ok (.iconst 0, 1) := dk_3 (dk_at dksX1_pieceAt_0 22 rfl rfl)
theorem dX1_pieceAt_23 : decode cX1_pieceAt 23 = .ok (.invokestatic 152, 3) := dk_184 0 152 (dk_at dksX1_pieceAt_1 0 rfl rfl)
theorem dX1_pieceAt_26 : decode cX1_pieceAt 26 = .ok (.aload_n 0, 1) := dk_42 (dk_at dksX1_pieceAt_1 3 rfl rfl)
theorem dX1_pieceAt_27 : decode cX1_pieceAt 27 = .ok (.getfield 39, 3) := dk_180 0 39 (dk_at dksX1_pieceAt_1 4 rfl rfl)
theorem dX1_pieceAt_30 : decode cX1_pieceAt 30 = .ok (.iload_n 1, 1) := dk_27 (dk_at dksX1_pieceAt_1 7 rfl rfl)
theorem dX1_pieceAt_31 : decode cX1_pieceAt 31 = .ok (.iload_n 2, 1) := dk_28 (dk_at dksX1_pieceAt_1 8 rfl rfl)
theorem dX1_pieceAt_32 : decode cX1_pieceAt 32 = .ok (.invokevirtual 211, 3) := dk_182 0 211 (dk_at dksX1_pieceAt_1 9 rfl rfl)
theorem dX1_pieceAt_35 : decode cX1_pieceAt 35 = .ok (.ireturn, 1) := dk_172 (dk_at dksX1_pieceAt_1 12 rfl rfl)
abbrev cX1_checkCell : ByteArray := prog_1_method_41_code
def yX1_checkCell : MethodName := ⟨RX1, "checkCell", "(II)V"⟩
def dkwX1_checkCell_1 : List UInt8 := [3, 184, 0, 141, 177]
abbrev dktX1_checkCell_1 : List UInt8 := dkwX1_checkCell_1 ++ []
def dkwX1_checkCell_0 : List UInt8 := [26, 3, 16, 59, 184, 0, 83, 153, 0, 17, 27, 3, 16, 11, 184, 0, 83, 153, 0, 7, 4, 167, 0, 4]
abbrev dktX1_checkCell_0 : List UInt8 := dkwX1_checkCell_0 ++ dktX1_checkCell_1
theorem dksX1_checkCell_0 : cX1_checkCell.data.toList.drop 0 = dktX1_checkCell_0 := by decide +kernel
theorem dksX1_checkCell_1 : cX1_checkCell.data.toList.drop 24 = dktX1_checkCell_1 := dk_seg dksX1_checkCell_0 24 rfl rfl
theorem dX1_checkCell_0 : decode cX1_checkCell 0 = .ok (.iload_n 0, 1) := dk_26 (dk_at dksX1_checkCell_0 0 rfl rfl)
theorem dX1_checkCell_1 : decode cX1_checkCell 1 = .ok (.iconst 0, 1) := dk_3 (dk_at dksX1_checkCell_0 1 rfl rfl)
theorem dX1_checkCell_2 : decode cX1_checkCell 2 = .ok (.bipush 59, 2) := dk_16 59 (dk_at dksX1_checkCell_0 2 rfl rfl)
theorem dX1_checkCell_4 : decode cX1_checkCell 4 = .ok (.invokestatic 83, 3) := dk_184 0 83 (dk_at dksX1_checkCell_0 4 rfl rfl)
theorem dX1_checkCell_7 : decode cX1_checkCell 7 = .ok (.ifCond .eq 17, 3) := dk_153 0 17 (dk_at dksX1_checkCell_0 7 rfl rfl)
theorem dX1_checkCell_10 : decode cX1_checkCell 10 = .ok (.iload_n 1, 1) := dk_27 (dk_at dksX1_checkCell_0 10 rfl rfl)
theorem dX1_checkCell_11 : decode cX1_checkCell 11 = .ok (.iconst 0, 1) := dk_3 (dk_at dksX1_checkCell_0 11 rfl rfl)
theorem dX1_checkCell_12 : decode cX1_checkCell 12 = .ok (.bipush 11, 2) := dk_16 11 (dk_at dksX1_checkCell_0 12 rfl rfl)
theorem dX1_checkCell_14 : decode cX1_checkCell 14 = .ok (.invokestatic 83, 3) := dk_184 0 83 (dk_at dksX1_checkCell_0 14 rfl rfl)
theorem dX1_checkCell_17 : decode cX1_checkCell 17 = .ok (.ifCond .eq 7, 3) := dk_153 0 7 (dk_at dksX1_checkCell_0 17 rfl rfl)
theorem dX1_checkCell_20 : decode cX1_checkCell 20 = .ok (.iconst 1, 1) := dk_4 (dk_at dksX1_checkCell_0 20 rfl rfl)
theorem dX1_checkCell_21 : decode cX1_checkCell 21 = .ok (.goto 4, 3) := dk_167 0 4 (dk_at dksX1_checkCell_0 21 rfl rfl)
theorem dX1_checkCell_24 : decode cX1_checkCell 24 = .ok (.iconst 0, 1) := dk_3 (dk_at dksX1_checkCell_1 0 rfl rfl)
theorem dX1_checkCell_25 : decode cX1_checkCell 25 = .ok (.invokestatic 141, 3) := dk_184 0 141 (dk_at dksX1_checkCell_1 1 rfl rfl)
theorem dX1_checkCell_28 : decode cX1_checkCell 28 = .ok (.return_, 1) := dk_177 (dk_at dksX1_checkCell_1 4 rfl rfl)
abbrev cX1_pieceByPieces : ByteArray := prog_1_method_43_code
def yX1_pieceByPieces : MethodName := ⟨RX1, "pieceByPieces", "(II)I"⟩
def dkwX1_pieceByPieces_2 : List UInt8 := [180, 0, 119, 172, 132, 3, 1, 167, 255, 209, 187, 0, 71, 89, 183, 0, 73, 191]
abbrev dktX1_pieceByPieces_2 : List UInt8 := dkwX1_pieceByPieces_2 ++ []
def dkwX1_pieceByPieces_1 : List UInt8 := [29, 185, 0, 90, 2, 0, 192, 0, 117, 58, 4, 25, 4, 27, 28, 182, 1, 51, 153, 0, 9, 25, 4]
abbrev dktX1_pieceByPieces_1 : List UInt8 := dkwX1_pieceByPieces_1 ++ dktX1_pieceByPieces_2
def dkwX1_pieceByPieces_0 : List UInt8 := [27, 28, 184, 1, 48, 3, 62, 29, 42, 180, 0, 19, 185, 0, 77, 1, 0, 162, 0, 40, 42, 180, 0, 19]
abbrev dktX1_pieceByPieces_0 : List UInt8 := dkwX1_pieceByPieces_0 ++ dktX1_pieceByPieces_1
theorem dksX1_pieceByPieces_0 : cX1_pieceByPieces.data.toList.drop 0 = dktX1_pieceByPieces_0 := by decide +kernel
theorem dksX1_pieceByPieces_1 : cX1_pieceByPieces.data.toList.drop 24 = dktX1_pieceByPieces_1 := dk_seg dksX1_pieceByPieces_0 24 rfl rfl
theorem dksX1_pieceByPieces_2 : cX1_pieceByPieces.data.toList.drop 47 = dktX1_pieceByPieces_2 := dk_seg dksX1_pieceByPieces_1 23 rfl rfl
theorem dX1_pieceByPieces_0 : decode cX1_pieceByPieces 0 = .ok (.iload_n 1, 1) := dk_27 (dk_at dksX1_pieceByPieces_0 0 rfl rfl)
theorem dX1_pieceByPieces_1 : decode cX1_pieceByPieces 1 = .ok (.iload_n 2, 1) := dk_28 (dk_at dksX1_pieceByPieces_0 1 rfl rfl)
theorem dX1_pieceByPieces_2 : decode cX1_pieceByPieces 2 = .ok (.invokestatic 304, 3) := dk_184 1 48 (dk_at dksX1_pieceByPieces_0 2 rfl rfl)
theorem dX1_pieceByPieces_5 : decode cX1_pieceByPieces 5 = .ok (.iconst 0, 1) := dk_3 (dk_at dksX1_pieceByPieces_0 5 rfl rfl)
theorem dX1_pieceByPieces_6 : decode cX1_pieceByPieces 6 = .ok (.istore_n 3, 1) := dk_62 (dk_at dksX1_pieceByPieces_0 6 rfl rfl)
theorem dX1_pieceByPieces_7 : decode cX1_pieceByPieces 7 = .ok (.iload_n 3, 1) := dk_29 (dk_at dksX1_pieceByPieces_0 7 rfl rfl)
theorem dX1_pieceByPieces_8 : decode cX1_pieceByPieces 8 = .ok (.aload_n 0, 1) := dk_42 (dk_at dksX1_pieceByPieces_0 8 rfl rfl)
theorem dX1_pieceByPieces_9 : decode cX1_pieceByPieces 9 = .ok (.getfield 19, 3) := dk_180 0 19 (dk_at dksX1_pieceByPieces_0 9 rfl rfl)
theorem dX1_pieceByPieces_12 : decode cX1_pieceByPieces 12 = .ok (.invokeinterface 77 1, 5) := by decide +kernel
theorem dX1_pieceByPieces_17 : decode cX1_pieceByPieces 17 = .ok (.if_icmp .ge 40, 3) := dk_162 0 40 (dk_at dksX1_pieceByPieces_0 17 rfl rfl)
theorem dX1_pieceByPieces_20 : decode cX1_pieceByPieces 20 = .ok (.aload_n 0, 1) := dk_42 (dk_at dksX1_pieceByPieces_0 20 rfl rfl)
theorem dX1_pieceByPieces_21 : decode cX1_pieceByPieces 21 = .ok (.getfield 19, 3) := dk_180 0 19 (dk_at dksX1_pieceByPieces_0 21 rfl rfl)
theorem dX1_pieceByPieces_24 : decode cX1_pieceByPieces 24 = .ok (.iload_n 3, 1) := dk_29 (dk_at dksX1_pieceByPieces_1 0 rfl rfl)
theorem dX1_pieceByPieces_25 : decode cX1_pieceByPieces 25 = .ok (.invokeinterface 90 2, 5) := by decide +kernel
theorem dX1_pieceByPieces_30 : decode cX1_pieceByPieces 30 = .ok (.checkcast 117, 3) := dk_192 0 117 (dk_at dksX1_pieceByPieces_1 6 rfl rfl)
theorem dX1_pieceByPieces_33 : decode cX1_pieceByPieces 33 = .ok (.astore 4, 2) := dk_58 4 (dk_at dksX1_pieceByPieces_1 9 rfl rfl)
theorem dX1_pieceByPieces_35 : decode cX1_pieceByPieces 35 = .ok (.aload 4, 2) := dk_25 4 (dk_at dksX1_pieceByPieces_1 11 rfl rfl)
theorem dX1_pieceByPieces_37 : decode cX1_pieceByPieces 37 = .ok (.iload_n 1, 1) := dk_27 (dk_at dksX1_pieceByPieces_1 13 rfl rfl)
theorem dX1_pieceByPieces_38 : decode cX1_pieceByPieces 38 = .ok (.iload_n 2, 1) := dk_28 (dk_at dksX1_pieceByPieces_1 14 rfl rfl)
theorem dX1_pieceByPieces_39 : decode cX1_pieceByPieces 39 = .ok (.invokevirtual 307, 3) := dk_182 1 51 (dk_at dksX1_pieceByPieces_1 15 rfl rfl)
theorem dX1_pieceByPieces_42 : decode cX1_pieceByPieces 42 = .ok (.ifCond .eq 9, 3) := dk_153 0 9 (dk_at dksX1_pieceByPieces_1 18 rfl rfl)
theorem dX1_pieceByPieces_45 : decode cX1_pieceByPieces 45 = .ok (.aload 4, 2) := dk_25 4 (dk_at dksX1_pieceByPieces_1 21 rfl rfl)
theorem dX1_pieceByPieces_47 : decode cX1_pieceByPieces 47 = .ok (.getfield 119, 3) := dk_180 0 119 (dk_at dksX1_pieceByPieces_2 0 rfl rfl)
theorem dX1_pieceByPieces_50 : decode cX1_pieceByPieces 50 = .ok (.ireturn, 1) := dk_172 (dk_at dksX1_pieceByPieces_2 3 rfl rfl)
theorem dX1_pieceByPieces_51 : decode cX1_pieceByPieces 51 = .ok (.iinc 3 1, 3) := dk_132 3 1 (dk_at dksX1_pieceByPieces_2 4 rfl rfl)
theorem dX1_pieceByPieces_54 : decode cX1_pieceByPieces 54 = .ok (.goto (-47), 3) := dk_167 255 209 (dk_at dksX1_pieceByPieces_2 7 rfl rfl)
theorem dX1_pieceByPieces_57 : decode cX1_pieceByPieces 57 = .ok (.new 71, 3) := dk_187 0 71 (dk_at dksX1_pieceByPieces_2 10 rfl rfl)
theorem dX1_pieceByPieces_60 : decode cX1_pieceByPieces 60 = .ok (.dup, 1) := dk_89 (dk_at dksX1_pieceByPieces_2 13 rfl rfl)
theorem dX1_pieceByPieces_61 : decode cX1_pieceByPieces 61 = .ok (.invokespecial 73, 3) := dk_183 0 73 (dk_at dksX1_pieceByPieces_2 14 rfl rfl)
theorem dX1_pieceByPieces_64 : decode cX1_pieceByPieces 64 = .ok (.athrow, 1) := dk_191 (dk_at dksX1_pieceByPieces_2 17 rfl rfl)
abbrev cX1_phase : ByteArray := prog_1_method_47_code
def yX1_phase : MethodName := ⟨RX1, "phase", "(I)I"⟩
def dkwX1_phase_1 : List UInt8 := [167, 0, 4, 3, 184, 0, 152, 42, 180, 0, 39, 180, 1, 57, 27, 46, 172]
abbrev dktX1_phase_1 : List UInt8 := dkwX1_phase_1 ++ []
def dkwX1_phase_0 : List UInt8 := [27, 3, 6, 184, 0, 83, 184, 0, 141, 42, 180, 0, 39, 180, 1, 57, 27, 46, 2, 159, 0, 7, 4]
abbrev dktX1_phase_0 : List UInt8 := dkwX1_phase_0 ++ dktX1_phase_1
theorem dksX1_phase_0 : cX1_phase.data.toList.drop 0 = dktX1_phase_0 := by decide +kernel
theorem dksX1_phase_1 : cX1_phase.data.toList.drop 23 = dktX1_phase_1 := dk_seg dksX1_phase_0 23 rfl rfl
theorem dX1_phase_0 : decode cX1_phase 0 = .ok (.iload_n 1, 1) := dk_27 (dk_at dksX1_phase_0 0 rfl rfl)
theorem dX1_phase_1 : decode cX1_phase 1 = .ok (.iconst 0, 1) := dk_3 (dk_at dksX1_phase_0 1 rfl rfl)
theorem dX1_phase_2 : decode cX1_phase 2 = .ok (.iconst 3, 1) := dk_6 (dk_at dksX1_phase_0 2 rfl rfl)
theorem dX1_phase_3 : decode cX1_phase 3 = .ok (.invokestatic 83, 3) := dk_184 0 83 (dk_at dksX1_phase_0 3 rfl rfl)
theorem dX1_phase_6 : decode cX1_phase 6 = .ok (.invokestatic 141, 3) := dk_184 0 141 (dk_at dksX1_phase_0 6 rfl rfl)
theorem dX1_phase_9 : decode cX1_phase 9 = .ok (.aload_n 0, 1) := dk_42 (dk_at dksX1_phase_0 9 rfl rfl)
theorem dX1_phase_10 : decode cX1_phase 10 = .ok (.getfield 39, 3) := dk_180 0 39 (dk_at dksX1_phase_0 10 rfl rfl)
theorem dX1_phase_13 : decode cX1_phase 13 = .ok (.getfield 313, 3) := dk_180 1 57 (dk_at dksX1_phase_0 13 rfl rfl)
theorem dX1_phase_16 : decode cX1_phase 16 = .ok (.iload_n 1, 1) := dk_27 (dk_at dksX1_phase_0 16 rfl rfl)
theorem dX1_phase_17 : decode cX1_phase 17 = .ok (.iaload, 1) := dk_46 (dk_at dksX1_phase_0 17 rfl rfl)
theorem dX1_phase_18 : decode cX1_phase 18 = .ok (.iconst (-1), 1) := dk_2 (dk_at dksX1_phase_0 18 rfl rfl)
theorem dX1_phase_19 : decode cX1_phase 19 = .ok (.if_icmp .eq 7, 3) := dk_159 0 7 (dk_at dksX1_phase_0 19 rfl rfl)
theorem dX1_phase_22 : decode cX1_phase 22 = .ok (.iconst 1, 1) := dk_4 (dk_at dksX1_phase_0 22 rfl rfl)
theorem dX1_phase_23 : decode cX1_phase 23 = .ok (.goto 4, 3) := dk_167 0 4 (dk_at dksX1_phase_1 0 rfl rfl)
theorem dX1_phase_26 : decode cX1_phase 26 = .ok (.iconst 0, 1) := dk_3 (dk_at dksX1_phase_1 3 rfl rfl)
theorem dX1_phase_27 : decode cX1_phase 27 = .ok (.invokestatic 152, 3) := dk_184 0 152 (dk_at dksX1_phase_1 4 rfl rfl)
theorem dX1_phase_30 : decode cX1_phase 30 = .ok (.aload_n 0, 1) := dk_42 (dk_at dksX1_phase_1 7 rfl rfl)
theorem dX1_phase_31 : decode cX1_phase 31 = .ok (.getfield 39, 3) := dk_180 0 39 (dk_at dksX1_phase_1 8 rfl rfl)
theorem dX1_phase_34 : decode cX1_phase 34 = .ok (.getfield 313, 3) := dk_180 1 57 (dk_at dksX1_phase_1 11 rfl rfl)
theorem dX1_phase_37 : decode cX1_phase 37 = .ok (.iload_n 1, 1) := dk_27 (dk_at dksX1_phase_1 14 rfl rfl)
theorem dX1_phase_38 : decode cX1_phase 38 = .ok (.iaload, 1) := dk_46 (dk_at dksX1_phase_1 15 rfl rfl)
theorem dX1_phase_39 : decode cX1_phase 39 = .ok (.ireturn, 1) := dk_172 (dk_at dksX1_phase_1 16 rfl rfl)
abbrev cX1_addStyle : ByteArray := prog_1_method_48_code
def yX1_addStyle : MethodName := ⟨RX1, "addStyle", "()I"⟩
def dkwX1_addStyle_2 : List UInt8 := [185, 0, 77, 1, 0, 4, 100, 172]
abbrev dktX1_addStyle_2 : List UInt8 := dkwX1_addStyle_2 ++ []
def dkwX1_addStyle_1 : List UInt8 := [180, 0, 16, 187, 0, 100, 89, 183, 1, 61, 185, 0, 158, 2, 0, 87, 42, 180, 0, 16]
abbrev dktX1_addStyle_1 : List UInt8 := dkwX1_addStyle_1 ++ dktX1_addStyle_2
def dkwX1_addStyle_0 : List UInt8 := [42, 180, 0, 16, 185, 0, 77, 1, 0, 7, 162, 0, 7, 4, 167, 0, 4, 3, 184, 0, 152, 42]
abbrev dktX1_addStyle_0 : List UInt8 := dkwX1_addStyle_0 ++ dktX1_addStyle_1
theorem dksX1_addStyle_0 : cX1_addStyle.data.toList.drop 0 = dktX1_addStyle_0 := by decide +kernel
theorem dksX1_addStyle_1 : cX1_addStyle.data.toList.drop 22 = dktX1_addStyle_1 := dk_seg dksX1_addStyle_0 22 rfl rfl
theorem dksX1_addStyle_2 : cX1_addStyle.data.toList.drop 42 = dktX1_addStyle_2 := dk_seg dksX1_addStyle_1 20 rfl rfl
theorem dX1_addStyle_0 : decode cX1_addStyle 0 = .ok (.aload_n 0, 1) := dk_42 (dk_at dksX1_addStyle_0 0 rfl rfl)
theorem dX1_addStyle_1 : decode cX1_addStyle 1 = .ok (.getfield 16, 3) := dk_180 0 16 (dk_at dksX1_addStyle_0 1 rfl rfl)
theorem dX1_addStyle_4 : decode cX1_addStyle 4 = .ok (.invokeinterface 77 1, 5) := by decide +kernel
theorem dX1_addStyle_9 : decode cX1_addStyle 9 = .ok (.iconst 4, 1) := dk_7 (dk_at dksX1_addStyle_0 9 rfl rfl)
theorem dX1_addStyle_10 : decode cX1_addStyle 10 = .ok (.if_icmp .ge 7, 3) := dk_162 0 7 (dk_at dksX1_addStyle_0 10 rfl rfl)
theorem dX1_addStyle_13 : decode cX1_addStyle 13 = .ok (.iconst 1, 1) := dk_4 (dk_at dksX1_addStyle_0 13 rfl rfl)
theorem dX1_addStyle_14 : decode cX1_addStyle 14 = .ok (.goto 4, 3) := dk_167 0 4 (dk_at dksX1_addStyle_0 14 rfl rfl)
theorem dX1_addStyle_17 : decode cX1_addStyle 17 = .ok (.iconst 0, 1) := dk_3 (dk_at dksX1_addStyle_0 17 rfl rfl)
theorem dX1_addStyle_18 : decode cX1_addStyle 18 = .ok (.invokestatic 152, 3) := dk_184 0 152 (dk_at dksX1_addStyle_0 18 rfl rfl)
theorem dX1_addStyle_21 : decode cX1_addStyle 21 = .ok (.aload_n 0, 1) := dk_42 (dk_at dksX1_addStyle_0 21 rfl rfl)
theorem dX1_addStyle_22 : decode cX1_addStyle 22 = .ok (.getfield 16, 3) := dk_180 0 16 (dk_at dksX1_addStyle_1 0 rfl rfl)
theorem dX1_addStyle_25 : decode cX1_addStyle 25 = .ok (.new 100, 3) := dk_187 0 100 (dk_at dksX1_addStyle_1 3 rfl rfl)
theorem dX1_addStyle_28 : decode cX1_addStyle 28 = .ok (.dup, 1) := dk_89 (dk_at dksX1_addStyle_1 6 rfl rfl)
theorem dX1_addStyle_29 : decode cX1_addStyle 29 = .ok (.invokespecial 317, 3) := dk_183 1 61 (dk_at dksX1_addStyle_1 7 rfl rfl)
theorem dX1_addStyle_32 : decode cX1_addStyle 32 = .ok (.invokeinterface 158 2, 5) := by decide +kernel
theorem dX1_addStyle_37 : decode cX1_addStyle 37 = .ok (.pop, 1) := dk_87 (dk_at dksX1_addStyle_1 15 rfl rfl)
theorem dX1_addStyle_38 : decode cX1_addStyle 38 = .ok (.aload_n 0, 1) := dk_42 (dk_at dksX1_addStyle_1 16 rfl rfl)
theorem dX1_addStyle_39 : decode cX1_addStyle 39 = .ok (.getfield 16, 3) := dk_180 0 16 (dk_at dksX1_addStyle_1 17 rfl rfl)
theorem dX1_addStyle_42 : decode cX1_addStyle 42 = .ok (.invokeinterface 77 1, 5) := by decide +kernel
theorem dX1_addStyle_47 : decode cX1_addStyle 47 = .ok (.iconst 1, 1) := dk_4 (dk_at dksX1_addStyle_2 5 rfl rfl)
theorem dX1_addStyle_48 : decode cX1_addStyle 48 = .ok (.isub, 1) := dk_100 (dk_at dksX1_addStyle_2 6 rfl rfl)
theorem dX1_addStyle_49 : decode cX1_addStyle 49 = .ok (.ireturn, 1) := dk_172 (dk_at dksX1_addStyle_2 7 rfl rfl)
abbrev cX1_addPart : ByteArray := prog_1_method_49_code
def yX1_addPart : MethodName := ⟨RX1, "addPart", "(III)I"⟩
def dkwX1_addPart_3 : List UInt8 := [25, 4, 182, 1, 73, 172]
abbrev dktX1_addPart_3 : List UInt8 := dkwX1_addPart_3 ++ []
def dkwX1_addPart_2 : List UInt8 := [184, 0, 113, 25, 4, 180, 0, 106, 187, 1, 68, 89, 25, 5, 29, 183, 1, 70, 185, 0, 158, 2, 0, 87]
abbrev dktX1_addPart_2 : List UInt8 := dkwX1_addPart_2 ++ dktX1_addPart_3
def dkwX1_addPart_1 : List UInt8 := [25, 4, 25, 5, 182, 1, 62, 154, 0, 15, 25, 4, 180, 1, 65, 154, 0, 7, 4, 167, 0, 4, 3]
abbrev dktX1_addPart_1 : List UInt8 := dkwX1_addPart_1 ++ dktX1_addPart_2
def dkwX1_addPart_0 : List UInt8 := [42, 27, 182, 0, 102, 58, 4, 42, 28, 182, 0, 162, 58, 5, 29, 4, 7, 184, 0, 83, 184, 0, 141]
abbrev dktX1_addPart_0 : List UInt8 := dkwX1_addPart_0 ++ dktX1_addPart_1
theorem dksX1_addPart_0 : cX1_addPart.data.toList.drop 0 = dktX1_addPart_0 := by decide +kernel
theorem dksX1_addPart_1 : cX1_addPart.data.toList.drop 23 = dktX1_addPart_1 := dk_seg dksX1_addPart_0 23 rfl rfl
theorem dksX1_addPart_2 : cX1_addPart.data.toList.drop 46 = dktX1_addPart_2 := dk_seg dksX1_addPart_1 23 rfl rfl
theorem dksX1_addPart_3 : cX1_addPart.data.toList.drop 70 = dktX1_addPart_3 := dk_seg dksX1_addPart_2 24 rfl rfl
theorem dX1_addPart_0 : decode cX1_addPart 0 = .ok (.aload_n 0, 1) := dk_42 (dk_at dksX1_addPart_0 0 rfl rfl)
theorem dX1_addPart_1 : decode cX1_addPart 1 = .ok (.iload_n 1, 1) := dk_27 (dk_at dksX1_addPart_0 1 rfl rfl)
theorem dX1_addPart_2 : decode cX1_addPart 2 = .ok (.invokevirtual 102, 3) := dk_182 0 102 (dk_at dksX1_addPart_0 2 rfl rfl)
theorem dX1_addPart_5 : decode cX1_addPart 5 = .ok (.astore 4, 2) := dk_58 4 (dk_at dksX1_addPart_0 5 rfl rfl)
theorem dX1_addPart_7 : decode cX1_addPart 7 = .ok (.aload_n 0, 1) := dk_42 (dk_at dksX1_addPart_0 7 rfl rfl)
theorem dX1_addPart_8 : decode cX1_addPart 8 = .ok (.iload_n 2, 1) := dk_28 (dk_at dksX1_addPart_0 8 rfl rfl)
theorem dX1_addPart_9 : decode cX1_addPart 9 = .ok (.invokevirtual 162, 3) := dk_182 0 162 (dk_at dksX1_addPart_0 9 rfl rfl)
theorem dX1_addPart_12 : decode cX1_addPart 12 = .ok (.astore 5, 2) := dk_58 5 (dk_at dksX1_addPart_0 12 rfl rfl)
theorem dX1_addPart_14 : decode cX1_addPart 14 = .ok (.iload_n 3, 1) := dk_29 (dk_at dksX1_addPart_0 14 rfl rfl)
theorem dX1_addPart_15 : decode cX1_addPart 15 = .ok (.iconst 1, 1) := dk_4 (dk_at dksX1_addPart_0 15 rfl rfl)
theorem dX1_addPart_16 : decode cX1_addPart 16 = .ok (.iconst 4, 1) := dk_7 (dk_at dksX1_addPart_0 16 rfl rfl)
theorem dX1_addPart_17 : decode cX1_addPart 17 = .ok (.invokestatic 83, 3) := dk_184 0 83 (dk_at dksX1_addPart_0 17 rfl rfl)
theorem dX1_addPart_20 : decode cX1_addPart 20 = .ok (.invokestatic 141, 3) := dk_184 0 141 (dk_at dksX1_addPart_0 20 rfl rfl)
theorem dX1_addPart_23 : decode cX1_addPart 23 = .ok (.aload 4, 2) := dk_25 4 (dk_at dksX1_addPart_1 0 rfl rfl)
theorem dX1_addPart_25 : decode cX1_addPart 25 = .ok (.aload 5, 2) := dk_25 5 (dk_at dksX1_addPart_1 2 rfl rfl)
theorem dX1_addPart_27 : decode cX1_addPart 27 = .ok (.invokevirtual 318, 3) := dk_182 1 62 (dk_at dksX1_addPart_1 4 rfl rfl)
theorem dX1_addPart_30 : decode cX1_addPart 30 = .ok (.ifCond .ne 15, 3) := dk_154 0 15 (dk_at dksX1_addPart_1 7 rfl rfl)
theorem dX1_addPart_33 : decode cX1_addPart 33 = .ok (.aload 4, 2) := dk_25 4 (dk_at dksX1_addPart_1 10 rfl rfl)
theorem dX1_addPart_35 : decode cX1_addPart 35 = .ok (.getfield 321, 3) := dk_180 1 65 (dk_at dksX1_addPart_1 12 rfl rfl)
theorem dX1_addPart_38 : decode cX1_addPart 38 = .ok (.ifCond .ne 7, 3) := dk_154 0 7 (dk_at dksX1_addPart_1 15 rfl rfl)
theorem dX1_addPart_41 : decode cX1_addPart 41 = .ok (.iconst 1, 1) := dk_4 (dk_at dksX1_addPart_1 18 rfl rfl)
theorem dX1_addPart_42 : decode cX1_addPart 42 = .ok (.goto 4, 3) := dk_167 0 4 (dk_at dksX1_addPart_1 19 rfl rfl)
theorem dX1_addPart_45 : decode cX1_addPart 45 = .ok (.iconst 0, 1) := dk_3 (dk_at dksX1_addPart_1 22 rfl rfl)
theorem dX1_addPart_46 : decode cX1_addPart 46 = .ok (.invokestatic 113, 3) := dk_184 0 113 (dk_at dksX1_addPart_2 0 rfl rfl)
theorem dX1_addPart_49 : decode cX1_addPart 49 = .ok (.aload 4, 2) := dk_25 4 (dk_at dksX1_addPart_2 3 rfl rfl)
theorem dX1_addPart_51 : decode cX1_addPart 51 = .ok (.getfield 106, 3) := dk_180 0 106 (dk_at dksX1_addPart_2 5 rfl rfl)
theorem dX1_addPart_54 : decode cX1_addPart 54 = .ok (.new 324, 3) := dk_187 1 68 (dk_at dksX1_addPart_2 8 rfl rfl)
theorem dX1_addPart_57 : decode cX1_addPart 57 = .ok (.dup, 1) := dk_89 (dk_at dksX1_addPart_2 11 rfl rfl)
theorem dX1_addPart_58 : decode cX1_addPart 58 = .ok (.aload 5, 2) := dk_25 5 (dk_at dksX1_addPart_2 12 rfl rfl)
theorem dX1_addPart_60 : decode cX1_addPart 60 = .ok (.iload_n 3, 1) := dk_29 (dk_at dksX1_addPart_2 14 rfl rfl)
theorem dX1_addPart_61 : decode cX1_addPart 61 = .ok (.invokespecial 326, 3) := dk_183 1 70 (dk_at dksX1_addPart_2 15 rfl rfl)
theorem dX1_addPart_64 : decode cX1_addPart 64 = .ok (.invokeinterface 158 2, 5) := by decide +kernel
theorem dX1_addPart_69 : decode cX1_addPart 69 = .ok (.pop, 1) := dk_87 (dk_at dksX1_addPart_2 23 rfl rfl)
theorem dX1_addPart_70 : decode cX1_addPart 70 = .ok (.aload 4, 2) := dk_25 4 (dk_at dksX1_addPart_3 0 rfl rfl)
theorem dX1_addPart_72 : decode cX1_addPart 72 = .ok (.invokevirtual 329, 3) := dk_182 1 73 (dk_at dksX1_addPart_3 2 rfl rfl)
theorem dX1_addPart_75 : decode cX1_addPart 75 = .ok (.ireturn, 1) := dk_172 (dk_at dksX1_addPart_3 5 rfl rfl)
abbrev cX1_checkedStyle : ByteArray := prog_1_method_8_code
def yX1_checkedStyle : MethodName := ⟨RX1, "checkedStyle", "(I)LCuttingRoom$Style;"⟩
def dkwX1_checkedStyle_0 : List UInt8 := [42, 180, 0, 16, 27, 184, 0, 94, 192, 0, 100, 176]
abbrev dktX1_checkedStyle_0 : List UInt8 := dkwX1_checkedStyle_0 ++ []
theorem dksX1_checkedStyle_0 : cX1_checkedStyle.data.toList.drop 0 = dktX1_checkedStyle_0 := by decide +kernel
theorem dX1_checkedStyle_0 : decode cX1_checkedStyle 0 = .ok (.aload_n 0, 1) := dk_42 (dk_at dksX1_checkedStyle_0 0 rfl rfl)
theorem dX1_checkedStyle_1 : decode cX1_checkedStyle 1 = .ok (.getfield 16, 3) := dk_180 0 16 (dk_at dksX1_checkedStyle_0 1 rfl rfl)
theorem dX1_checkedStyle_4 : decode cX1_checkedStyle 4 = .ok (.iload_n 1, 1) := dk_27 (dk_at dksX1_checkedStyle_0 4 rfl rfl)
theorem dX1_checkedStyle_5 : decode cX1_checkedStyle 5 = .ok (.invokestatic 94, 3) := dk_184 0 94 (dk_at dksX1_checkedStyle_0 5 rfl rfl)
theorem dX1_checkedStyle_8 : decode cX1_checkedStyle 8 = .ok (.checkcast 100, 3) := dk_192 0 100 (dk_at dksX1_checkedStyle_0 8 rfl rfl)
theorem dX1_checkedStyle_11 : decode cX1_checkedStyle 11 = .ok (.areturn, 1) := dk_176 (dk_at dksX1_checkedStyle_0 11 rfl rfl)
abbrev cX1_piecesFor : ByteArray := prog_1_method_50_code
def yX1_piecesFor : MethodName := ⟨RX1, "piecesFor", "(I)I"⟩
def dkwX1_piecesFor_0 : List UInt8 := [42, 27, 182, 0, 102, 182, 1, 73, 172]
abbrev dktX1_piecesFor_0 : List UInt8 := dkwX1_piecesFor_0 ++ []
theorem dksX1_piecesFor_0 : cX1_piecesFor.data.toList.drop 0 = dktX1_piecesFor_0 := by decide +kernel
theorem dX1_piecesFor_0 : decode cX1_piecesFor 0 = .ok (.aload_n 0, 1) := dk_42 (dk_at dksX1_piecesFor_0 0 rfl rfl)
theorem dX1_piecesFor_1 : decode cX1_piecesFor 1 = .ok (.iload_n 1, 1) := dk_27 (dk_at dksX1_piecesFor_0 1 rfl rfl)
theorem dX1_piecesFor_2 : decode cX1_piecesFor 2 = .ok (.invokevirtual 102, 3) := dk_182 0 102 (dk_at dksX1_piecesFor_0 2 rfl rfl)
theorem dX1_piecesFor_5 : decode cX1_piecesFor 5 = .ok (.invokevirtual 329, 3) := dk_182 1 73 (dk_at dksX1_piecesFor_0 5 rfl rfl)
theorem dX1_piecesFor_8 : decode cX1_piecesFor 8 = .ok (.ireturn, 1) := dk_172 (dk_at dksX1_piecesFor_0 8 rfl rfl)
abbrev cX1_nestedLength : ByteArray := prog_1_method_54_code
def yX1_nestedLength : MethodName := ⟨RX1, "nestedLength", "(I)I"⟩
def dkwX1_nestedLength_0 : List UInt8 := [42, 27, 4, 182, 1, 106, 172]
abbrev dktX1_nestedLength_0 : List UInt8 := dkwX1_nestedLength_0 ++ []
theorem dksX1_nestedLength_0 : cX1_nestedLength.data.toList.drop 0 = dktX1_nestedLength_0 := by decide +kernel
theorem dX1_nestedLength_0 : decode cX1_nestedLength 0 = .ok (.aload_n 0, 1) := dk_42 (dk_at dksX1_nestedLength_0 0 rfl rfl)
theorem dX1_nestedLength_1 : decode cX1_nestedLength 1 = .ok (.iload_n 1, 1) := dk_27 (dk_at dksX1_nestedLength_0 1 rfl rfl)
theorem dX1_nestedLength_2 : decode cX1_nestedLength 2 = .ok (.iconst 1, 1) := dk_4 (dk_at dksX1_nestedLength_0 2 rfl rfl)
theorem dX1_nestedLength_3 : decode cX1_nestedLength 3 = .ok (.invokevirtual 362, 3) := dk_182 1 106 (dk_at dksX1_nestedLength_0 3 rfl rfl)
theorem dX1_nestedLength_6 : decode cX1_nestedLength 6 = .ok (.ireturn, 1) := dk_172 (dk_at dksX1_nestedLength_0 6 rfl rfl)
abbrev cX1_findLeast : ByteArray := prog_1_method_53_code
def yX1_findLeast : MethodName := ⟨RX1, "findLeast", "(IZ)I"⟩
def dkwX1_findLeast_2 : List UInt8 := [16, 61, 162, 0, 7, 4, 167, 0, 4, 3, 184, 0, 152, 25, 4, 180, 1, 103, 172]
abbrev dktX1_findLeast_2 : List UInt8 := dkwX1_findLeast_2 ++ []
def dkwX1_findLeast_1 : List UInt8 := [187, 1, 95, 89, 42, 45, 28, 183, 1, 97, 58, 4, 25, 4, 3, 182, 1, 100, 25, 4, 180, 1, 103]
abbrev dktX1_findLeast_1 : List UInt8 := dkwX1_findLeast_1 ++ dktX1_findLeast_2
def dkwX1_findLeast_0 : List UInt8 := [42, 42, 27, 182, 0, 102, 182, 1, 91, 78, 45, 185, 0, 77, 1, 0, 4, 7, 184, 0, 83, 184, 0, 113]
abbrev dktX1_findLeast_0 : List UInt8 := dkwX1_findLeast_0 ++ dktX1_findLeast_1
theorem dksX1_findLeast_0 : cX1_findLeast.data.toList.drop 0 = dktX1_findLeast_0 := by decide +kernel
theorem dksX1_findLeast_1 : cX1_findLeast.data.toList.drop 24 = dktX1_findLeast_1 := dk_seg dksX1_findLeast_0 24 rfl rfl
theorem dksX1_findLeast_2 : cX1_findLeast.data.toList.drop 47 = dktX1_findLeast_2 := dk_seg dksX1_findLeast_1 23 rfl rfl
theorem dX1_findLeast_0 : decode cX1_findLeast 0 = .ok (.aload_n 0, 1) := dk_42 (dk_at dksX1_findLeast_0 0 rfl rfl)
theorem dX1_findLeast_1 : decode cX1_findLeast 1 = .ok (.aload_n 0, 1) := dk_42 (dk_at dksX1_findLeast_0 1 rfl rfl)
theorem dX1_findLeast_2 : decode cX1_findLeast 2 = .ok (.iload_n 1, 1) := dk_27 (dk_at dksX1_findLeast_0 2 rfl rfl)
theorem dX1_findLeast_3 : decode cX1_findLeast 3 = .ok (.invokevirtual 102, 3) := dk_182 0 102 (dk_at dksX1_findLeast_0 3 rfl rfl)
theorem dX1_findLeast_6 : decode cX1_findLeast 6 = .ok (.invokevirtual 347, 3) := dk_182 1 91 (dk_at dksX1_findLeast_0 6 rfl rfl)
theorem dX1_findLeast_9 : decode cX1_findLeast 9 = .ok (.astore_n 3, 1) := dk_78 (dk_at dksX1_findLeast_0 9 rfl rfl)
theorem dX1_findLeast_10 : decode cX1_findLeast 10 = .ok (.aload_n 3, 1) := dk_45 (dk_at dksX1_findLeast_0 10 rfl rfl)
theorem dX1_findLeast_11 : decode cX1_findLeast 11 = .ok (.invokeinterface 77 1, 5) := by decide +kernel
theorem dX1_findLeast_16 : decode cX1_findLeast 16 = .ok (.iconst 1, 1) := dk_4 (dk_at dksX1_findLeast_0 16 rfl rfl)
theorem dX1_findLeast_17 : decode cX1_findLeast 17 = .ok (.iconst 4, 1) := dk_7 (dk_at dksX1_findLeast_0 17 rfl rfl)
theorem dX1_findLeast_18 : decode cX1_findLeast 18 = .ok (.invokestatic 83, 3) := dk_184 0 83 (dk_at dksX1_findLeast_0 18 rfl rfl)
theorem dX1_findLeast_21 : decode cX1_findLeast 21 = .ok (.invokestatic 113, 3) := dk_184 0 113 (dk_at dksX1_findLeast_0 21 rfl rfl)
theorem dX1_findLeast_24 : decode cX1_findLeast 24 = .ok (.new 351, 3) := dk_187 1 95 (dk_at dksX1_findLeast_1 0 rfl rfl)
theorem dX1_findLeast_27 : decode cX1_findLeast 27 = .ok (.dup, 1) := dk_89 (dk_at dksX1_findLeast_1 3 rfl rfl)
theorem dX1_findLeast_28 : decode cX1_findLeast 28 = .ok (.aload_n 0, 1) := dk_42 (dk_at dksX1_findLeast_1 4 rfl rfl)
theorem dX1_findLeast_29 : decode cX1_findLeast 29 = .ok (.aload_n 3, 1) := dk_45 (dk_at dksX1_findLeast_1 5 rfl rfl)
theorem dX1_findLeast_30 : decode cX1_findLeast 30 = .ok (.iload_n 2, 1) := dk_28 (dk_at dksX1_findLeast_1 6 rfl rfl)
theorem dX1_findLeast_31 : decode cX1_findLeast 31 = .ok (.invokespecial 353, 3) := dk_183 1 97 (dk_at dksX1_findLeast_1 7 rfl rfl)
theorem dX1_findLeast_34 : decode cX1_findLeast 34 = .ok (.astore 4, 2) := dk_58 4 (dk_at dksX1_findLeast_1 10 rfl rfl)
theorem dX1_findLeast_36 : decode cX1_findLeast 36 = .ok (.aload 4, 2) := dk_25 4 (dk_at dksX1_findLeast_1 12 rfl rfl)
theorem dX1_findLeast_38 : decode cX1_findLeast 38 = .ok (.iconst 0, 1) := dk_3 (dk_at dksX1_findLeast_1 14 rfl rfl)
theorem dX1_findLeast_39 : decode cX1_findLeast 39 = .ok (.invokevirtual 356, 3) := dk_182 1 100 (dk_at dksX1_findLeast_1 15 rfl rfl)
theorem dX1_findLeast_42 : decode cX1_findLeast 42 = .ok (.aload 4, 2) := dk_25 4 (dk_at dksX1_findLeast_1 18 rfl rfl)
theorem dX1_findLeast_44 : decode cX1_findLeast 44 = .ok (.getfield 359, 3) := dk_180 1 103 (dk_at dksX1_findLeast_1 20 rfl rfl)
theorem dX1_findLeast_47 : decode cX1_findLeast 47 = .ok (.bipush 61, 2) := dk_16 61 (dk_at dksX1_findLeast_2 0 rfl rfl)
theorem dX1_findLeast_49 : decode cX1_findLeast 49 = .ok (.if_icmp .ge 7, 3) := dk_162 0 7 (dk_at dksX1_findLeast_2 2 rfl rfl)
theorem dX1_findLeast_52 : decode cX1_findLeast 52 = .ok (.iconst 1, 1) := dk_4 (dk_at dksX1_findLeast_2 5 rfl rfl)
theorem dX1_findLeast_53 : decode cX1_findLeast 53 = .ok (.goto 4, 3) := dk_167 0 4 (dk_at dksX1_findLeast_2 6 rfl rfl)
theorem dX1_findLeast_56 : decode cX1_findLeast 56 = .ok (.iconst 0, 1) := dk_3 (dk_at dksX1_findLeast_2 9 rfl rfl)
theorem dX1_findLeast_57 : decode cX1_findLeast 57 = .ok (.invokestatic 152, 3) := dk_184 0 152 (dk_at dksX1_findLeast_2 10 rfl rfl)
theorem dX1_findLeast_60 : decode cX1_findLeast 60 = .ok (.aload 4, 2) := dk_25 4 (dk_at dksX1_findLeast_2 13 rfl rfl)
theorem dX1_findLeast_62 : decode cX1_findLeast 62 = .ok (.getfield 359, 3) := dk_180 1 103 (dk_at dksX1_findLeast_2 15 rfl rfl)
theorem dX1_findLeast_65 : decode cX1_findLeast 65 = .ok (.ireturn, 1) := dk_172 (dk_at dksX1_findLeast_2 18 rfl rfl)
abbrev cX1_sortsFor : ByteArray := prog_1_method_52_code
def yX1_sortsFor : MethodName := ⟨RX1, "sortsFor", "(LCuttingRoom$Style;)Ljava/util/List;"⟩
def dkwX1_sortsFor_6 : List UInt8 := [44, 176]
abbrev dktX1_sortsFor_6 : List UInt8 := dkwX1_sortsFor_6 ++ []
def dkwX1_sortsFor_5 : List UInt8 := [180, 0, 199, 154, 0, 11, 25, 4, 180, 1, 84, 167, 0, 4, 3, 184, 1, 87, 132, 3, 1, 167, 255, 131]
abbrev dktX1_sortsFor_5 : List UInt8 := dkwX1_sortsFor_5 ++ dktX1_sortsFor_6
def dkwX1_sortsFor_4 : List UInt8 := [184, 1, 87, 44, 25, 4, 180, 1, 80, 4, 25, 4, 180, 1, 80, 180, 1, 81, 153, 0, 18, 42]
abbrev dktX1_sortsFor_4 : List UInt8 := dkwX1_sortsFor_4 ++ dktX1_sortsFor_5
def dkwX1_sortsFor_3 : List UInt8 := [21, 5, 153, 0, 15, 25, 4, 180, 1, 84, 4, 96, 5, 108, 167, 0, 8, 25, 4, 180, 1, 84]
abbrev dktX1_sortsFor_3 : List UInt8 := dkwX1_sortsFor_3 ++ dktX1_sortsFor_4
def dkwX1_sortsFor_2 : List UInt8 := [180, 1, 80, 180, 1, 81, 154, 0, 7, 4, 167, 0, 4, 3, 54, 5, 44, 25, 4, 180, 1, 80, 3]
abbrev dktX1_sortsFor_2 : List UInt8 := dkwX1_sortsFor_2 ++ dktX1_sortsFor_3
def dkwX1_sortsFor_1 : List UInt8 := [180, 0, 106, 29, 185, 0, 90, 2, 0, 192, 1, 68, 58, 4, 42, 180, 0, 199, 153, 0, 18, 25, 4]
abbrev dktX1_sortsFor_1 : List UInt8 := dkwX1_sortsFor_1 ++ dktX1_sortsFor_2
def dkwX1_sortsFor_0 : List UInt8 := [187, 0, 9, 89, 183, 0, 11, 77, 3, 62, 29, 43, 180, 0, 106, 185, 0, 77, 1, 0, 162, 0, 118, 43]
abbrev dktX1_sortsFor_0 : List UInt8 := dkwX1_sortsFor_0 ++ dktX1_sortsFor_1
theorem dksX1_sortsFor_0 : cX1_sortsFor.data.toList.drop 0 = dktX1_sortsFor_0 := by decide +kernel
theorem dksX1_sortsFor_1 : cX1_sortsFor.data.toList.drop 24 = dktX1_sortsFor_1 := dk_seg dksX1_sortsFor_0 24 rfl rfl
theorem dksX1_sortsFor_2 : cX1_sortsFor.data.toList.drop 47 = dktX1_sortsFor_2 := dk_seg dksX1_sortsFor_1 23 rfl rfl
theorem dksX1_sortsFor_3 : cX1_sortsFor.data.toList.drop 70 = dktX1_sortsFor_3 := dk_seg dksX1_sortsFor_2 23 rfl rfl
theorem dksX1_sortsFor_4 : cX1_sortsFor.data.toList.drop 92 = dktX1_sortsFor_4 := dk_seg dksX1_sortsFor_3 22 rfl rfl
theorem dksX1_sortsFor_5 : cX1_sortsFor.data.toList.drop 114 = dktX1_sortsFor_5 := dk_seg dksX1_sortsFor_4 22 rfl rfl
theorem dksX1_sortsFor_6 : cX1_sortsFor.data.toList.drop 138 = dktX1_sortsFor_6 := dk_seg dksX1_sortsFor_5 24 rfl rfl
theorem dX1_sortsFor_0 : decode cX1_sortsFor 0 = .ok (.new 9, 3) := dk_187 0 9 (dk_at dksX1_sortsFor_0 0 rfl rfl)
theorem dX1_sortsFor_3 : decode cX1_sortsFor 3 = .ok (.dup, 1) := dk_89 (dk_at dksX1_sortsFor_0 3 rfl rfl)
theorem dX1_sortsFor_4 : decode cX1_sortsFor 4 = .ok (.invokespecial 11, 3) := dk_183 0 11 (dk_at dksX1_sortsFor_0 4 rfl rfl)
theorem dX1_sortsFor_7 : decode cX1_sortsFor 7 = .ok (.astore_n 2, 1) := dk_77 (dk_at dksX1_sortsFor_0 7 rfl rfl)
theorem dX1_sortsFor_8 : decode cX1_sortsFor 8 = .ok (.iconst 0, 1) := dk_3 (dk_at dksX1_sortsFor_0 8 rfl rfl)
theorem dX1_sortsFor_9 : decode cX1_sortsFor 9 = .ok (.istore_n 3, 1) := dk_62 (dk_at dksX1_sortsFor_0 9 rfl rfl)
theorem dX1_sortsFor_10 : decode cX1_sortsFor 10 = .ok (.iload_n 3, 1) := dk_29 (dk_at dksX1_sortsFor_0 10 rfl rfl)
theorem dX1_sortsFor_11 : decode cX1_sortsFor 11 = .ok (.aload_n 1, 1) := dk_43 (dk_at dksX1_sortsFor_0 11 rfl rfl)
theorem dX1_sortsFor_12 : decode cX1_sortsFor 12 = .ok (.getfield 106, 3) := dk_180 0 106 (dk_at dksX1_sortsFor_0 12 rfl rfl)
theorem dX1_sortsFor_15 : decode cX1_sortsFor 15 = .ok (.invokeinterface 77 1, 5) := by decide +kernel
theorem dX1_sortsFor_20 : decode cX1_sortsFor 20 = .ok (.if_icmp .ge 118, 3) := dk_162 0 118 (dk_at dksX1_sortsFor_0 20 rfl rfl)
theorem dX1_sortsFor_23 : decode cX1_sortsFor 23 = .ok (.aload_n 1, 1) := dk_43 (dk_at dksX1_sortsFor_0 23 rfl rfl)
theorem dX1_sortsFor_24 : decode cX1_sortsFor 24 = .ok (.getfield 106, 3) := dk_180 0 106 (dk_at dksX1_sortsFor_1 0 rfl rfl)
theorem dX1_sortsFor_27 : decode cX1_sortsFor 27 = .ok (.iload_n 3, 1) := dk_29 (dk_at dksX1_sortsFor_1 3 rfl rfl)
theorem dX1_sortsFor_28 : decode cX1_sortsFor 28 = .ok (.invokeinterface 90 2, 5) := by decide +kernel
theorem dX1_sortsFor_33 : decode cX1_sortsFor 33 = .ok (.checkcast 324, 3) := dk_192 1 68 (dk_at dksX1_sortsFor_1 9 rfl rfl)
theorem dX1_sortsFor_36 : decode cX1_sortsFor 36 = .ok (.astore 4, 2) := dk_58 4 (dk_at dksX1_sortsFor_1 12 rfl rfl)
theorem dX1_sortsFor_38 : decode cX1_sortsFor 38 = .ok (.aload_n 0, 1) := dk_42 (dk_at dksX1_sortsFor_1 14 rfl rfl)
theorem dX1_sortsFor_39 : decode cX1_sortsFor 39 = .ok (.getfield 199, 3) := dk_180 0 199 (dk_at dksX1_sortsFor_1 15 rfl rfl)
theorem dX1_sortsFor_42 : decode cX1_sortsFor 42 = .ok (.ifCond .eq 18, 3) := dk_153 0 18 (dk_at dksX1_sortsFor_1 18 rfl rfl)
theorem dX1_sortsFor_45 : decode cX1_sortsFor 45 = .ok (.aload 4, 2) := dk_25 4 (dk_at dksX1_sortsFor_1 21 rfl rfl)
theorem dX1_sortsFor_47 : decode cX1_sortsFor 47 = .ok (.getfield 336, 3) := dk_180 1 80 (dk_at dksX1_sortsFor_2 0 rfl rfl)
theorem dX1_sortsFor_50 : decode cX1_sortsFor 50 = .ok (.getfield 337, 3) := dk_180 1 81 (dk_at dksX1_sortsFor_2 3 rfl rfl)
theorem dX1_sortsFor_53 : decode cX1_sortsFor 53 = .ok (.ifCond .ne 7, 3) := dk_154 0 7 (dk_at dksX1_sortsFor_2 6 rfl rfl)
theorem dX1_sortsFor_56 : decode cX1_sortsFor 56 = .ok (.iconst 1, 1) := dk_4 (dk_at dksX1_sortsFor_2 9 rfl rfl)
theorem dX1_sortsFor_57 : decode cX1_sortsFor 57 = .ok (.goto 4, 3) := dk_167 0 4 (dk_at dksX1_sortsFor_2 10 rfl rfl)
theorem dX1_sortsFor_60 : decode cX1_sortsFor 60 = .ok (.iconst 0, 1) := dk_3 (dk_at dksX1_sortsFor_2 13 rfl rfl)
theorem dX1_sortsFor_61 : decode cX1_sortsFor 61 = .ok (.istore 5, 2) := dk_54 5 (dk_at dksX1_sortsFor_2 14 rfl rfl)
theorem dX1_sortsFor_63 : decode cX1_sortsFor 63 = .ok (.aload_n 2, 1) := dk_44 (dk_at dksX1_sortsFor_2 16 rfl rfl)
theorem dX1_sortsFor_64 : decode cX1_sortsFor 64 = .ok (.aload 4, 2) := dk_25 4 (dk_at dksX1_sortsFor_2 17 rfl rfl)
theorem dX1_sortsFor_66 : decode cX1_sortsFor 66 = .ok (.getfield 336, 3) := dk_180 1 80 (dk_at dksX1_sortsFor_2 19 rfl rfl)
theorem dX1_sortsFor_69 : decode cX1_sortsFor 69 = .ok (.iconst 0, 1) := dk_3 (dk_at dksX1_sortsFor_2 22 rfl rfl)
theorem dX1_sortsFor_70 : decode cX1_sortsFor 70 = .ok (.iload 5, 2) := dk_21 5 (dk_at dksX1_sortsFor_3 0 rfl rfl)
theorem dX1_sortsFor_72 : decode cX1_sortsFor 72 = .ok (.ifCond .eq 15, 3) := dk_153 0 15 (dk_at dksX1_sortsFor_3 2 rfl rfl)
theorem dX1_sortsFor_75 : decode cX1_sortsFor 75 = .ok (.aload 4, 2) := dk_25 4 (dk_at dksX1_sortsFor_3 5 rfl rfl)
theorem dX1_sortsFor_77 : decode cX1_sortsFor 77 = .ok (.getfield 340, 3) := dk_180 1 84 (dk_at dksX1_sortsFor_3 7 rfl rfl)
theorem dX1_sortsFor_80 : decode cX1_sortsFor 80 = .ok (.iconst 1, 1) := dk_4 (dk_at dksX1_sortsFor_3 10 rfl rfl)
theorem dX1_sortsFor_81 : decode cX1_sortsFor 81 = .ok (.iadd, 1) := dk_96 (dk_at dksX1_sortsFor_3 11 rfl rfl)
theorem dX1_sortsFor_82 : decode cX1_sortsFor 82 = .ok (.iconst 2, 1) := dk_5 (dk_at dksX1_sortsFor_3 12 rfl rfl)
theorem dX1_sortsFor_83 : decode cX1_sortsFor 83 = .ok (.idiv, 1) := dk_108 (dk_at dksX1_sortsFor_3 13 rfl rfl)
theorem dX1_sortsFor_84 : decode cX1_sortsFor 84 = .ok (.goto 8, 3) := dk_167 0 8 (dk_at dksX1_sortsFor_3 14 rfl rfl)
theorem dX1_sortsFor_87 : decode cX1_sortsFor 87 = .ok (.aload 4, 2) := dk_25 4 (dk_at dksX1_sortsFor_3 17 rfl rfl)
theorem dX1_sortsFor_89 : decode cX1_sortsFor 89 = .ok (.getfield 340, 3) := dk_180 1 84 (dk_at dksX1_sortsFor_3 19 rfl rfl)
theorem dX1_sortsFor_92 : decode cX1_sortsFor 92 = .ok (.invokestatic 343, 3) := dk_184 1 87 (dk_at dksX1_sortsFor_4 0 rfl rfl)
theorem dX1_sortsFor_95 : decode cX1_sortsFor 95 = .ok (.aload_n 2, 1) := dk_44 (dk_at dksX1_sortsFor_4 3 rfl rfl)
theorem dX1_sortsFor_96 : decode cX1_sortsFor 96 = .ok (.aload 4, 2) := dk_25 4 (dk_at dksX1_sortsFor_4 4 rfl rfl)
theorem dX1_sortsFor_98 : decode cX1_sortsFor 98 = .ok (.getfield 336, 3) := dk_180 1 80 (dk_at dksX1_sortsFor_4 6 rfl rfl)
theorem dX1_sortsFor_101 : decode cX1_sortsFor 101 = .ok (.iconst 1, 1) := dk_4 (dk_at dksX1_sortsFor_4 9 rfl rfl)
theorem dX1_sortsFor_102 : decode cX1_sortsFor 102 = .ok (.aload 4, 2) := dk_25 4 (dk_at dksX1_sortsFor_4 10 rfl rfl)
theorem dX1_sortsFor_104 : decode cX1_sortsFor 104 = .ok (.getfield 336, 3) := dk_180 1 80 (dk_at dksX1_sortsFor_4 12 rfl rfl)
theorem dX1_sortsFor_107 : decode cX1_sortsFor 107 = .ok (.getfield 337, 3) := dk_180 1 81 (dk_at dksX1_sortsFor_4 15 rfl rfl)
theorem dX1_sortsFor_110 : decode cX1_sortsFor 110 = .ok (.ifCond .eq 18, 3) := dk_153 0 18 (dk_at dksX1_sortsFor_4 18 rfl rfl)
theorem dX1_sortsFor_113 : decode cX1_sortsFor 113 = .ok (.aload_n 0, 1) := dk_42 (dk_at dksX1_sortsFor_4 21 rfl rfl)
theorem dX1_sortsFor_114 : decode cX1_sortsFor 114 = .ok (.getfield 199, 3) := dk_180 0 199 (dk_at dksX1_sortsFor_5 0 rfl rfl)
theorem dX1_sortsFor_117 : decode cX1_sortsFor 117 = .ok (.ifCond .ne 11, 3) := dk_154 0 11 (dk_at dksX1_sortsFor_5 3 rfl rfl)
theorem dX1_sortsFor_120 : decode cX1_sortsFor 120 = .ok (.aload 4, 2) := dk_25 4 (dk_at dksX1_sortsFor_5 6 rfl rfl)
theorem dX1_sortsFor_122 : decode cX1_sortsFor 122 = .ok (.getfield 340, 3) := dk_180 1 84 (dk_at dksX1_sortsFor_5 8 rfl rfl)
theorem dX1_sortsFor_125 : decode cX1_sortsFor 125 = .ok (.goto 4, 3) := dk_167 0 4 (dk_at dksX1_sortsFor_5 11 rfl rfl)
theorem dX1_sortsFor_128 : decode cX1_sortsFor 128 = .ok (.iconst 0, 1) := dk_3 (dk_at dksX1_sortsFor_5 14 rfl rfl)
theorem dX1_sortsFor_129 : decode cX1_sortsFor 129 = .ok (.invokestatic 343, 3) := dk_184 1 87 (dk_at dksX1_sortsFor_5 15 rfl rfl)
theorem dX1_sortsFor_132 : decode cX1_sortsFor 132 = .ok (.iinc 3 1, 3) := dk_132 3 1 (dk_at dksX1_sortsFor_5 18 rfl rfl)
theorem dX1_sortsFor_135 : decode cX1_sortsFor 135 = .ok (.goto (-125), 3) := dk_167 255 131 (dk_at dksX1_sortsFor_5 21 rfl rfl)
theorem dX1_sortsFor_138 : decode cX1_sortsFor 138 = .ok (.aload_n 2, 1) := dk_44 (dk_at dksX1_sortsFor_6 0 rfl rfl)
theorem dX1_sortsFor_139 : decode cX1_sortsFor 139 = .ok (.areturn, 1) := dk_176 (dk_at dksX1_sortsFor_6 1 rfl rfl)
abbrev cX1_addSorts : ByteArray := prog_1_method_51_code
def yX1_addSorts : MethodName := ⟨RX1, "addSorts", "(Ljava/util/List;LCuttingRoom$Shape;ZI)V"⟩
def dkwX1_addSorts_1 : List UInt8 := [87, 132, 4, 1, 167, 255, 231, 177]
abbrev dktX1_addSorts_1 : List UInt8 := dkwX1_addSorts_1 ++ []
def dkwX1_addSorts_0 : List UInt8 := [3, 54, 4, 21, 4, 29, 162, 0, 25, 42, 187, 1, 76, 89, 43, 28, 183, 1, 78, 185, 0, 158, 2, 0]
abbrev dktX1_addSorts_0 : List UInt8 := dkwX1_addSorts_0 ++ dktX1_addSorts_1
theorem dksX1_addSorts_0 : cX1_addSorts.data.toList.drop 0 = dktX1_addSorts_0 := by decide +kernel
theorem dksX1_addSorts_1 : cX1_addSorts.data.toList.drop 24 = dktX1_addSorts_1 := dk_seg dksX1_addSorts_0 24 rfl rfl
theorem dX1_addSorts_0 : decode cX1_addSorts 0 = .ok (.iconst 0, 1) := dk_3 (dk_at dksX1_addSorts_0 0 rfl rfl)
theorem dX1_addSorts_1 : decode cX1_addSorts 1 = .ok (.istore 4, 2) := dk_54 4 (dk_at dksX1_addSorts_0 1 rfl rfl)
theorem dX1_addSorts_3 : decode cX1_addSorts 3 = .ok (.iload 4, 2) := dk_21 4 (dk_at dksX1_addSorts_0 3 rfl rfl)
theorem dX1_addSorts_5 : decode cX1_addSorts 5 = .ok (.iload_n 3, 1) := dk_29 (dk_at dksX1_addSorts_0 5 rfl rfl)
theorem dX1_addSorts_6 : decode cX1_addSorts 6 = .ok (.if_icmp .ge 25, 3) := dk_162 0 25 (dk_at dksX1_addSorts_0 6 rfl rfl)
theorem dX1_addSorts_9 : decode cX1_addSorts 9 = .ok (.aload_n 0, 1) := dk_42 (dk_at dksX1_addSorts_0 9 rfl rfl)
theorem dX1_addSorts_10 : decode cX1_addSorts 10 = .ok (.new 332, 3) := dk_187 1 76 (dk_at dksX1_addSorts_0 10 rfl rfl)
theorem dX1_addSorts_13 : decode cX1_addSorts 13 = .ok (.dup, 1) := dk_89 (dk_at dksX1_addSorts_0 13 rfl rfl)
theorem dX1_addSorts_14 : decode cX1_addSorts 14 = .ok (.aload_n 1, 1) := dk_43 (dk_at dksX1_addSorts_0 14 rfl rfl)
theorem dX1_addSorts_15 : decode cX1_addSorts 15 = .ok (.iload_n 2, 1) := dk_28 (dk_at dksX1_addSorts_0 15 rfl rfl)
theorem dX1_addSorts_16 : decode cX1_addSorts 16 = .ok (.invokespecial 334, 3) := dk_183 1 78 (dk_at dksX1_addSorts_0 16 rfl rfl)
theorem dX1_addSorts_19 : decode cX1_addSorts 19 = .ok (.invokeinterface 158 2, 5) := by decide +kernel
theorem dX1_addSorts_24 : decode cX1_addSorts 24 = .ok (.pop, 1) := dk_87 (dk_at dksX1_addSorts_1 0 rfl rfl)
theorem dX1_addSorts_25 : decode cX1_addSorts 25 = .ok (.iinc 4 1, 3) := dk_132 4 1 (dk_at dksX1_addSorts_1 1 rfl rfl)
theorem dX1_addSorts_28 : decode cX1_addSorts 28 = .ok (.goto (-25), 3) := dk_167 255 231 (dk_at dksX1_addSorts_1 4 rfl rfl)
theorem dX1_addSorts_31 : decode cX1_addSorts 31 = .ok (.return_, 1) := dk_177 (dk_at dksX1_addSorts_1 7 rfl rfl)
abbrev cX1_nestedByTrying : ByteArray := prog_1_method_55_code
def yX1_nestedByTrying : MethodName := ⟨RX1, "nestedByTrying", "(I)I"⟩
def dkwX1_nestedByTrying_0 : List UInt8 := [42, 27, 3, 182, 1, 106, 172]
abbrev dktX1_nestedByTrying_0 : List UInt8 := dkwX1_nestedByTrying_0 ++ []
theorem dksX1_nestedByTrying_0 : cX1_nestedByTrying.data.toList.drop 0 = dktX1_nestedByTrying_0 := by decide +kernel
theorem dX1_nestedByTrying_0 : decode cX1_nestedByTrying 0 = .ok (.aload_n 0, 1) := dk_42 (dk_at dksX1_nestedByTrying_0 0 rfl rfl)
theorem dX1_nestedByTrying_1 : decode cX1_nestedByTrying 1 = .ok (.iload_n 1, 1) := dk_27 (dk_at dksX1_nestedByTrying_0 1 rfl rfl)
theorem dX1_nestedByTrying_2 : decode cX1_nestedByTrying 2 = .ok (.iconst 0, 1) := dk_3 (dk_at dksX1_nestedByTrying_0 2 rfl rfl)
theorem dX1_nestedByTrying_3 : decode cX1_nestedByTrying 3 = .ok (.invokevirtual 362, 3) := dk_182 1 106 (dk_at dksX1_nestedByTrying_0 3 rfl rfl)
theorem dX1_nestedByTrying_6 : decode cX1_nestedByTrying 6 = .ok (.ireturn, 1) := dk_172 (dk_at dksX1_nestedByTrying_0 6 rfl rfl)
abbrev cX1_addCloth : ByteArray := prog_1_method_56_code
def yX1_addCloth : MethodName := ⟨RX1, "addCloth", "(I)I"⟩
def dkwX1_addCloth_1 : List UInt8 := [167, 0, 4, 3, 184, 0, 141, 42, 89, 180, 1, 110, 27, 96, 181, 1, 110, 42, 180, 1, 110, 172]
abbrev dktX1_addCloth_1 : List UInt8 := dkwX1_addCloth_1 ++ []
def dkwX1_addCloth_0 : List UInt8 := [27, 4, 17, 39, 15, 184, 0, 83, 153, 0, 19, 42, 180, 1, 110, 27, 96, 19, 1, 113, 163, 0, 7, 4]
abbrev dktX1_addCloth_0 : List UInt8 := dkwX1_addCloth_0 ++ dktX1_addCloth_1
theorem dksX1_addCloth_0 : cX1_addCloth.data.toList.drop 0 = dktX1_addCloth_0 := by decide +kernel
theorem dksX1_addCloth_1 : cX1_addCloth.data.toList.drop 24 = dktX1_addCloth_1 := dk_seg dksX1_addCloth_0 24 rfl rfl
theorem dX1_addCloth_0 : decode cX1_addCloth 0 = .ok (.iload_n 1, 1) := dk_27 (dk_at dksX1_addCloth_0 0 rfl rfl)
theorem dX1_addCloth_1 : decode cX1_addCloth 1 = .ok (.iconst 1, 1) := dk_4 (dk_at dksX1_addCloth_0 1 rfl rfl)
theorem dX1_addCloth_2 : decode cX1_addCloth 2 = .ok (.sipush 9999, 3) := dk_17 39 15 (dk_at dksX1_addCloth_0 2 rfl rfl)
theorem dX1_addCloth_5 : decode cX1_addCloth 5 = .ok (.invokestatic 83, 3) := dk_184 0 83 (dk_at dksX1_addCloth_0 5 rfl rfl)
theorem dX1_addCloth_8 : decode cX1_addCloth 8 = .ok (.ifCond .eq 19, 3) := dk_153 0 19 (dk_at dksX1_addCloth_0 8 rfl rfl)
theorem dX1_addCloth_11 : decode cX1_addCloth 11 = .ok (.aload_n 0, 1) := dk_42 (dk_at dksX1_addCloth_0 11 rfl rfl)
theorem dX1_addCloth_12 : decode cX1_addCloth 12 = .ok (.getfield 366, 3) := dk_180 1 110 (dk_at dksX1_addCloth_0 12 rfl rfl)
theorem dX1_addCloth_15 : decode cX1_addCloth 15 = .ok (.iload_n 1, 1) := dk_27 (dk_at dksX1_addCloth_0 15 rfl rfl)
theorem dX1_addCloth_16 : decode cX1_addCloth 16 = .ok (.iadd, 1) := dk_96 (dk_at dksX1_addCloth_0 16 rfl rfl)
theorem dX1_addCloth_17 : decode cX1_addCloth 17 = .ok (.ldc_w 369, 3) := dk_19 1 113 (dk_at dksX1_addCloth_0 17 rfl rfl)
theorem dX1_addCloth_20 : decode cX1_addCloth 20 = .ok (.if_icmp .gt 7, 3) := dk_163 0 7 (dk_at dksX1_addCloth_0 20 rfl rfl)
theorem dX1_addCloth_23 : decode cX1_addCloth 23 = .ok (.iconst 1, 1) := dk_4 (dk_at dksX1_addCloth_0 23 rfl rfl)
theorem dX1_addCloth_24 : decode cX1_addCloth 24 = .ok (.goto 4, 3) := dk_167 0 4 (dk_at dksX1_addCloth_1 0 rfl rfl)
theorem dX1_addCloth_27 : decode cX1_addCloth 27 = .ok (.iconst 0, 1) := dk_3 (dk_at dksX1_addCloth_1 3 rfl rfl)
theorem dX1_addCloth_28 : decode cX1_addCloth 28 = .ok (.invokestatic 141, 3) := dk_184 0 141 (dk_at dksX1_addCloth_1 4 rfl rfl)
theorem dX1_addCloth_31 : decode cX1_addCloth 31 = .ok (.aload_n 0, 1) := dk_42 (dk_at dksX1_addCloth_1 7 rfl rfl)
theorem dX1_addCloth_32 : decode cX1_addCloth 32 = .ok (.dup, 1) := dk_89 (dk_at dksX1_addCloth_1 8 rfl rfl)
theorem dX1_addCloth_33 : decode cX1_addCloth 33 = .ok (.getfield 366, 3) := dk_180 1 110 (dk_at dksX1_addCloth_1 9 rfl rfl)
theorem dX1_addCloth_36 : decode cX1_addCloth 36 = .ok (.iload_n 1, 1) := dk_27 (dk_at dksX1_addCloth_1 12 rfl rfl)
theorem dX1_addCloth_37 : decode cX1_addCloth 37 = .ok (.iadd, 1) := dk_96 (dk_at dksX1_addCloth_1 13 rfl rfl)
theorem dX1_addCloth_38 : decode cX1_addCloth 38 = .ok (.putfield 366, 3) := dk_181 1 110 (dk_at dksX1_addCloth_1 14 rfl rfl)
theorem dX1_addCloth_41 : decode cX1_addCloth 41 = .ok (.aload_n 0, 1) := dk_42 (dk_at dksX1_addCloth_1 17 rfl rfl)
theorem dX1_addCloth_42 : decode cX1_addCloth 42 = .ok (.getfield 366, 3) := dk_180 1 110 (dk_at dksX1_addCloth_1 18 rfl rfl)
theorem dX1_addCloth_45 : decode cX1_addCloth 45 = .ok (.ireturn, 1) := dk_172 (dk_at dksX1_addCloth_1 21 rfl rfl)
abbrev cX1_spread : ByteArray := prog_1_method_60_code
def yX1_spread : MethodName := ⟨RX1, "spread", "(I)I"⟩
def dkwX1_spread_8 : List UInt8 := [180, 1, 130, 21, 5, 21, 6, 96, 133, 97, 181, 1, 130, 132, 3, 1, 167, 255, 141, 42, 180, 1, 110, 172]
abbrev dktX1_spread_8 : List UInt8 := dkwX1_spread_8 ++ []
def dkwX1_spread_7 : List UInt8 := [180, 0, 177, 21, 5, 21, 6, 96, 158, 0, 7, 4, 167, 0, 4, 3, 128, 181, 0, 177, 42, 89]
abbrev dktX1_spread_7 : List UInt8 := dkwX1_spread_7 ++ dktX1_spread_8
def dkwX1_spread_6 : List UInt8 := [180, 1, 117, 21, 5, 96, 181, 1, 117, 25, 4, 89, 180, 1, 124, 21, 6, 96, 181, 1, 124, 25, 4, 89]
abbrev dktX1_spread_6 : List UInt8 := dkwX1_spread_6 ++ dktX1_spread_7
def dkwX1_spread_5 : List UInt8 := [42, 25, 4, 3, 182, 1, 120, 104, 54, 5, 27, 42, 25, 4, 4, 182, 1, 120, 104, 54, 6, 25, 4, 89]
abbrev dktX1_spread_5 : List UInt8 := dkwX1_spread_5 ++ dktX1_spread_6
def dkwX1_spread_4 : List UInt8 := [185, 0, 77, 1, 0, 162, 0, 108, 42, 180, 0, 12, 29, 185, 0, 90, 2, 0, 192, 0, 98, 58, 4, 27]
abbrev dktX1_spread_4 : List UInt8 := dkwX1_spread_4 ++ dktX1_spread_5
def dkwX1_spread_3 : List UInt8 := [167, 0, 4, 3, 184, 0, 152, 42, 89, 180, 1, 110, 28, 100, 181, 1, 110, 3, 62, 29, 42, 180, 0, 12]
abbrev dktX1_spread_3 : List UInt8 := dkwX1_spread_3 ++ dktX1_spread_4
def dkwX1_spread_2 : List UInt8 := [167, 0, 4, 4, 104, 61, 28, 42, 180, 1, 110, 163, 0, 15, 42, 27, 182, 1, 127, 153, 0, 7, 4]
abbrev dktX1_spread_2 : List UInt8 := dkwX1_spread_2 ++ dktX1_spread_3
def dkwX1_spread_1 : List UInt8 := [167, 0, 4, 3, 184, 0, 113, 27, 42, 180, 0, 39, 180, 1, 41, 104, 42, 180, 0, 199, 153, 0, 7, 5]
abbrev dktX1_spread_1 : List UInt8 := dkwX1_spread_1 ++ dktX1_spread_2
def dkwX1_spread_0 : List UInt8 := [27, 4, 16, 50, 184, 0, 83, 184, 0, 141, 42, 180, 0, 19, 185, 0, 109, 1, 0, 154, 0, 7, 4]
abbrev dktX1_spread_0 : List UInt8 := dkwX1_spread_0 ++ dktX1_spread_1
theorem dksX1_spread_0 : cX1_spread.data.toList.drop 0 = dktX1_spread_0 := by decide +kernel
theorem dksX1_spread_1 : cX1_spread.data.toList.drop 23 = dktX1_spread_1 := dk_seg dksX1_spread_0 23 rfl rfl
theorem dksX1_spread_2 : cX1_spread.data.toList.drop 47 = dktX1_spread_2 := dk_seg dksX1_spread_1 24 rfl rfl
theorem dksX1_spread_3 : cX1_spread.data.toList.drop 70 = dktX1_spread_3 := dk_seg dksX1_spread_2 23 rfl rfl
theorem dksX1_spread_4 : cX1_spread.data.toList.drop 94 = dktX1_spread_4 := dk_seg dksX1_spread_3 24 rfl rfl
theorem dksX1_spread_5 : cX1_spread.data.toList.drop 118 = dktX1_spread_5 := dk_seg dksX1_spread_4 24 rfl rfl
theorem dksX1_spread_6 : cX1_spread.data.toList.drop 142 = dktX1_spread_6 := dk_seg dksX1_spread_5 24 rfl rfl
theorem dksX1_spread_7 : cX1_spread.data.toList.drop 166 = dktX1_spread_7 := dk_seg dksX1_spread_6 24 rfl rfl
theorem dksX1_spread_8 : cX1_spread.data.toList.drop 188 = dktX1_spread_8 := dk_seg dksX1_spread_7 22 rfl rfl
theorem dX1_spread_0 : decode cX1_spread 0 = .ok (.iload_n 1, 1) := dk_27 (dk_at dksX1_spread_0 0 rfl rfl)
theorem dX1_spread_1 : decode cX1_spread 1 = .ok (.iconst 1, 1) := dk_4 (dk_at dksX1_spread_0 1 rfl rfl)
theorem dX1_spread_2 : decode cX1_spread 2 = .ok (.bipush 50, 2) := dk_16 50 (dk_at dksX1_spread_0 2 rfl rfl)
theorem dX1_spread_4 : decode cX1_spread 4 = .ok (.invokestatic 83, 3) := dk_184 0 83 (dk_at dksX1_spread_0 4 rfl rfl)
theorem dX1_spread_7 : decode cX1_spread 7 = .ok (.invokestatic 141, 3) := dk_184 0 141 (dk_at dksX1_spread_0 7 rfl rfl)
theorem dX1_spread_10 : decode cX1_spread 10 = .ok (.aload_n 0, 1) := dk_42 (dk_at dksX1_spread_0 10 rfl rfl)
theorem dX1_spread_11 : decode cX1_spread 11 = .ok (.getfield 19, 3) := dk_180 0 19 (dk_at dksX1_spread_0 11 rfl rfl)
theorem dX1_spread_14 : decode cX1_spread 14 = .ok (.invokeinterface 109 1, 5) := by decide +kernel
theorem dX1_spread_19 : decode cX1_spread 19 = .ok (.ifCond .ne 7, 3) := dk_154 0 7 (dk_at dksX1_spread_0 19 rfl rfl)
theorem dX1_spread_22 : decode cX1_spread 22 = .ok (.iconst 1, 1) := dk_4 (dk_at dksX1_spread_0 22 rfl rfl)
theorem dX1_spread_23 : decode cX1_spread 23 = .ok (.goto 4, 3) := dk_167 0 4 (dk_at dksX1_spread_1 0 rfl rfl)
theorem dX1_spread_26 : decode cX1_spread 26 = .ok (.iconst 0, 1) := dk_3 (dk_at dksX1_spread_1 3 rfl rfl)
theorem dX1_spread_27 : decode cX1_spread 27 = .ok (.invokestatic 113, 3) := dk_184 0 113 (dk_at dksX1_spread_1 4 rfl rfl)
theorem dX1_spread_30 : decode cX1_spread 30 = .ok (.iload_n 1, 1) := dk_27 (dk_at dksX1_spread_1 7 rfl rfl)
theorem dX1_spread_31 : decode cX1_spread 31 = .ok (.aload_n 0, 1) := dk_42 (dk_at dksX1_spread_1 8 rfl rfl)
theorem dX1_spread_32 : decode cX1_spread 32 = .ok (.getfield 39, 3) := dk_180 0 39 (dk_at dksX1_spread_1 9 rfl rfl)
theorem dX1_spread_35 : decode cX1_spread 35 = .ok (.getfield 297, 3) := dk_180 1 41 (dk_at dksX1_spread_1 12 rfl rfl)
theorem dX1_spread_38 : decode cX1_spread 38 = .ok (.imul, 1) := dk_104 (dk_at dksX1_spread_1 15 rfl rfl)
theorem dX1_spread_39 : decode cX1_spread 39 = .ok (.aload_n 0, 1) := dk_42 (dk_at dksX1_spread_1 16 rfl rfl)
theorem dX1_spread_40 : decode cX1_spread 40 = .ok (.getfield 199, 3) := dk_180 0 199 (dk_at dksX1_spread_1 17 rfl rfl)
theorem dX1_spread_43 : decode cX1_spread 43 = .ok (.ifCond .eq 7, 3) := dk_153 0 7 (dk_at dksX1_spread_1 20 rfl rfl)
theorem dX1_spread_46 : decode cX1_spread 46 = .ok (.iconst 2, 1) := dk_5 (dk_at dksX1_spread_1 23 rfl rfl)
theorem dX1_spread_47 : decode cX1_spread 47 = .ok (.goto 4, 3) := dk_167 0 4 (dk_at dksX1_spread_2 0 rfl rfl)
theorem dX1_spread_50 : decode cX1_spread 50 = .ok (.iconst 1, 1) := dk_4 (dk_at dksX1_spread_2 3 rfl rfl)
theorem dX1_spread_51 : decode cX1_spread 51 = .ok (.imul, 1) := dk_104 (dk_at dksX1_spread_2 4 rfl rfl)
theorem dX1_spread_52 : decode cX1_spread 52 = .ok (.istore_n 2, 1) := dk_61 (dk_at dksX1_spread_2 5 rfl rfl)
theorem dX1_spread_53 : decode cX1_spread 53 = .ok (.iload_n 2, 1) := dk_28 (dk_at dksX1_spread_2 6 rfl rfl)
theorem dX1_spread_54 : decode cX1_spread 54 = .ok (.aload_n 0, 1) := dk_42 (dk_at dksX1_spread_2 7 rfl rfl)
theorem dX1_spread_55 : decode cX1_spread 55 = .ok (.getfield 366, 3) := dk_180 1 110 (dk_at dksX1_spread_2 8 rfl rfl)
theorem dX1_spread_58 : decode cX1_spread 58 = .ok (.if_icmp .gt 15, 3) := dk_163 0 15 (dk_at dksX1_spread_2 11 rfl rfl)
theorem dX1_spread_61 : decode cX1_spread 61 = .ok (.aload_n 0, 1) := dk_42 (dk_at dksX1_spread_2 14 rfl rfl)
theorem dX1_spread_62 : decode cX1_spread 62 = .ok (.iload_n 1, 1) := dk_27 (dk_at dksX1_spread_2 15 rfl rfl)
theorem dX1_spread_63 : decode cX1_spread 63 = .ok (.invokevirtual 383, 3) := dk_182 1 127 (dk_at dksX1_spread_2 16 rfl rfl)
theorem dX1_spread_66 : decode cX1_spread 66 = .ok (.ifCond .eq 7, 3) := dk_153 0 7 (dk_at dksX1_spread_2 19 rfl rfl)
theorem dX1_spread_69 : decode cX1_spread 69 = .ok (.iconst 1, 1) := dk_4 (dk_at dksX1_spread_2 22 rfl rfl)
theorem dX1_spread_70 : decode cX1_spread 70 = .ok (.goto 4, 3) := dk_167 0 4 (dk_at dksX1_spread_3 0 rfl rfl)
theorem dX1_spread_73 : decode cX1_spread 73 = .ok (.iconst 0, 1) := dk_3 (dk_at dksX1_spread_3 3 rfl rfl)
theorem dX1_spread_74 : decode cX1_spread 74 = .ok (.invokestatic 152, 3) := dk_184 0 152 (dk_at dksX1_spread_3 4 rfl rfl)
theorem dX1_spread_77 : decode cX1_spread 77 = .ok (.aload_n 0, 1) := dk_42 (dk_at dksX1_spread_3 7 rfl rfl)
theorem dX1_spread_78 : decode cX1_spread 78 = .ok (.dup, 1) := dk_89 (dk_at dksX1_spread_3 8 rfl rfl)
theorem dX1_spread_79 : decode cX1_spread 79 = .ok (.getfield 366, 3) := dk_180 1 110 (dk_at dksX1_spread_3 9 rfl rfl)
theorem dX1_spread_82 : decode cX1_spread 82 = .ok (.iload_n 2, 1) := dk_28 (dk_at dksX1_spread_3 12 rfl rfl)
theorem dX1_spread_83 : decode cX1_spread 83 = .ok (.isub, 1) := dk_100 (dk_at dksX1_spread_3 13 rfl rfl)
theorem dX1_spread_84 : decode cX1_spread 84 = .ok (.putfield 366, 3) := dk_181 1 110 (dk_at dksX1_spread_3 14 rfl rfl)
theorem dX1_spread_87 : decode cX1_spread 87 = .ok (.iconst 0, 1) := dk_3 (dk_at dksX1_spread_3 17 rfl rfl)
theorem dX1_spread_88 : decode cX1_spread 88 = .ok (.istore_n 3, 1) := dk_62 (dk_at dksX1_spread_3 18 rfl rfl)
theorem dX1_spread_89 : decode cX1_spread 89 = .ok (.iload_n 3, 1) := dk_29 (dk_at dksX1_spread_3 19 rfl rfl)
theorem dX1_spread_90 : decode cX1_spread 90 = .ok (.aload_n 0, 1) := dk_42 (dk_at dksX1_spread_3 20 rfl rfl)
theorem dX1_spread_91 : decode cX1_spread 91 = .ok (.getfield 12, 3) := dk_180 0 12 (dk_at dksX1_spread_3 21 rfl rfl)
theorem dX1_spread_94 : decode cX1_spread 94 = .ok (.invokeinterface 77 1, 5) := by decide +kernel
theorem dX1_spread_99 : decode cX1_spread 99 = .ok (.if_icmp .ge 108, 3) := dk_162 0 108 (dk_at dksX1_spread_4 5 rfl rfl)
theorem dX1_spread_102 : decode cX1_spread 102 = .ok (.aload_n 0, 1) := dk_42 (dk_at dksX1_spread_4 8 rfl rfl)
theorem dX1_spread_103 : decode cX1_spread 103 = .ok (.getfield 12, 3) := dk_180 0 12 (dk_at dksX1_spread_4 9 rfl rfl)
theorem dX1_spread_106 : decode cX1_spread 106 = .ok (.iload_n 3, 1) := dk_29 (dk_at dksX1_spread_4 12 rfl rfl)
theorem dX1_spread_107 : decode cX1_spread 107 = .ok (.invokeinterface 90 2, 5) := by decide +kernel
theorem dX1_spread_112 : decode cX1_spread 112 = .ok (.checkcast 98, 3) := dk_192 0 98 (dk_at dksX1_spread_4 18 rfl rfl)
theorem dX1_spread_115 : decode cX1_spread 115 = .ok (.astore 4, 2) := dk_58 4 (dk_at dksX1_spread_4 21 rfl rfl)
theorem dX1_spread_117 : decode cX1_spread 117 = .ok (.iload_n 1, 1) := dk_27 (dk_at dksX1_spread_4 23 rfl rfl)
theorem dX1_spread_118 : decode cX1_spread 118 = .ok (.aload_n 0, 1) := dk_42 (dk_at dksX1_spread_5 0 rfl rfl)
theorem dX1_spread_119 : decode cX1_spread 119 = .ok (.aload 4, 2) := dk_25 4 (dk_at dksX1_spread_5 1 rfl rfl)
theorem dX1_spread_121 : decode cX1_spread 121 = .ok (.iconst 0, 1) := dk_3 (dk_at dksX1_spread_5 3 rfl rfl)
theorem dX1_spread_122 : decode cX1_spread 122 = .ok (.invokevirtual 376, 3) := dk_182 1 120 (dk_at dksX1_spread_5 4 rfl rfl)
theorem dX1_spread_125 : decode cX1_spread 125 = .ok (.imul, 1) := dk_104 (dk_at dksX1_spread_5 7 rfl rfl)
theorem dX1_spread_126 : decode cX1_spread 126 = .ok (.istore 5, 2) := dk_54 5 (dk_at dksX1_spread_5 8 rfl rfl)
theorem dX1_spread_128 : decode cX1_spread 128 = .ok (.iload_n 1, 1) := dk_27 (dk_at dksX1_spread_5 10 rfl rfl)
theorem dX1_spread_129 : decode cX1_spread 129 = .ok (.aload_n 0, 1) := dk_42 (dk_at dksX1_spread_5 11 rfl rfl)
theorem dX1_spread_130 : decode cX1_spread 130 = .ok (.aload 4, 2) := dk_25 4 (dk_at dksX1_spread_5 12 rfl rfl)
theorem dX1_spread_132 : decode cX1_spread 132 = .ok (.iconst 1, 1) := dk_4 (dk_at dksX1_spread_5 14 rfl rfl)
theorem dX1_spread_133 : decode cX1_spread 133 = .ok (.invokevirtual 376, 3) := dk_182 1 120 (dk_at dksX1_spread_5 15 rfl rfl)
theorem dX1_spread_136 : decode cX1_spread 136 = .ok (.imul, 1) := dk_104 (dk_at dksX1_spread_5 18 rfl rfl)
theorem dX1_spread_137 : decode cX1_spread 137 = .ok (.istore 6, 2) := dk_54 6 (dk_at dksX1_spread_5 19 rfl rfl)
theorem dX1_spread_139 : decode cX1_spread 139 = .ok (.aload 4, 2) := dk_25 4 (dk_at dksX1_spread_5 21 rfl rfl)
theorem dX1_spread_141 : decode cX1_spread 141 = .ok (.dup, 1) := dk_89 (dk_at dksX1_spread_5 23 rfl rfl)
theorem dX1_spread_142 : decode cX1_spread 142 = .ok (.getfield 373, 3) := dk_180 1 117 (dk_at dksX1_spread_6 0 rfl rfl)
theorem dX1_spread_145 : decode cX1_spread 145 = .ok (.iload 5, 2) := dk_21 5 (dk_at dksX1_spread_6 3 rfl rfl)
theorem dX1_spread_147 : decode cX1_spread 147 = .ok (.iadd, 1) := dk_96 (dk_at dksX1_spread_6 5 rfl rfl)
theorem dX1_spread_148 : decode cX1_spread 148 = .ok (.putfield 373, 3) := dk_181 1 117 (dk_at dksX1_spread_6 6 rfl rfl)
theorem dX1_spread_151 : decode cX1_spread 151 = .ok (.aload 4, 2) := dk_25 4 (dk_at dksX1_spread_6 9 rfl rfl)
theorem dX1_spread_153 : decode cX1_spread 153 = .ok (.dup, 1) := dk_89 (dk_at dksX1_spread_6 11 rfl rfl)
theorem dX1_spread_154 : decode cX1_spread 154 = .ok (.getfield 380, 3) := dk_180 1 124 (dk_at dksX1_spread_6 12 rfl rfl)
theorem dX1_spread_157 : decode cX1_spread 157 = .ok (.iload 6, 2) := dk_21 6 (dk_at dksX1_spread_6 15 rfl rfl)
theorem dX1_spread_159 : decode cX1_spread 159 = .ok (.iadd, 1) := dk_96 (dk_at dksX1_spread_6 17 rfl rfl)
theorem dX1_spread_160 : decode cX1_spread 160 = .ok (.putfield 380, 3) := dk_181 1 124 (dk_at dksX1_spread_6 18 rfl rfl)
theorem dX1_spread_163 : decode cX1_spread 163 = .ok (.aload 4, 2) := dk_25 4 (dk_at dksX1_spread_6 21 rfl rfl)
theorem dX1_spread_165 : decode cX1_spread 165 = .ok (.dup, 1) := dk_89 (dk_at dksX1_spread_6 23 rfl rfl)
theorem dX1_spread_166 : decode cX1_spread 166 = .ok (.getfield 177, 3) := dk_180 0 177 (dk_at dksX1_spread_7 0 rfl rfl)
theorem dX1_spread_169 : decode cX1_spread 169 = .ok (.iload 5, 2) := dk_21 5 (dk_at dksX1_spread_7 3 rfl rfl)
theorem dX1_spread_171 : decode cX1_spread 171 = .ok (.iload 6, 2) := dk_21 6 (dk_at dksX1_spread_7 5 rfl rfl)
theorem dX1_spread_173 : decode cX1_spread 173 = .ok (.iadd, 1) := dk_96 (dk_at dksX1_spread_7 7 rfl rfl)
theorem dX1_spread_174 : decode cX1_spread 174 = .ok (.ifCond .le 7, 3) := dk_158 0 7 (dk_at dksX1_spread_7 8 rfl rfl)
theorem dX1_spread_177 : decode cX1_spread 177 = .ok (.iconst 1, 1) := dk_4 (dk_at dksX1_spread_7 11 rfl rfl)
theorem dX1_spread_178 : decode cX1_spread 178 = .ok (.goto 4, 3) := dk_167 0 4 (dk_at dksX1_spread_7 12 rfl rfl)
theorem dX1_spread_181 : decode cX1_spread 181 = .ok (.iconst 0, 1) := dk_3 (dk_at dksX1_spread_7 15 rfl rfl)
theorem dX1_spread_182 : decode cX1_spread 182 = .ok (.ior, 1) := dk_128 (dk_at dksX1_spread_7 16 rfl rfl)
theorem dX1_spread_183 : decode cX1_spread 183 = .ok (.putfield 177, 3) := dk_181 0 177 (dk_at dksX1_spread_7 17 rfl rfl)
theorem dX1_spread_186 : decode cX1_spread 186 = .ok (.aload_n 0, 1) := dk_42 (dk_at dksX1_spread_7 20 rfl rfl)
theorem dX1_spread_187 : decode cX1_spread 187 = .ok (.dup, 1) := dk_89 (dk_at dksX1_spread_7 21 rfl rfl)
theorem dX1_spread_188 : decode cX1_spread 188 = .ok (.getfield 386, 3) := dk_180 1 130 (dk_at dksX1_spread_8 0 rfl rfl)
theorem dX1_spread_191 : decode cX1_spread 191 = .ok (.iload 5, 2) := dk_21 5 (dk_at dksX1_spread_8 3 rfl rfl)
theorem dX1_spread_193 : decode cX1_spread 193 = .ok (.iload 6, 2) := dk_21 6 (dk_at dksX1_spread_8 5 rfl rfl)
theorem dX1_spread_195 : decode cX1_spread 195 = .ok (.iadd, 1) := dk_96 (dk_at dksX1_spread_8 7 rfl rfl)
theorem dX1_spread_196 : decode cX1_spread 196 = .ok (.i2l, 1) := dk_133 (dk_at dksX1_spread_8 8 rfl rfl)
theorem dX1_spread_197 : decode cX1_spread 197 = .ok (.ladd, 1) := dk_97 (dk_at dksX1_spread_8 9 rfl rfl)
theorem dX1_spread_198 : decode cX1_spread 198 = .ok (.putfield 386, 3) := dk_181 1 130 (dk_at dksX1_spread_8 10 rfl rfl)
theorem dX1_spread_201 : decode cX1_spread 201 = .ok (.iinc 3 1, 3) := dk_132 3 1 (dk_at dksX1_spread_8 13 rfl rfl)
theorem dX1_spread_204 : decode cX1_spread 204 = .ok (.goto (-115), 3) := dk_167 255 141 (dk_at dksX1_spread_8 16 rfl rfl)
theorem dX1_spread_207 : decode cX1_spread 207 = .ok (.aload_n 0, 1) := dk_42 (dk_at dksX1_spread_8 19 rfl rfl)
theorem dX1_spread_208 : decode cX1_spread 208 = .ok (.getfield 366, 3) := dk_180 1 110 (dk_at dksX1_spread_8 20 rfl rfl)
theorem dX1_spread_211 : decode cX1_spread 211 = .ok (.ireturn, 1) := dk_172 (dk_at dksX1_spread_8 23 rfl rfl)
abbrev cX1_hasRoomFor : ByteArray := prog_1_method_59_code
def yX1_hasRoomFor : MethodName := ⟨RX1, "hasRoomFor", "(I)Z"⟩
def dkwX1_hasRoomFor_3 : List UInt8 := [164, 0, 5, 3, 172, 132, 2, 1, 167, 255, 186, 4, 172]
abbrev dktX1_hasRoomFor_3 : List UInt8 := dkwX1_hasRoomFor_3 ++ []
def dkwX1_hasRoomFor_2 : List UInt8 := [17, 39, 15, 163, 0, 22, 45, 180, 1, 124, 27, 42, 45, 4, 182, 1, 120, 104, 96, 17, 39, 15]
abbrev dktX1_hasRoomFor_2 : List UInt8 := dkwX1_hasRoomFor_2 ++ dktX1_hasRoomFor_3
def dkwX1_hasRoomFor_1 : List UInt8 := [185, 0, 90, 2, 0, 192, 0, 98, 78, 45, 180, 1, 117, 27, 42, 45, 3, 182, 1, 120, 104, 96]
abbrev dktX1_hasRoomFor_1 : List UInt8 := dkwX1_hasRoomFor_1 ++ dktX1_hasRoomFor_2
def dkwX1_hasRoomFor_0 : List UInt8 := [3, 61, 28, 42, 180, 0, 12, 185, 0, 77, 1, 0, 162, 0, 63, 42, 180, 0, 12, 28]
abbrev dktX1_hasRoomFor_0 : List UInt8 := dkwX1_hasRoomFor_0 ++ dktX1_hasRoomFor_1
theorem dksX1_hasRoomFor_0 : cX1_hasRoomFor.data.toList.drop 0 = dktX1_hasRoomFor_0 := by decide +kernel
theorem dksX1_hasRoomFor_1 : cX1_hasRoomFor.data.toList.drop 20 = dktX1_hasRoomFor_1 := dk_seg dksX1_hasRoomFor_0 20 rfl rfl
theorem dksX1_hasRoomFor_2 : cX1_hasRoomFor.data.toList.drop 42 = dktX1_hasRoomFor_2 := dk_seg dksX1_hasRoomFor_1 22 rfl rfl
theorem dksX1_hasRoomFor_3 : cX1_hasRoomFor.data.toList.drop 64 = dktX1_hasRoomFor_3 := dk_seg dksX1_hasRoomFor_2 22 rfl rfl
theorem dX1_hasRoomFor_0 : decode cX1_hasRoomFor 0 = .ok (.iconst 0, 1) := dk_3 (dk_at dksX1_hasRoomFor_0 0 rfl rfl)
theorem dX1_hasRoomFor_1 : decode cX1_hasRoomFor 1 = .ok (.istore_n 2, 1) := dk_61 (dk_at dksX1_hasRoomFor_0 1 rfl rfl)
theorem dX1_hasRoomFor_2 : decode cX1_hasRoomFor 2 = .ok (.iload_n 2, 1) := dk_28 (dk_at dksX1_hasRoomFor_0 2 rfl rfl)
theorem dX1_hasRoomFor_3 : decode cX1_hasRoomFor 3 = .ok (.aload_n 0, 1) := dk_42 (dk_at dksX1_hasRoomFor_0 3 rfl rfl)
theorem dX1_hasRoomFor_4 : decode cX1_hasRoomFor 4 = .ok (.getfield 12, 3) := dk_180 0 12 (dk_at dksX1_hasRoomFor_0 4 rfl rfl)
theorem dX1_hasRoomFor_7 : decode cX1_hasRoomFor 7 = .ok (.invokeinterface 77 1, 5) := by decide +kernel
theorem dX1_hasRoomFor_12 : decode cX1_hasRoomFor 12 = .ok (.if_icmp .ge 63, 3) := dk_162 0 63 (dk_at dksX1_hasRoomFor_0 12 rfl rfl)
theorem dX1_hasRoomFor_15 : decode cX1_hasRoomFor 15 = .ok (.aload_n 0, 1) := dk_42 (dk_at dksX1_hasRoomFor_0 15 rfl rfl)
theorem dX1_hasRoomFor_16 : decode cX1_hasRoomFor 16 = .ok (.getfield 12, 3) := dk_180 0 12 (dk_at dksX1_hasRoomFor_0 16 rfl rfl)
theorem dX1_hasRoomFor_19 : decode cX1_hasRoomFor 19 = .ok (.iload_n 2, 1) := dk_28 (dk_at dksX1_hasRoomFor_0 19 rfl rfl)
theorem dX1_hasRoomFor_20 : decode cX1_hasRoomFor 20 = .ok (.invokeinterface 90 2, 5) := by decide +kernel
theorem dX1_hasRoomFor_25 : decode cX1_hasRoomFor 25 = .ok (.checkcast 98, 3) := dk_192 0 98 (dk_at dksX1_hasRoomFor_1 5 rfl rfl)
theorem dX1_hasRoomFor_28 : decode cX1_hasRoomFor 28 = .ok (.astore_n 3, 1) := dk_78 (dk_at dksX1_hasRoomFor_1 8 rfl rfl)
theorem dX1_hasRoomFor_29 : decode cX1_hasRoomFor 29 = .ok (.aload_n 3, 1) := dk_45 (dk_at dksX1_hasRoomFor_1 9 rfl rfl)
theorem dX1_hasRoomFor_30 : decode cX1_hasRoomFor 30 = .ok (.getfield 373, 3) := dk_180 1 117 (dk_at dksX1_hasRoomFor_1 10 rfl rfl)
theorem dX1_hasRoomFor_33 : decode cX1_hasRoomFor 33 = .ok (.iload_n 1, 1) := dk_27 (dk_at dksX1_hasRoomFor_1 13 rfl rfl)
theorem dX1_hasRoomFor_34 : decode cX1_hasRoomFor 34 = .ok (.aload_n 0, 1) := dk_42 (dk_at dksX1_hasRoomFor_1 14 rfl rfl)
theorem dX1_hasRoomFor_35 : decode cX1_hasRoomFor 35 = .ok (.aload_n 3, 1) := dk_45 (dk_at dksX1_hasRoomFor_1 15 rfl rfl)
theorem dX1_hasRoomFor_36 : decode cX1_hasRoomFor 36 = .ok (.iconst 0, 1) := dk_3 (dk_at dksX1_hasRoomFor_1 16 rfl rfl)
theorem dX1_hasRoomFor_37 : decode cX1_hasRoomFor 37 = .ok (.invokevirtual 376, 3) := dk_182 1 120 (dk_at dksX1_hasRoomFor_1 17 rfl rfl)
theorem dX1_hasRoomFor_40 : decode cX1_hasRoomFor 40 = .ok (.imul, 1) := dk_104 (dk_at dksX1_hasRoomFor_1 20 rfl rfl)
theorem dX1_hasRoomFor_41 : decode cX1_hasRoomFor 41 = .ok (.iadd, 1) := dk_96 (dk_at dksX1_hasRoomFor_1 21 rfl rfl)
theorem dX1_hasRoomFor_42 : decode cX1_hasRoomFor 42 = .ok (.sipush 9999, 3) := dk_17 39 15 (dk_at dksX1_hasRoomFor_2 0 rfl rfl)
theorem dX1_hasRoomFor_45 : decode cX1_hasRoomFor 45 = .ok (.if_icmp .gt 22, 3) := dk_163 0 22 (dk_at dksX1_hasRoomFor_2 3 rfl rfl)
theorem dX1_hasRoomFor_48 : decode cX1_hasRoomFor 48 = .ok (.aload_n 3, 1) := dk_45 (dk_at dksX1_hasRoomFor_2 6 rfl rfl)
theorem dX1_hasRoomFor_49 : decode cX1_hasRoomFor 49 = .ok (.getfield 380, 3) := dk_180 1 124 (dk_at dksX1_hasRoomFor_2 7 rfl rfl)
theorem dX1_hasRoomFor_52 : decode cX1_hasRoomFor 52 = .ok (.iload_n 1, 1) := dk_27 (dk_at dksX1_hasRoomFor_2 10 rfl rfl)
theorem dX1_hasRoomFor_53 : decode cX1_hasRoomFor 53 = .ok (.aload_n 0, 1) := dk_42 (dk_at dksX1_hasRoomFor_2 11 rfl rfl)
theorem dX1_hasRoomFor_54 : decode cX1_hasRoomFor 54 = .ok (.aload_n 3, 1) := dk_45 (dk_at dksX1_hasRoomFor_2 12 rfl rfl)
theorem dX1_hasRoomFor_55 : decode cX1_hasRoomFor 55 = .ok (.iconst 1, 1) := dk_4 (dk_at dksX1_hasRoomFor_2 13 rfl rfl)
theorem dX1_hasRoomFor_56 : decode cX1_hasRoomFor 56 = .ok (.invokevirtual 376, 3) := dk_182 1 120 (dk_at dksX1_hasRoomFor_2 14 rfl rfl)
theorem dX1_hasRoomFor_59 : decode cX1_hasRoomFor 59 = .ok (.imul, 1) := dk_104 (dk_at dksX1_hasRoomFor_2 17 rfl rfl)
theorem dX1_hasRoomFor_60 : decode cX1_hasRoomFor 60 = .ok (.iadd, 1) := dk_96 (dk_at dksX1_hasRoomFor_2 18 rfl rfl)
theorem dX1_hasRoomFor_61 : decode cX1_hasRoomFor 61 = .ok (.sipush 9999, 3) := dk_17 39 15 (dk_at dksX1_hasRoomFor_2 19 rfl rfl)
theorem dX1_hasRoomFor_64 : decode cX1_hasRoomFor 64 = .ok (.if_icmp .le 5, 3) := dk_164 0 5 (dk_at dksX1_hasRoomFor_3 0 rfl rfl)
theorem dX1_hasRoomFor_67 : decode cX1_hasRoomFor 67 = .ok (.iconst 0, 1) := dk_3 (dk_at dksX1_hasRoomFor_3 3 rfl rfl)
theorem dX1_hasRoomFor_68 : decode cX1_hasRoomFor 68 = .ok (.ireturn, 1) := dk_172 (dk_at dksX1_hasRoomFor_3 4 rfl rfl)
theorem dX1_hasRoomFor_69 : decode cX1_hasRoomFor 69 = .ok (.iinc 2 1, 3) := dk_132 2 1 (dk_at dksX1_hasRoomFor_3 5 rfl rfl)
theorem dX1_hasRoomFor_72 : decode cX1_hasRoomFor 72 = .ok (.goto (-70), 3) := dk_167 255 186 (dk_at dksX1_hasRoomFor_3 8 rfl rfl)
theorem dX1_hasRoomFor_75 : decode cX1_hasRoomFor 75 = .ok (.iconst 1, 1) := dk_4 (dk_at dksX1_hasRoomFor_3 11 rfl rfl)
theorem dX1_hasRoomFor_76 : decode cX1_hasRoomFor 76 = .ok (.ireturn, 1) := dk_172 (dk_at dksX1_hasRoomFor_3 12 rfl rfl)
abbrev cX1_givenBy : ByteArray := prog_1_method_58_code
def yX1_givenBy : MethodName := ⟨RX1, "givenBy", "(LCuttingRoom$Shape;Z)I"⟩
def dkwX1_givenBy_4 : List UInt8 := [167, 0, 4, 5, 96, 62, 132, 4, 1, 167, 255, 162, 29, 172]
abbrev dktX1_givenBy_4 : List UInt8 := dkwX1_givenBy_4 ++ []
def dkwX1_givenBy_3 : List UInt8 := [167, 0, 28, 43, 180, 1, 81, 153, 0, 9, 132, 3, 1, 167, 0, 15, 29, 28, 153, 0, 7, 3]
abbrev dktX1_givenBy_3 : List UInt8 := dkwX1_givenBy_3 ++ dktX1_givenBy_4
def dkwX1_givenBy_2 : List UInt8 := [180, 0, 199, 154, 0, 23, 29, 25, 5, 180, 1, 114, 28, 160, 0, 7, 4, 167, 0, 4, 3, 96, 62]
abbrev dktX1_givenBy_2 : List UInt8 := dkwX1_givenBy_2 ++ dktX1_givenBy_3
def dkwX1_givenBy_1 : List UInt8 := [21, 4, 185, 0, 90, 2, 0, 192, 0, 117, 58, 5, 25, 5, 180, 0, 144, 43, 166, 0, 55, 42]
abbrev dktX1_givenBy_1 : List UInt8 := dkwX1_givenBy_1 ++ dktX1_givenBy_2
def dkwX1_givenBy_0 : List UInt8 := [3, 62, 3, 54, 4, 21, 4, 42, 180, 0, 19, 185, 0, 77, 1, 0, 162, 0, 86, 42, 180, 0, 19]
abbrev dktX1_givenBy_0 : List UInt8 := dkwX1_givenBy_0 ++ dktX1_givenBy_1
theorem dksX1_givenBy_0 : cX1_givenBy.data.toList.drop 0 = dktX1_givenBy_0 := by decide +kernel
theorem dksX1_givenBy_1 : cX1_givenBy.data.toList.drop 23 = dktX1_givenBy_1 := dk_seg dksX1_givenBy_0 23 rfl rfl
theorem dksX1_givenBy_2 : cX1_givenBy.data.toList.drop 45 = dktX1_givenBy_2 := dk_seg dksX1_givenBy_1 22 rfl rfl
theorem dksX1_givenBy_3 : cX1_givenBy.data.toList.drop 68 = dktX1_givenBy_3 := dk_seg dksX1_givenBy_2 23 rfl rfl
theorem dksX1_givenBy_4 : cX1_givenBy.data.toList.drop 90 = dktX1_givenBy_4 := dk_seg dksX1_givenBy_3 22 rfl rfl
theorem dX1_givenBy_0 : decode cX1_givenBy 0 = .ok (.iconst 0, 1) := dk_3 (dk_at dksX1_givenBy_0 0 rfl rfl)
theorem dX1_givenBy_1 : decode cX1_givenBy 1 = .ok (.istore_n 3, 1) := dk_62 (dk_at dksX1_givenBy_0 1 rfl rfl)
theorem dX1_givenBy_2 : decode cX1_givenBy 2 = .ok (.iconst 0, 1) := dk_3 (dk_at dksX1_givenBy_0 2 rfl rfl)
theorem dX1_givenBy_3 : decode cX1_givenBy 3 = .ok (.istore 4, 2) := dk_54 4 (dk_at dksX1_givenBy_0 3 rfl rfl)
theorem dX1_givenBy_5 : decode cX1_givenBy 5 = .ok (.iload 4, 2) := dk_21 4 (dk_at dksX1_givenBy_0 5 rfl rfl)
theorem dX1_givenBy_7 : decode cX1_givenBy 7 = .ok (.aload_n 0, 1) := dk_42 (dk_at dksX1_givenBy_0 7 rfl rfl)
theorem dX1_givenBy_8 : decode cX1_givenBy 8 = .ok (.getfield 19, 3) := dk_180 0 19 (dk_at dksX1_givenBy_0 8 rfl rfl)
theorem dX1_givenBy_11 : decode cX1_givenBy 11 = .ok (.invokeinterface 77 1, 5) := by decide +kernel
theorem dX1_givenBy_16 : decode cX1_givenBy 16 = .ok (.if_icmp .ge 86, 3) := dk_162 0 86 (dk_at dksX1_givenBy_0 16 rfl rfl)
theorem dX1_givenBy_19 : decode cX1_givenBy 19 = .ok (.aload_n 0, 1) := dk_42 (dk_at dksX1_givenBy_0 19 rfl rfl)
theorem dX1_givenBy_20 : decode cX1_givenBy 20 = .ok (.getfield 19, 3) := dk_180 0 19 (dk_at dksX1_givenBy_0 20 rfl rfl)
theorem dX1_givenBy_23 : decode cX1_givenBy 23 = .ok (.iload 4, 2) := dk_21 4 (dk_at dksX1_givenBy_1 0 rfl rfl)
theorem dX1_givenBy_25 : decode cX1_givenBy 25 = .ok (.invokeinterface 90 2, 5) := by decide +kernel
theorem dX1_givenBy_30 : decode cX1_givenBy 30 = .ok (.checkcast 117, 3) := dk_192 0 117 (dk_at dksX1_givenBy_1 7 rfl rfl)
theorem dX1_givenBy_33 : decode cX1_givenBy 33 = .ok (.astore 5, 2) := dk_58 5 (dk_at dksX1_givenBy_1 10 rfl rfl)
theorem dX1_givenBy_35 : decode cX1_givenBy 35 = .ok (.aload 5, 2) := dk_25 5 (dk_at dksX1_givenBy_1 12 rfl rfl)
theorem dX1_givenBy_37 : decode cX1_givenBy 37 = .ok (.getfield 144, 3) := dk_180 0 144 (dk_at dksX1_givenBy_1 14 rfl rfl)
theorem dX1_givenBy_40 : decode cX1_givenBy 40 = .ok (.aload_n 1, 1) := dk_43 (dk_at dksX1_givenBy_1 17 rfl rfl)
theorem dX1_givenBy_41 : decode cX1_givenBy 41 = .ok (.if_acmp .ne 55, 3) := dk_166 0 55 (dk_at dksX1_givenBy_1 18 rfl rfl)
theorem dX1_givenBy_44 : decode cX1_givenBy 44 = .ok (.aload_n 0, 1) := dk_42 (dk_at dksX1_givenBy_1 21 rfl rfl)
theorem dX1_givenBy_45 : decode cX1_givenBy 45 = .ok (.getfield 199, 3) := dk_180 0 199 (dk_at dksX1_givenBy_2 0 rfl rfl)
theorem dX1_givenBy_48 : decode cX1_givenBy 48 = .ok (.ifCond .ne 23, 3) := dk_154 0 23 (dk_at dksX1_givenBy_2 3 rfl rfl)
theorem dX1_givenBy_51 : decode cX1_givenBy 51 = .ok (.iload_n 3, 1) := dk_29 (dk_at dksX1_givenBy_2 6 rfl rfl)
theorem dX1_givenBy_52 : decode cX1_givenBy 52 = .ok (.aload 5, 2) := dk_25 5 (dk_at dksX1_givenBy_2 7 rfl rfl)
theorem dX1_givenBy_54 : decode cX1_givenBy 54 = .ok (.getfield 370, 3) := dk_180 1 114 (dk_at dksX1_givenBy_2 9 rfl rfl)
theorem dX1_givenBy_57 : decode cX1_givenBy 57 = .ok (.iload_n 2, 1) := dk_28 (dk_at dksX1_givenBy_2 12 rfl rfl)
theorem dX1_givenBy_58 : decode cX1_givenBy 58 = .ok (.if_icmp .ne 7, 3) := dk_160 0 7 (dk_at dksX1_givenBy_2 13 rfl rfl)
theorem dX1_givenBy_61 : decode cX1_givenBy 61 = .ok (.iconst 1, 1) := dk_4 (dk_at dksX1_givenBy_2 16 rfl rfl)
theorem dX1_givenBy_62 : decode cX1_givenBy 62 = .ok (.goto 4, 3) := dk_167 0 4 (dk_at dksX1_givenBy_2 17 rfl rfl)
theorem dX1_givenBy_65 : decode cX1_givenBy 65 = .ok (.iconst 0, 1) := dk_3 (dk_at dksX1_givenBy_2 20 rfl rfl)
theorem dX1_givenBy_66 : decode cX1_givenBy 66 = .ok (.iadd, 1) := dk_96 (dk_at dksX1_givenBy_2 21 rfl rfl)
theorem dX1_givenBy_67 : decode cX1_givenBy 67 = .ok (.istore_n 3, 1) := dk_62 (dk_at dksX1_givenBy_2 22 rfl rfl)
theorem dX1_givenBy_68 : decode cX1_givenBy 68 = .ok (.goto 28, 3) := dk_167 0 28 (dk_at dksX1_givenBy_3 0 rfl rfl)
theorem dX1_givenBy_71 : decode cX1_givenBy 71 = .ok (.aload_n 1, 1) := dk_43 (dk_at dksX1_givenBy_3 3 rfl rfl)
theorem dX1_givenBy_72 : decode cX1_givenBy 72 = .ok (.getfield 337, 3) := dk_180 1 81 (dk_at dksX1_givenBy_3 4 rfl rfl)
theorem dX1_givenBy_75 : decode cX1_givenBy 75 = .ok (.ifCond .eq 9, 3) := dk_153 0 9 (dk_at dksX1_givenBy_3 7 rfl rfl)
theorem dX1_givenBy_78 : decode cX1_givenBy 78 = .ok (.iinc 3 1, 3) := dk_132 3 1 (dk_at dksX1_givenBy_3 10 rfl rfl)
theorem dX1_givenBy_81 : decode cX1_givenBy 81 = .ok (.goto 15, 3) := dk_167 0 15 (dk_at dksX1_givenBy_3 13 rfl rfl)
theorem dX1_givenBy_84 : decode cX1_givenBy 84 = .ok (.iload_n 3, 1) := dk_29 (dk_at dksX1_givenBy_3 16 rfl rfl)
theorem dX1_givenBy_85 : decode cX1_givenBy 85 = .ok (.iload_n 2, 1) := dk_28 (dk_at dksX1_givenBy_3 17 rfl rfl)
theorem dX1_givenBy_86 : decode cX1_givenBy 86 = .ok (.ifCond .eq 7, 3) := dk_153 0 7 (dk_at dksX1_givenBy_3 18 rfl rfl)
theorem dX1_givenBy_89 : decode cX1_givenBy 89 = .ok (.iconst 0, 1) := dk_3 (dk_at dksX1_givenBy_3 21 rfl rfl)
theorem dX1_givenBy_90 : decode cX1_givenBy 90 = .ok (.goto 4, 3) := dk_167 0 4 (dk_at dksX1_givenBy_4 0 rfl rfl)
theorem dX1_givenBy_93 : decode cX1_givenBy 93 = .ok (.iconst 2, 1) := dk_5 (dk_at dksX1_givenBy_4 3 rfl rfl)
theorem dX1_givenBy_94 : decode cX1_givenBy 94 = .ok (.iadd, 1) := dk_96 (dk_at dksX1_givenBy_4 4 rfl rfl)
theorem dX1_givenBy_95 : decode cX1_givenBy 95 = .ok (.istore_n 3, 1) := dk_62 (dk_at dksX1_givenBy_4 5 rfl rfl)
theorem dX1_givenBy_96 : decode cX1_givenBy 96 = .ok (.iinc 4 1, 3) := dk_132 4 1 (dk_at dksX1_givenBy_4 6 rfl rfl)
theorem dX1_givenBy_99 : decode cX1_givenBy 99 = .ok (.goto (-94), 3) := dk_167 255 162 (dk_at dksX1_givenBy_4 9 rfl rfl)
theorem dX1_givenBy_102 : decode cX1_givenBy 102 = .ok (.iload_n 3, 1) := dk_29 (dk_at dksX1_givenBy_4 12 rfl rfl)
theorem dX1_givenBy_103 : decode cX1_givenBy 103 = .ok (.ireturn, 1) := dk_172 (dk_at dksX1_givenBy_4 13 rfl rfl)
abbrev cX1_pieces : ByteArray := prog_1_method_61_code
def yX1_pieces : MethodName := ⟨RX1, "pieces", "(IZ)I"⟩
def dkwX1_pieces_1 : List UInt8 := [184, 0, 113, 28, 153, 0, 10, 45, 180, 1, 124, 167, 0, 7, 45, 180, 1, 117, 172]
abbrev dktX1_pieces_1 : List UInt8 := dkwX1_pieces_1 ++ []
def dkwX1_pieces_0 : List UInt8 := [42, 27, 182, 0, 162, 78, 28, 153, 0, 10, 45, 180, 1, 81, 153, 0, 7, 4, 167, 0, 4, 3]
abbrev dktX1_pieces_0 : List UInt8 := dkwX1_pieces_0 ++ dktX1_pieces_1
theorem dksX1_pieces_0 : cX1_pieces.data.toList.drop 0 = dktX1_pieces_0 := by decide +kernel
theorem dksX1_pieces_1 : cX1_pieces.data.toList.drop 22 = dktX1_pieces_1 := dk_seg dksX1_pieces_0 22 rfl rfl
theorem dX1_pieces_0 : decode cX1_pieces 0 = .ok (.aload_n 0, 1) := dk_42 (dk_at dksX1_pieces_0 0 rfl rfl)
theorem dX1_pieces_1 : decode cX1_pieces 1 = .ok (.iload_n 1, 1) := dk_27 (dk_at dksX1_pieces_0 1 rfl rfl)
theorem dX1_pieces_2 : decode cX1_pieces 2 = .ok (.invokevirtual 162, 3) := dk_182 0 162 (dk_at dksX1_pieces_0 2 rfl rfl)
theorem dX1_pieces_5 : decode cX1_pieces 5 = .ok (.astore_n 3, 1) := dk_78 (dk_at dksX1_pieces_0 5 rfl rfl)
theorem dX1_pieces_6 : decode cX1_pieces 6 = .ok (.iload_n 2, 1) := dk_28 (dk_at dksX1_pieces_0 6 rfl rfl)
theorem dX1_pieces_7 : decode cX1_pieces 7 = .ok (.ifCond .eq 10, 3) := dk_153 0 10 (dk_at dksX1_pieces_0 7 rfl rfl)
theorem dX1_pieces_10 : decode cX1_pieces 10 = .ok (.aload_n 3, 1) := dk_45 (dk_at dksX1_pieces_0 10 rfl rfl)
theorem dX1_pieces_11 : decode cX1_pieces 11 = .ok (.getfield 337, 3) := dk_180 1 81 (dk_at dksX1_pieces_0 11 rfl rfl)
theorem dX1_pieces_14 : decode cX1_pieces 14 = .ok (.ifCond .eq 7, 3) := dk_153 0 7 (dk_at dksX1_pieces_0 14 rfl rfl)
theorem dX1_pieces_17 : decode cX1_pieces 17 = .ok (.iconst 1, 1) := dk_4 (dk_at dksX1_pieces_0 17 rfl rfl)
theorem dX1_pieces_18 : decode cX1_pieces 18 = .ok (.goto 4, 3) := dk_167 0 4 (dk_at dksX1_pieces_0 18 rfl rfl)
theorem dX1_pieces_21 : decode cX1_pieces 21 = .ok (.iconst 0, 1) := dk_3 (dk_at dksX1_pieces_0 21 rfl rfl)
theorem dX1_pieces_22 : decode cX1_pieces 22 = .ok (.invokestatic 113, 3) := dk_184 0 113 (dk_at dksX1_pieces_1 0 rfl rfl)
theorem dX1_pieces_25 : decode cX1_pieces 25 = .ok (.iload_n 2, 1) := dk_28 (dk_at dksX1_pieces_1 3 rfl rfl)
theorem dX1_pieces_26 : decode cX1_pieces 26 = .ok (.ifCond .eq 10, 3) := dk_153 0 10 (dk_at dksX1_pieces_1 4 rfl rfl)
theorem dX1_pieces_29 : decode cX1_pieces 29 = .ok (.aload_n 3, 1) := dk_45 (dk_at dksX1_pieces_1 7 rfl rfl)
theorem dX1_pieces_30 : decode cX1_pieces 30 = .ok (.getfield 380, 3) := dk_180 1 124 (dk_at dksX1_pieces_1 8 rfl rfl)
theorem dX1_pieces_33 : decode cX1_pieces 33 = .ok (.goto 7, 3) := dk_167 0 7 (dk_at dksX1_pieces_1 11 rfl rfl)
theorem dX1_pieces_36 : decode cX1_pieces 36 = .ok (.aload_n 3, 1) := dk_45 (dk_at dksX1_pieces_1 14 rfl rfl)
theorem dX1_pieces_37 : decode cX1_pieces 37 = .ok (.getfield 373, 3) := dk_180 1 117 (dk_at dksX1_pieces_1 15 rfl rfl)
theorem dX1_pieces_40 : decode cX1_pieces 40 = .ok (.ireturn, 1) := dk_172 (dk_at dksX1_pieces_1 18 rfl rfl)
abbrev cX1_canMake : ByteArray := prog_1_method_62_code
def yX1_canMake : MethodName := ⟨RX1, "canMake", "(I)I"⟩
def dkwX1_canMake_0 : List UInt8 := [42, 27, 182, 1, 134, 182, 1, 137, 172]
abbrev dktX1_canMake_0 : List UInt8 := dkwX1_canMake_0 ++ []
theorem dksX1_canMake_0 : cX1_canMake.data.toList.drop 0 = dktX1_canMake_0 := by decide +kernel
theorem dX1_canMake_0 : decode cX1_canMake 0 = .ok (.aload_n 0, 1) := dk_42 (dk_at dksX1_canMake_0 0 rfl rfl)
theorem dX1_canMake_1 : decode cX1_canMake 1 = .ok (.iload_n 1, 1) := dk_27 (dk_at dksX1_canMake_0 1 rfl rfl)
theorem dX1_canMake_2 : decode cX1_canMake 2 = .ok (.invokevirtual 390, 3) := dk_182 1 134 (dk_at dksX1_canMake_0 2 rfl rfl)
theorem dX1_canMake_5 : decode cX1_canMake 5 = .ok (.invokevirtual 393, 3) := dk_182 1 137 (dk_at dksX1_canMake_0 5 rfl rfl)
theorem dX1_canMake_8 : decode cX1_canMake 8 = .ok (.ireturn, 1) := dk_172 (dk_at dksX1_canMake_0 8 rfl rfl)
abbrev cX1_checkedStyleWithParts : ByteArray := prog_1_method_9_code
def yX1_checkedStyleWithParts : MethodName := ⟨RX1, "checkedStyleWithParts", "(I)LCuttingRoom$Style;"⟩
def dkwX1_checkedStyleWithParts_1 : List UInt8 := [184, 0, 113, 44, 176]
abbrev dktX1_checkedStyleWithParts_1 : List UInt8 := dkwX1_checkedStyleWithParts_1 ++ []
def dkwX1_checkedStyleWithParts_0 : List UInt8 := [42, 27, 182, 0, 102, 77, 44, 180, 0, 106, 185, 0, 109, 1, 0, 154, 0, 7, 4, 167, 0, 4, 3]
abbrev dktX1_checkedStyleWithParts_0 : List UInt8 := dkwX1_checkedStyleWithParts_0 ++ dktX1_checkedStyleWithParts_1
theorem dksX1_checkedStyleWithParts_0 : cX1_checkedStyleWithParts.data.toList.drop 0 = dktX1_checkedStyleWithParts_0 := by decide +kernel
theorem dksX1_checkedStyleWithParts_1 : cX1_checkedStyleWithParts.data.toList.drop 23 = dktX1_checkedStyleWithParts_1 := dk_seg dksX1_checkedStyleWithParts_0 23 rfl rfl
theorem dX1_checkedStyleWithParts_0 : decode cX1_checkedStyleWithParts 0 = .ok (.aload_n 0, 1) := dk_42 (dk_at dksX1_checkedStyleWithParts_0 0 rfl rfl)
theorem dX1_checkedStyleWithParts_1 : decode cX1_checkedStyleWithParts 1 = .ok (.iload_n 1, 1) := dk_27 (dk_at dksX1_checkedStyleWithParts_0 1 rfl rfl)
theorem dX1_checkedStyleWithParts_2 : decode cX1_checkedStyleWithParts 2 = .ok (.invokevirtual 102, 3) := dk_182 0 102 (dk_at dksX1_checkedStyleWithParts_0 2 rfl rfl)
theorem dX1_checkedStyleWithParts_5 : decode cX1_checkedStyleWithParts 5 = .ok (.astore_n 2, 1) := dk_77 (dk_at dksX1_checkedStyleWithParts_0 5 rfl rfl)
theorem dX1_checkedStyleWithParts_6 : decode cX1_checkedStyleWithParts 6 = .ok (.aload_n 2, 1) := dk_44 (dk_at dksX1_checkedStyleWithParts_0 6 rfl rfl)
theorem dX1_checkedStyleWithParts_7 : decode cX1_checkedStyleWithParts 7 = .ok (.getfield 106, 3) := dk_180 0 106 (dk_at dksX1_checkedStyleWithParts_0 7 rfl rfl)
theorem dX1_checkedStyleWithParts_10 : decode cX1_checkedStyleWithParts 10 = .ok (.invokeinterface 109 1, 5) := by decide +kernel
theorem dX1_checkedStyleWithParts_15 : decode cX1_checkedStyleWithParts 15 = .ok (.ifCond .ne 7, 3) := dk_154 0 7 (dk_at dksX1_checkedStyleWithParts_0 15 rfl rfl)
theorem dX1_checkedStyleWithParts_18 : decode cX1_checkedStyleWithParts 18 = .ok (.iconst 1, 1) := dk_4 (dk_at dksX1_checkedStyleWithParts_0 18 rfl rfl)
theorem dX1_checkedStyleWithParts_19 : decode cX1_checkedStyleWithParts 19 = .ok (.goto 4, 3) := dk_167 0 4 (dk_at dksX1_checkedStyleWithParts_0 19 rfl rfl)
theorem dX1_checkedStyleWithParts_22 : decode cX1_checkedStyleWithParts 22 = .ok (.iconst 0, 1) := dk_3 (dk_at dksX1_checkedStyleWithParts_0 22 rfl rfl)
theorem dX1_checkedStyleWithParts_23 : decode cX1_checkedStyleWithParts 23 = .ok (.invokestatic 113, 3) := dk_184 0 113 (dk_at dksX1_checkedStyleWithParts_1 0 rfl rfl)
theorem dX1_checkedStyleWithParts_26 : decode cX1_checkedStyleWithParts 26 = .ok (.aload_n 2, 1) := dk_44 (dk_at dksX1_checkedStyleWithParts_1 3 rfl rfl)
theorem dX1_checkedStyleWithParts_27 : decode cX1_checkedStyleWithParts 27 = .ok (.areturn, 1) := dk_176 (dk_at dksX1_checkedStyleWithParts_1 4 rfl rfl)
abbrev cX1_canMakeByTaking : ByteArray := prog_1_method_63_code
def yX1_canMakeByTaking : MethodName := ⟨RX1, "canMakeByTaking", "(I)I"⟩
def dkwX1_canMakeByTaking_1 : List UInt8 := [167, 255, 241, 29, 172]
abbrev dktX1_canMakeByTaking_1 : List UInt8 := dkwX1_canMakeByTaking_1 ++ []
def dkwX1_canMakeByTaking_0 : List UInt8 := [42, 27, 182, 1, 134, 77, 3, 62, 42, 44, 29, 4, 96, 3, 182, 1, 140, 153, 0, 9, 132, 3, 1]
abbrev dktX1_canMakeByTaking_0 : List UInt8 := dkwX1_canMakeByTaking_0 ++ dktX1_canMakeByTaking_1
theorem dksX1_canMakeByTaking_0 : cX1_canMakeByTaking.data.toList.drop 0 = dktX1_canMakeByTaking_0 := by decide +kernel
theorem dksX1_canMakeByTaking_1 : cX1_canMakeByTaking.data.toList.drop 23 = dktX1_canMakeByTaking_1 := dk_seg dksX1_canMakeByTaking_0 23 rfl rfl
theorem dX1_canMakeByTaking_0 : decode cX1_canMakeByTaking 0 = .ok (.aload_n 0, 1) := dk_42 (dk_at dksX1_canMakeByTaking_0 0 rfl rfl)
theorem dX1_canMakeByTaking_1 : decode cX1_canMakeByTaking 1 = .ok (.iload_n 1, 1) := dk_27 (dk_at dksX1_canMakeByTaking_0 1 rfl rfl)
theorem dX1_canMakeByTaking_2 : decode cX1_canMakeByTaking 2 = .ok (.invokevirtual 390, 3) := dk_182 1 134 (dk_at dksX1_canMakeByTaking_0 2 rfl rfl)
theorem dX1_canMakeByTaking_5 : decode cX1_canMakeByTaking 5 = .ok (.astore_n 2, 1) := dk_77 (dk_at dksX1_canMakeByTaking_0 5 rfl rfl)
theorem dX1_canMakeByTaking_6 : decode cX1_canMakeByTaking 6 = .ok (.iconst 0, 1) := dk_3 (dk_at dksX1_canMakeByTaking_0 6 rfl rfl)
theorem dX1_canMakeByTaking_7 : decode cX1_canMakeByTaking 7 = .ok (.istore_n 3, 1) := dk_62 (dk_at dksX1_canMakeByTaking_0 7 rfl rfl)
theorem dX1_canMakeByTaking_8 : decode cX1_canMakeByTaking 8 = .ok (.aload_n 0, 1) := dk_42 (dk_at dksX1_canMakeByTaking_0 8 rfl rfl)
theorem dX1_canMakeByTaking_9 : decode cX1_canMakeByTaking 9 = .ok (.aload_n 2, 1) := dk_44 (dk_at dksX1_canMakeByTaking_0 9 rfl rfl)
theorem dX1_canMakeByTaking_10 : decode cX1_canMakeByTaking 10 = .ok (.iload_n 3, 1) := dk_29 (dk_at dksX1_canMakeByTaking_0 10 rfl rfl)
theorem dX1_canMakeByTaking_11 : decode cX1_canMakeByTaking 11 = .ok (.iconst 1, 1) := dk_4 (dk_at dksX1_canMakeByTaking_0 11 rfl rfl)
theorem dX1_canMakeByTaking_12 : decode cX1_canMakeByTaking 12 = .ok (.iadd, 1) := dk_96 (dk_at dksX1_canMakeByTaking_0 12 rfl rfl)
theorem dX1_canMakeByTaking_13 : decode cX1_canMakeByTaking 13 = .ok (.iconst 0, 1) := dk_3 (dk_at dksX1_canMakeByTaking_0 13 rfl rfl)
theorem dX1_canMakeByTaking_14 : decode cX1_canMakeByTaking 14 = .ok (.invokevirtual 396, 3) := dk_182 1 140 (dk_at dksX1_canMakeByTaking_0 14 rfl rfl)
theorem dX1_canMakeByTaking_17 : decode cX1_canMakeByTaking 17 = .ok (.ifCond .eq 9, 3) := dk_153 0 9 (dk_at dksX1_canMakeByTaking_0 17 rfl rfl)
theorem dX1_canMakeByTaking_20 : decode cX1_canMakeByTaking 20 = .ok (.iinc 3 1, 3) := dk_132 3 1 (dk_at dksX1_canMakeByTaking_0 20 rfl rfl)
theorem dX1_canMakeByTaking_23 : decode cX1_canMakeByTaking 23 = .ok (.goto (-15), 3) := dk_167 255 241 (dk_at dksX1_canMakeByTaking_1 0 rfl rfl)
theorem dX1_canMakeByTaking_26 : decode cX1_canMakeByTaking 26 = .ok (.iload_n 3, 1) := dk_29 (dk_at dksX1_canMakeByTaking_1 3 rfl rfl)
theorem dX1_canMakeByTaking_27 : decode cX1_canMakeByTaking 27 = .ok (.ireturn, 1) := dk_172 (dk_at dksX1_canMakeByTaking_1 4 rfl rfl)
abbrev cX1_isEnoughFor : ByteArray := prog_1_method_64_code
def yX1_isEnoughFor : MethodName := ⟨RX1, "isEnoughFor", "(LCuttingRoom$Style;II)Z"⟩
def dkwX1_isEnoughFor_4 : List UInt8 := [162, 0, 5, 3, 172, 132, 4, 1, 167, 255, 157, 4, 172]
abbrev dktX1_isEnoughFor_4 : List UInt8 := dkwX1_isEnoughFor_4 ++ []
def dkwX1_isEnoughFor_3 : List UInt8 := [180, 1, 81, 153, 0, 25, 25, 7, 180, 1, 124, 29, 42, 25, 7, 4, 182, 1, 120, 104, 96, 21, 6]
abbrev dktX1_isEnoughFor_3 : List UInt8 := dkwX1_isEnoughFor_3 ++ dktX1_isEnoughFor_4
def dkwX1_isEnoughFor_2 : List UInt8 := [58, 7, 25, 7, 180, 1, 117, 29, 42, 25, 7, 3, 182, 1, 120, 104, 96, 21, 6, 161, 0, 31, 25, 7]
abbrev dktX1_isEnoughFor_2 : List UInt8 := dkwX1_isEnoughFor_2 ++ dktX1_isEnoughFor_3
def dkwX1_isEnoughFor_1 : List UInt8 := [185, 0, 90, 2, 0, 192, 1, 68, 58, 5, 25, 5, 180, 1, 84, 28, 104, 54, 6, 25, 5, 180, 1, 80]
abbrev dktX1_isEnoughFor_1 : List UInt8 := dkwX1_isEnoughFor_1 ++ dktX1_isEnoughFor_2
def dkwX1_isEnoughFor_0 : List UInt8 := [3, 54, 4, 21, 4, 43, 180, 0, 106, 185, 0, 77, 1, 0, 162, 0, 91, 43, 180, 0, 106, 21, 4]
abbrev dktX1_isEnoughFor_0 : List UInt8 := dkwX1_isEnoughFor_0 ++ dktX1_isEnoughFor_1
theorem dksX1_isEnoughFor_0 : cX1_isEnoughFor.data.toList.drop 0 = dktX1_isEnoughFor_0 := by decide +kernel
theorem dksX1_isEnoughFor_1 : cX1_isEnoughFor.data.toList.drop 23 = dktX1_isEnoughFor_1 := dk_seg dksX1_isEnoughFor_0 23 rfl rfl
theorem dksX1_isEnoughFor_2 : cX1_isEnoughFor.data.toList.drop 47 = dktX1_isEnoughFor_2 := dk_seg dksX1_isEnoughFor_1 24 rfl rfl
theorem dksX1_isEnoughFor_3 : cX1_isEnoughFor.data.toList.drop 71 = dktX1_isEnoughFor_3 := dk_seg dksX1_isEnoughFor_2 24 rfl rfl
theorem dksX1_isEnoughFor_4 : cX1_isEnoughFor.data.toList.drop 94 = dktX1_isEnoughFor_4 := dk_seg dksX1_isEnoughFor_3 23 rfl rfl
theorem dX1_isEnoughFor_0 : decode cX1_isEnoughFor 0 = .ok (.iconst 0, 1) := dk_3 (dk_at dksX1_isEnoughFor_0 0 rfl rfl)
theorem dX1_isEnoughFor_1 : decode cX1_isEnoughFor 1 = .ok (.istore 4, 2) := dk_54 4 (dk_at dksX1_isEnoughFor_0 1 rfl rfl)
theorem dX1_isEnoughFor_3 : decode cX1_isEnoughFor 3 = .ok (.iload 4, 2) := dk_21 4 (dk_at dksX1_isEnoughFor_0 3 rfl rfl)
theorem dX1_isEnoughFor_5 : decode cX1_isEnoughFor 5 = .ok (.aload_n 1, 1) := dk_43 (dk_at dksX1_isEnoughFor_0 5 rfl rfl)
theorem dX1_isEnoughFor_6 : decode cX1_isEnoughFor 6 = .ok (.getfield 106, 3) := dk_180 0 106 (dk_at dksX1_isEnoughFor_0 6 rfl rfl)
theorem dX1_isEnoughFor_9 : decode cX1_isEnoughFor 9 = .ok (.invokeinterface 77 1, 5) := by decide +kernel
theorem dX1_isEnoughFor_14 : decode cX1_isEnoughFor 14 = .ok (.if_icmp .ge 91, 3) := dk_162 0 91 (dk_at dksX1_isEnoughFor_0 14 rfl rfl)
theorem dX1_isEnoughFor_17 : decode cX1_isEnoughFor 17 = .ok (.aload_n 1, 1) := dk_43 (dk_at dksX1_isEnoughFor_0 17 rfl rfl)
theorem dX1_isEnoughFor_18 : decode cX1_isEnoughFor 18 = .ok (.getfield 106, 3) := dk_180 0 106 (dk_at dksX1_isEnoughFor_0 18 rfl rfl)
theorem dX1_isEnoughFor_21 : decode cX1_isEnoughFor 21 = .ok (.iload 4, 2) := dk_21 4 (dk_at dksX1_isEnoughFor_0 21 rfl rfl)
theorem dX1_isEnoughFor_23 : decode cX1_isEnoughFor 23 = .ok (.invokeinterface 90 2, 5) := by decide +kernel
theorem dX1_isEnoughFor_28 : decode cX1_isEnoughFor 28 = .ok (.checkcast 324, 3) := dk_192 1 68 (dk_at dksX1_isEnoughFor_1 5 rfl rfl)
theorem dX1_isEnoughFor_31 : decode cX1_isEnoughFor 31 = .ok (.astore 5, 2) := dk_58 5 (dk_at dksX1_isEnoughFor_1 8 rfl rfl)
theorem dX1_isEnoughFor_33 : decode cX1_isEnoughFor 33 = .ok (.aload 5, 2) := dk_25 5 (dk_at dksX1_isEnoughFor_1 10 rfl rfl)
theorem dX1_isEnoughFor_35 : decode cX1_isEnoughFor 35 = .ok (.getfield 340, 3) := dk_180 1 84 (dk_at dksX1_isEnoughFor_1 12 rfl rfl)
theorem dX1_isEnoughFor_38 : decode cX1_isEnoughFor 38 = .ok (.iload_n 2, 1) := dk_28 (dk_at dksX1_isEnoughFor_1 15 rfl rfl)
theorem dX1_isEnoughFor_39 : decode cX1_isEnoughFor 39 = .ok (.imul, 1) := dk_104 (dk_at dksX1_isEnoughFor_1 16 rfl rfl)
theorem dX1_isEnoughFor_40 : decode cX1_isEnoughFor 40 = .ok (.istore 6, 2) := dk_54 6 (dk_at dksX1_isEnoughFor_1 17 rfl rfl)
theorem dX1_isEnoughFor_42 : decode cX1_isEnoughFor 42 = .ok (.aload 5, 2) := dk_25 5 (dk_at dksX1_isEnoughFor_1 19 rfl rfl)
theorem dX1_isEnoughFor_44 : decode cX1_isEnoughFor 44 = .ok (.getfield 336, 3) := dk_180 1 80 (dk_at dksX1_isEnoughFor_1 21 rfl rfl)
theorem dX1_isEnoughFor_47 : decode cX1_isEnoughFor 47 = .ok (.astore 7, 2) := dk_58 7 (dk_at dksX1_isEnoughFor_2 0 rfl rfl)
theorem dX1_isEnoughFor_49 : decode cX1_isEnoughFor 49 = .ok (.aload 7, 2) := dk_25 7 (dk_at dksX1_isEnoughFor_2 2 rfl rfl)
theorem dX1_isEnoughFor_51 : decode cX1_isEnoughFor 51 = .ok (.getfield 373, 3) := dk_180 1 117 (dk_at dksX1_isEnoughFor_2 4 rfl rfl)
theorem dX1_isEnoughFor_54 : decode cX1_isEnoughFor 54 = .ok (.iload_n 3, 1) := dk_29 (dk_at dksX1_isEnoughFor_2 7 rfl rfl)
theorem dX1_isEnoughFor_55 : decode cX1_isEnoughFor 55 = .ok (.aload_n 0, 1) := dk_42 (dk_at dksX1_isEnoughFor_2 8 rfl rfl)
theorem dX1_isEnoughFor_56 : decode cX1_isEnoughFor 56 = .ok (.aload 7, 2) := dk_25 7 (dk_at dksX1_isEnoughFor_2 9 rfl rfl)
theorem dX1_isEnoughFor_58 : decode cX1_isEnoughFor 58 = .ok (.iconst 0, 1) := dk_3 (dk_at dksX1_isEnoughFor_2 11 rfl rfl)
theorem dX1_isEnoughFor_59 : decode cX1_isEnoughFor 59 = .ok (.invokevirtual 376, 3) := dk_182 1 120 (dk_at dksX1_isEnoughFor_2 12 rfl rfl)
theorem dX1_isEnoughFor_62 : decode cX1_isEnoughFor 62 = .ok (.imul, 1) := dk_104 (dk_at dksX1_isEnoughFor_2 15 rfl rfl)
theorem dX1_isEnoughFor_63 : decode cX1_isEnoughFor 63 = .ok (.iadd, 1) := dk_96 (dk_at dksX1_isEnoughFor_2 16 rfl rfl)
theorem dX1_isEnoughFor_64 : decode cX1_isEnoughFor 64 = .ok (.iload 6, 2) := dk_21 6 (dk_at dksX1_isEnoughFor_2 17 rfl rfl)
theorem dX1_isEnoughFor_66 : decode cX1_isEnoughFor 66 = .ok (.if_icmp .lt 31, 3) := dk_161 0 31 (dk_at dksX1_isEnoughFor_2 19 rfl rfl)
theorem dX1_isEnoughFor_69 : decode cX1_isEnoughFor 69 = .ok (.aload 7, 2) := dk_25 7 (dk_at dksX1_isEnoughFor_2 22 rfl rfl)
theorem dX1_isEnoughFor_71 : decode cX1_isEnoughFor 71 = .ok (.getfield 337, 3) := dk_180 1 81 (dk_at dksX1_isEnoughFor_3 0 rfl rfl)
theorem dX1_isEnoughFor_74 : decode cX1_isEnoughFor 74 = .ok (.ifCond .eq 25, 3) := dk_153 0 25 (dk_at dksX1_isEnoughFor_3 3 rfl rfl)
theorem dX1_isEnoughFor_77 : decode cX1_isEnoughFor 77 = .ok (.aload 7, 2) := dk_25 7 (dk_at dksX1_isEnoughFor_3 6 rfl rfl)
theorem dX1_isEnoughFor_79 : decode cX1_isEnoughFor 79 = .ok (.getfield 380, 3) := dk_180 1 124 (dk_at dksX1_isEnoughFor_3 8 rfl rfl)
theorem dX1_isEnoughFor_82 : decode cX1_isEnoughFor 82 = .ok (.iload_n 3, 1) := dk_29 (dk_at dksX1_isEnoughFor_3 11 rfl rfl)
theorem dX1_isEnoughFor_83 : decode cX1_isEnoughFor 83 = .ok (.aload_n 0, 1) := dk_42 (dk_at dksX1_isEnoughFor_3 12 rfl rfl)
theorem dX1_isEnoughFor_84 : decode cX1_isEnoughFor 84 = .ok (.aload 7, 2) := dk_25 7 (dk_at dksX1_isEnoughFor_3 13 rfl rfl)
theorem dX1_isEnoughFor_86 : decode cX1_isEnoughFor 86 = .ok (.iconst 1, 1) := dk_4 (dk_at dksX1_isEnoughFor_3 15 rfl rfl)
theorem dX1_isEnoughFor_87 : decode cX1_isEnoughFor 87 = .ok (.invokevirtual 376, 3) := dk_182 1 120 (dk_at dksX1_isEnoughFor_3 16 rfl rfl)
theorem dX1_isEnoughFor_90 : decode cX1_isEnoughFor 90 = .ok (.imul, 1) := dk_104 (dk_at dksX1_isEnoughFor_3 19 rfl rfl)
theorem dX1_isEnoughFor_91 : decode cX1_isEnoughFor 91 = .ok (.iadd, 1) := dk_96 (dk_at dksX1_isEnoughFor_3 20 rfl rfl)
theorem dX1_isEnoughFor_92 : decode cX1_isEnoughFor 92 = .ok (.iload 6, 2) := dk_21 6 (dk_at dksX1_isEnoughFor_3 21 rfl rfl)
theorem dX1_isEnoughFor_94 : decode cX1_isEnoughFor 94 = .ok (.if_icmp .ge 5, 3) := dk_162 0 5 (dk_at dksX1_isEnoughFor_4 0 rfl rfl)
theorem dX1_isEnoughFor_97 : decode cX1_isEnoughFor 97 = .ok (.iconst 0, 1) := dk_3 (dk_at dksX1_isEnoughFor_4 3 rfl rfl)
theorem dX1_isEnoughFor_98 : decode cX1_isEnoughFor 98 = .ok (.ireturn, 1) := dk_172 (dk_at dksX1_isEnoughFor_4 4 rfl rfl)
theorem dX1_isEnoughFor_99 : decode cX1_isEnoughFor 99 = .ok (.iinc 4 1, 3) := dk_132 4 1 (dk_at dksX1_isEnoughFor_4 5 rfl rfl)
theorem dX1_isEnoughFor_102 : decode cX1_isEnoughFor 102 = .ok (.goto (-99), 3) := dk_167 255 157 (dk_at dksX1_isEnoughFor_4 8 rfl rfl)
theorem dX1_isEnoughFor_105 : decode cX1_isEnoughFor 105 = .ok (.iconst 1, 1) := dk_4 (dk_at dksX1_isEnoughFor_4 11 rfl rfl)
theorem dX1_isEnoughFor_106 : decode cX1_isEnoughFor 106 = .ok (.ireturn, 1) := dk_172 (dk_at dksX1_isEnoughFor_4 12 rfl rfl)
abbrev cX1_make : ByteArray := prog_1_method_65_code
def yX1_make : MethodName := ⟨RX1, "make", "(II)I"⟩
def dkwX1_make_2 : List UInt8 := [184, 0, 152, 45, 28, 182, 1, 144, 45, 89, 180, 1, 65, 28, 96, 181, 1, 65, 45, 180, 1, 65, 172]
abbrev dktX1_make_2 : List UInt8 := dkwX1_make_2 ++ []
def dkwX1_make_1 : List UInt8 := [185, 0, 109, 1, 0, 154, 0, 7, 4, 167, 0, 4, 3, 184, 0, 113, 42, 45, 28, 3, 182, 1, 140]
abbrev dktX1_make_1 : List UInt8 := dkwX1_make_1 ++ dktX1_make_2
def dkwX1_make_0 : List UInt8 := [42, 27, 182, 0, 102, 78, 28, 4, 16, 99, 184, 0, 83, 184, 0, 141, 45, 180, 0, 106]
abbrev dktX1_make_0 : List UInt8 := dkwX1_make_0 ++ dktX1_make_1
theorem dksX1_make_0 : cX1_make.data.toList.drop 0 = dktX1_make_0 := by decide +kernel
theorem dksX1_make_1 : cX1_make.data.toList.drop 20 = dktX1_make_1 := dk_seg dksX1_make_0 20 rfl rfl
theorem dksX1_make_2 : cX1_make.data.toList.drop 43 = dktX1_make_2 := dk_seg dksX1_make_1 23 rfl rfl
theorem dX1_make_0 : decode cX1_make 0 = .ok (.aload_n 0, 1) := dk_42 (dk_at dksX1_make_0 0 rfl rfl)
theorem dX1_make_1 : decode cX1_make 1 = .ok (.iload_n 1, 1) := dk_27 (dk_at dksX1_make_0 1 rfl rfl)
theorem dX1_make_2 : decode cX1_make 2 = .ok (.invokevirtual 102, 3) := dk_182 0 102 (dk_at dksX1_make_0 2 rfl rfl)
theorem dX1_make_5 : decode cX1_make 5 = .ok (.astore_n 3, 1) := dk_78 (dk_at dksX1_make_0 5 rfl rfl)
theorem dX1_make_6 : decode cX1_make 6 = .ok (.iload_n 2, 1) := dk_28 (dk_at dksX1_make_0 6 rfl rfl)
theorem dX1_make_7 : decode cX1_make 7 = .ok (.iconst 1, 1) := dk_4 (dk_at dksX1_make_0 7 rfl rfl)
theorem dX1_make_8 : decode cX1_make 8 = .ok (.bipush 99, 2) := dk_16 99 (dk_at dksX1_make_0 8 rfl rfl)
theorem dX1_make_10 : decode cX1_make 10 = .ok (.invokestatic 83, 3) := dk_184 0 83 (dk_at dksX1_make_0 10 rfl rfl)
theorem dX1_make_13 : decode cX1_make 13 = .ok (.invokestatic 141, 3) := dk_184 0 141 (dk_at dksX1_make_0 13 rfl rfl)
theorem dX1_make_16 : decode cX1_make 16 = .ok (.aload_n 3, 1) := dk_45 (dk_at dksX1_make_0 16 rfl rfl)
theorem dX1_make_17 : decode cX1_make 17 = .ok (.getfield 106, 3) := dk_180 0 106 (dk_at dksX1_make_0 17 rfl rfl)
theorem dX1_make_20 : decode cX1_make 20 = .ok (.invokeinterface 109 1, 5) := by decide +kernel
theorem dX1_make_25 : decode cX1_make 25 = .ok (.ifCond .ne 7, 3) := dk_154 0 7 (dk_at dksX1_make_1 5 rfl rfl)
theorem dX1_make_28 : decode cX1_make 28 = .ok (.iconst 1, 1) := dk_4 (dk_at dksX1_make_1 8 rfl rfl)
theorem dX1_make_29 : decode cX1_make 29 = .ok (.goto 4, 3) := dk_167 0 4 (dk_at dksX1_make_1 9 rfl rfl)
theorem dX1_make_32 : decode cX1_make 32 = .ok (.iconst 0, 1) := dk_3 (dk_at dksX1_make_1 12 rfl rfl)
theorem dX1_make_33 : decode cX1_make 33 = .ok (.invokestatic 113, 3) := dk_184 0 113 (dk_at dksX1_make_1 13 rfl rfl)
theorem dX1_make_36 : decode cX1_make 36 = .ok (.aload_n 0, 1) := dk_42 (dk_at dksX1_make_1 16 rfl rfl)
theorem dX1_make_37 : decode cX1_make 37 = .ok (.aload_n 3, 1) := dk_45 (dk_at dksX1_make_1 17 rfl rfl)
theorem dX1_make_38 : decode cX1_make 38 = .ok (.iload_n 2, 1) := dk_28 (dk_at dksX1_make_1 18 rfl rfl)
theorem dX1_make_39 : decode cX1_make 39 = .ok (.iconst 0, 1) := dk_3 (dk_at dksX1_make_1 19 rfl rfl)
theorem dX1_make_40 : decode cX1_make 40 = .ok (.invokevirtual 396, 3) := dk_182 1 140 (dk_at dksX1_make_1 20 rfl rfl)
theorem dX1_make_43 : decode cX1_make 43 = .ok (.invokestatic 152, 3) := dk_184 0 152 (dk_at dksX1_make_2 0 rfl rfl)
theorem dX1_make_46 : decode cX1_make 46 = .ok (.aload_n 3, 1) := dk_45 (dk_at dksX1_make_2 3 rfl rfl)
theorem dX1_make_47 : decode cX1_make 47 = .ok (.iload_n 2, 1) := dk_28 (dk_at dksX1_make_2 4 rfl rfl)
theorem dX1_make_48 : decode cX1_make 48 = .ok (.invokevirtual 400, 3) := dk_182 1 144 (dk_at dksX1_make_2 5 rfl rfl)
theorem dX1_make_51 : decode cX1_make 51 = .ok (.aload_n 3, 1) := dk_45 (dk_at dksX1_make_2 8 rfl rfl)
theorem dX1_make_52 : decode cX1_make 52 = .ok (.dup, 1) := dk_89 (dk_at dksX1_make_2 9 rfl rfl)
theorem dX1_make_53 : decode cX1_make 53 = .ok (.getfield 321, 3) := dk_180 1 65 (dk_at dksX1_make_2 10 rfl rfl)
theorem dX1_make_56 : decode cX1_make 56 = .ok (.iload_n 2, 1) := dk_28 (dk_at dksX1_make_2 13 rfl rfl)
theorem dX1_make_57 : decode cX1_make 57 = .ok (.iadd, 1) := dk_96 (dk_at dksX1_make_2 14 rfl rfl)
theorem dX1_make_58 : decode cX1_make 58 = .ok (.putfield 321, 3) := dk_181 1 65 (dk_at dksX1_make_2 15 rfl rfl)
theorem dX1_make_61 : decode cX1_make 61 = .ok (.aload_n 3, 1) := dk_45 (dk_at dksX1_make_2 18 rfl rfl)
theorem dX1_make_62 : decode cX1_make 62 = .ok (.getfield 321, 3) := dk_180 1 65 (dk_at dksX1_make_2 19 rfl rfl)
theorem dX1_make_65 : decode cX1_make 65 = .ok (.ireturn, 1) := dk_172 (dk_at dksX1_make_2 22 rfl rfl)
abbrev cX1_made : ByteArray := prog_1_method_66_code
def yX1_made : MethodName := ⟨RX1, "made", "(I)I"⟩
def dkwX1_made_0 : List UInt8 := [42, 27, 182, 0, 102, 180, 1, 65, 172]
abbrev dktX1_made_0 : List UInt8 := dkwX1_made_0 ++ []
theorem dksX1_made_0 : cX1_made.data.toList.drop 0 = dktX1_made_0 := by decide +kernel
theorem dX1_made_0 : decode cX1_made 0 = .ok (.aload_n 0, 1) := dk_42 (dk_at dksX1_made_0 0 rfl rfl)
theorem dX1_made_1 : decode cX1_made 1 = .ok (.iload_n 1, 1) := dk_27 (dk_at dksX1_made_0 1 rfl rfl)
theorem dX1_made_2 : decode cX1_made 2 = .ok (.invokevirtual 102, 3) := dk_182 0 102 (dk_at dksX1_made_0 2 rfl rfl)
theorem dX1_made_5 : decode cX1_made 5 = .ok (.getfield 321, 3) := dk_180 1 65 (dk_at dksX1_made_0 5 rfl rfl)
theorem dX1_made_8 : decode cX1_made 8 = .ok (.ireturn, 1) := dk_172 (dk_at dksX1_made_0 8 rfl rfl)
abbrev cX1_pliesFor : ByteArray := prog_1_method_67_code
def yX1_pliesFor : MethodName := ⟨RX1, "pliesFor", "(II)I"⟩
def dkwX1_pliesFor_3 : List UInt8 := [104, 163, 0, 7, 4, 167, 0, 4, 3, 184, 0, 152, 21, 4, 172]
abbrev dktX1_pliesFor_3 : List UInt8 := dkwX1_pliesFor_3 ++ []
def dkwX1_pliesFor_2 : List UInt8 := [163, 0, 20, 42, 45, 28, 21, 4, 182, 1, 140, 154, 0, 9, 132, 4, 1, 167, 255, 234, 21, 4, 7, 28]
abbrev dktX1_pliesFor_2 : List UInt8 := dkwX1_pliesFor_2 ++ dktX1_pliesFor_3
def dkwX1_pliesFor_1 : List UInt8 := [185, 0, 109, 1, 0, 154, 0, 7, 4, 167, 0, 4, 3, 184, 0, 113, 3, 54, 4, 21, 4, 7, 28, 104]
abbrev dktX1_pliesFor_1 : List UInt8 := dkwX1_pliesFor_1 ++ dktX1_pliesFor_2
def dkwX1_pliesFor_0 : List UInt8 := [42, 27, 182, 0, 102, 78, 28, 4, 16, 99, 184, 0, 83, 184, 0, 141, 45, 180, 0, 106]
abbrev dktX1_pliesFor_0 : List UInt8 := dkwX1_pliesFor_0 ++ dktX1_pliesFor_1
theorem dksX1_pliesFor_0 : cX1_pliesFor.data.toList.drop 0 = dktX1_pliesFor_0 := by decide +kernel
theorem dksX1_pliesFor_1 : cX1_pliesFor.data.toList.drop 20 = dktX1_pliesFor_1 := dk_seg dksX1_pliesFor_0 20 rfl rfl
theorem dksX1_pliesFor_2 : cX1_pliesFor.data.toList.drop 44 = dktX1_pliesFor_2 := dk_seg dksX1_pliesFor_1 24 rfl rfl
theorem dksX1_pliesFor_3 : cX1_pliesFor.data.toList.drop 68 = dktX1_pliesFor_3 := dk_seg dksX1_pliesFor_2 24 rfl rfl
theorem dX1_pliesFor_0 : decode cX1_pliesFor 0 = .ok (.aload_n 0, 1) := dk_42 (dk_at dksX1_pliesFor_0 0 rfl rfl)
theorem dX1_pliesFor_1 : decode cX1_pliesFor 1 = .ok (.iload_n 1, 1) := dk_27 (dk_at dksX1_pliesFor_0 1 rfl rfl)
theorem dX1_pliesFor_2 : decode cX1_pliesFor 2 = .ok (.invokevirtual 102, 3) := dk_182 0 102 (dk_at dksX1_pliesFor_0 2 rfl rfl)
theorem dX1_pliesFor_5 : decode cX1_pliesFor 5 = .ok (.astore_n 3, 1) := dk_78 (dk_at dksX1_pliesFor_0 5 rfl rfl)
theorem dX1_pliesFor_6 : decode cX1_pliesFor 6 = .ok (.iload_n 2, 1) := dk_28 (dk_at dksX1_pliesFor_0 6 rfl rfl)
theorem dX1_pliesFor_7 : decode cX1_pliesFor 7 = .ok (.iconst 1, 1) := dk_4 (dk_at dksX1_pliesFor_0 7 rfl rfl)
theorem dX1_pliesFor_8 : decode cX1_pliesFor 8 = .ok (.bipush 99, 2) := dk_16 99 (dk_at dksX1_pliesFor_0 8 rfl rfl)
theorem dX1_pliesFor_10 : decode cX1_pliesFor 10 = .ok (.invokestatic 83, 3) := dk_184 0 83 (dk_at dksX1_pliesFor_0 10 rfl rfl)
theorem dX1_pliesFor_13 : decode cX1_pliesFor 13 = .ok (.invokestatic 141, 3) := dk_184 0 141 (dk_at dksX1_pliesFor_0 13 rfl rfl)
theorem dX1_pliesFor_16 : decode cX1_pliesFor 16 = .ok (.aload_n 3, 1) := dk_45 (dk_at dksX1_pliesFor_0 16 rfl rfl)
theorem dX1_pliesFor_17 : decode cX1_pliesFor 17 = .ok (.getfield 106, 3) := dk_180 0 106 (dk_at dksX1_pliesFor_0 17 rfl rfl)
theorem dX1_pliesFor_20 : decode cX1_pliesFor 20 = .ok (.invokeinterface 109 1, 5) := by decide +kernel
theorem dX1_pliesFor_25 : decode cX1_pliesFor 25 = .ok (.ifCond .ne 7, 3) := dk_154 0 7 (dk_at dksX1_pliesFor_1 5 rfl rfl)
theorem dX1_pliesFor_28 : decode cX1_pliesFor 28 = .ok (.iconst 1, 1) := dk_4 (dk_at dksX1_pliesFor_1 8 rfl rfl)
theorem dX1_pliesFor_29 : decode cX1_pliesFor 29 = .ok (.goto 4, 3) := dk_167 0 4 (dk_at dksX1_pliesFor_1 9 rfl rfl)
theorem dX1_pliesFor_32 : decode cX1_pliesFor 32 = .ok (.iconst 0, 1) := dk_3 (dk_at dksX1_pliesFor_1 12 rfl rfl)
theorem dX1_pliesFor_33 : decode cX1_pliesFor 33 = .ok (.invokestatic 113, 3) := dk_184 0 113 (dk_at dksX1_pliesFor_1 13 rfl rfl)
theorem dX1_pliesFor_36 : decode cX1_pliesFor 36 = .ok (.iconst 0, 1) := dk_3 (dk_at dksX1_pliesFor_1 16 rfl rfl)
theorem dX1_pliesFor_37 : decode cX1_pliesFor 37 = .ok (.istore 4, 2) := dk_54 4 (dk_at dksX1_pliesFor_1 17 rfl rfl)
theorem dX1_pliesFor_39 : decode cX1_pliesFor 39 = .ok (.iload 4, 2) := dk_21 4 (dk_at dksX1_pliesFor_1 19 rfl rfl)
theorem dX1_pliesFor_41 : decode cX1_pliesFor 41 = .ok (.iconst 4, 1) := dk_7 (dk_at dksX1_pliesFor_1 21 rfl rfl)
theorem dX1_pliesFor_42 : decode cX1_pliesFor 42 = .ok (.iload_n 2, 1) := dk_28 (dk_at dksX1_pliesFor_1 22 rfl rfl)
theorem dX1_pliesFor_43 : decode cX1_pliesFor 43 = .ok (.imul, 1) := dk_104 (dk_at dksX1_pliesFor_1 23 rfl rfl)
theorem dX1_pliesFor_44 : decode cX1_pliesFor 44 = .ok (.if_icmp .gt 20, 3) := dk_163 0 20 (dk_at dksX1_pliesFor_2 0 rfl rfl)
theorem dX1_pliesFor_47 : decode cX1_pliesFor 47 = .ok (.aload_n 0, 1) := dk_42 (dk_at dksX1_pliesFor_2 3 rfl rfl)
theorem dX1_pliesFor_48 : decode cX1_pliesFor 48 = .ok (.aload_n 3, 1) := dk_45 (dk_at dksX1_pliesFor_2 4 rfl rfl)
theorem dX1_pliesFor_49 : decode cX1_pliesFor 49 = .ok (.iload_n 2, 1) := dk_28 (dk_at dksX1_pliesFor_2 5 rfl rfl)
theorem dX1_pliesFor_50 : decode cX1_pliesFor 50 = .ok (.iload 4, 2) := dk_21 4 (dk_at dksX1_pliesFor_2 6 rfl rfl)
theorem dX1_pliesFor_52 : decode cX1_pliesFor 52 = .ok (.invokevirtual 396, 3) := dk_182 1 140 (dk_at dksX1_pliesFor_2 8 rfl rfl)
theorem dX1_pliesFor_55 : decode cX1_pliesFor 55 = .ok (.ifCond .ne 9, 3) := dk_154 0 9 (dk_at dksX1_pliesFor_2 11 rfl rfl)
theorem dX1_pliesFor_58 : decode cX1_pliesFor 58 = .ok (.iinc 4 1, 3) := dk_132 4 1 (dk_at dksX1_pliesFor_2 14 rfl rfl)
theorem dX1_pliesFor_61 : decode cX1_pliesFor 61 = .ok (.goto (-22), 3) := dk_167 255 234 (dk_at dksX1_pliesFor_2 17 rfl rfl)
theorem dX1_pliesFor_64 : decode cX1_pliesFor 64 = .ok (.iload 4, 2) := dk_21 4 (dk_at dksX1_pliesFor_2 20 rfl rfl)
theorem dX1_pliesFor_66 : decode cX1_pliesFor 66 = .ok (.iconst 4, 1) := dk_7 (dk_at dksX1_pliesFor_2 22 rfl rfl)
theorem dX1_pliesFor_67 : decode cX1_pliesFor 67 = .ok (.iload_n 2, 1) := dk_28 (dk_at dksX1_pliesFor_2 23 rfl rfl)
theorem dX1_pliesFor_68 : decode cX1_pliesFor 68 = .ok (.imul, 1) := dk_104 (dk_at dksX1_pliesFor_3 0 rfl rfl)
theorem dX1_pliesFor_69 : decode cX1_pliesFor 69 = .ok (.if_icmp .gt 7, 3) := dk_163 0 7 (dk_at dksX1_pliesFor_3 1 rfl rfl)
theorem dX1_pliesFor_72 : decode cX1_pliesFor 72 = .ok (.iconst 1, 1) := dk_4 (dk_at dksX1_pliesFor_3 4 rfl rfl)
theorem dX1_pliesFor_73 : decode cX1_pliesFor 73 = .ok (.goto 4, 3) := dk_167 0 4 (dk_at dksX1_pliesFor_3 5 rfl rfl)
theorem dX1_pliesFor_76 : decode cX1_pliesFor 76 = .ok (.iconst 0, 1) := dk_3 (dk_at dksX1_pliesFor_3 8 rfl rfl)
theorem dX1_pliesFor_77 : decode cX1_pliesFor 77 = .ok (.invokestatic 152, 3) := dk_184 0 152 (dk_at dksX1_pliesFor_3 9 rfl rfl)
theorem dX1_pliesFor_80 : decode cX1_pliesFor 80 = .ok (.iload 4, 2) := dk_21 4 (dk_at dksX1_pliesFor_3 12 rfl rfl)
theorem dX1_pliesFor_82 : decode cX1_pliesFor 82 = .ok (.ireturn, 1) := dk_172 (dk_at dksX1_pliesFor_3 14 rfl rfl)
abbrev cX1_density : ByteArray := prog_1_method_70_code
def yX1_density : MethodName := ⟨RX1, "density", "()F"⟩
def dkwX1_density_0 : List UInt8 := [42, 182, 1, 150, 42, 182, 1, 54, 134, 42, 180, 0, 39, 180, 1, 41, 42, 182, 0, 243, 104, 134, 110, 174]
abbrev dktX1_density_0 : List UInt8 := dkwX1_density_0 ++ []
theorem dksX1_density_0 : cX1_density.data.toList.drop 0 = dktX1_density_0 := by decide +kernel
theorem dX1_density_0 : decode cX1_density 0 = .ok (.aload_n 0, 1) := dk_42 (dk_at dksX1_density_0 0 rfl rfl)
theorem dX1_density_1 : decode cX1_density 1 = .ok (.invokevirtual 406, 3) := dk_182 1 150 (dk_at dksX1_density_0 1 rfl rfl)
theorem dX1_density_4 : decode cX1_density 4 = .ok (.aload_n 0, 1) := dk_42 (dk_at dksX1_density_0 4 rfl rfl)
theorem dX1_density_5 : decode cX1_density 5 = .ok (.invokevirtual 310, 3) := dk_182 1 54 (dk_at dksX1_density_0 5 rfl rfl)
theorem dX1_density_8 : decode cX1_density 8 = .ok (.i2f, 1) := dk_134 (dk_at dksX1_density_0 8 rfl rfl)
theorem dX1_density_9 : decode cX1_density 9 = .ok (.aload_n 0, 1) := dk_42 (dk_at dksX1_density_0 9 rfl rfl)
theorem dX1_density_10 : decode cX1_density 10 = .ok (.getfield 39, 3) := dk_180 0 39 (dk_at dksX1_density_0 10 rfl rfl)
theorem dX1_density_13 : decode cX1_density 13 = .ok (.getfield 297, 3) := dk_180 1 41 (dk_at dksX1_density_0 13 rfl rfl)
theorem dX1_density_16 : decode cX1_density 16 = .ok (.aload_n 0, 1) := dk_42 (dk_at dksX1_density_0 16 rfl rfl)
theorem dX1_density_17 : decode cX1_density 17 = .ok (.invokevirtual 243, 3) := dk_182 0 243 (dk_at dksX1_density_0 17 rfl rfl)
theorem dX1_density_20 : decode cX1_density 20 = .ok (.imul, 1) := dk_104 (dk_at dksX1_density_0 20 rfl rfl)
theorem dX1_density_21 : decode cX1_density 21 = .ok (.i2f, 1) := dk_134 (dk_at dksX1_density_0 21 rfl rfl)
theorem dX1_density_22 : decode cX1_density 22 = .ok (.fdiv, 1) := dk_110 (dk_at dksX1_density_0 22 rfl rfl)
theorem dX1_density_23 : decode cX1_density 23 = .ok (.freturn, 1) := dk_174 (dk_at dksX1_density_0 23 rfl rfl)
abbrev cX1_checkMarker : ByteArray := prog_1_method_69_code
def yX1_checkMarker : MethodName := ⟨RX1, "checkMarker", "()V"⟩
def dkwX1_checkMarker_0 : List UInt8 := [42, 180, 0, 19, 185, 0, 109, 1, 0, 153, 0, 11, 187, 1, 147, 89, 183, 1, 149, 191, 177]
abbrev dktX1_checkMarker_0 : List UInt8 := dkwX1_checkMarker_0 ++ []
theorem dksX1_checkMarker_0 : cX1_checkMarker.data.toList.drop 0 = dktX1_checkMarker_0 := by decide +kernel
theorem dX1_checkMarker_0 : decode cX1_checkMarker 0 = .ok (.aload_n 0, 1) := dk_42 (dk_at dksX1_checkMarker_0 0 rfl rfl)
theorem dX1_checkMarker_1 : decode cX1_checkMarker 1 = .ok (.getfield 19, 3) := dk_180 0 19 (dk_at dksX1_checkMarker_0 1 rfl rfl)
theorem dX1_checkMarker_4 : decode cX1_checkMarker 4 = .ok (.invokeinterface 109 1, 5) := by decide +kernel
theorem dX1_checkMarker_9 : decode cX1_checkMarker 9 = .ok (.ifCond .eq 11, 3) := dk_153 0 11 (dk_at dksX1_checkMarker_0 9 rfl rfl)
theorem dX1_checkMarker_12 : decode cX1_checkMarker 12 = .ok (.new 403, 3) := dk_187 1 147 (dk_at dksX1_checkMarker_0 12 rfl rfl)
theorem dX1_checkMarker_15 : decode cX1_checkMarker 15 = .ok (.dup, 1) := dk_89 (dk_at dksX1_checkMarker_0 15 rfl rfl)
theorem dX1_checkMarker_16 : decode cX1_checkMarker 16 = .ok (.invokespecial 405, 3) := dk_183 1 149 (dk_at dksX1_checkMarker_0 16 rfl rfl)
theorem dX1_checkMarker_19 : decode cX1_checkMarker 19 = .ok (.athrow, 1) := dk_191 (dk_at dksX1_checkMarker_0 19 rfl rfl)
theorem dX1_checkMarker_20 : decode cX1_checkMarker 20 = .ok (.return_, 1) := dk_177 (dk_at dksX1_checkMarker_0 20 rfl rfl)
abbrev cX1_meanCells : ByteArray := prog_1_method_71_code
def yX1_meanCells : MethodName := ⟨RX1, "meanCells", "()D"⟩
def dkwX1_meanCells_0 : List UInt8 := [42, 182, 1, 150, 42, 182, 1, 54, 135, 42, 180, 0, 19, 185, 0, 77, 1, 0, 135, 111, 175]
abbrev dktX1_meanCells_0 : List UInt8 := dkwX1_meanCells_0 ++ []
theorem dksX1_meanCells_0 : cX1_meanCells.data.toList.drop 0 = dktX1_meanCells_0 := by decide +kernel
theorem dX1_meanCells_0 : decode cX1_meanCells 0 = .ok (.aload_n 0, 1) := dk_42 (dk_at dksX1_meanCells_0 0 rfl rfl)
theorem dX1_meanCells_1 : decode cX1_meanCells 1 = .ok (.invokevirtual 406, 3) := dk_182 1 150 (dk_at dksX1_meanCells_0 1 rfl rfl)
theorem dX1_meanCells_4 : decode cX1_meanCells 4 = .ok (.aload_n 0, 1) := dk_42 (dk_at dksX1_meanCells_0 4 rfl rfl)
theorem dX1_meanCells_5 : decode cX1_meanCells 5 = .ok (.invokevirtual 310, 3) := dk_182 1 54 (dk_at dksX1_meanCells_0 5 rfl rfl)
theorem dX1_meanCells_8 : decode cX1_meanCells 8 = .ok (.i2d, 1) := dk_135 (dk_at dksX1_meanCells_0 8 rfl rfl)
theorem dX1_meanCells_9 : decode cX1_meanCells 9 = .ok (.aload_n 0, 1) := dk_42 (dk_at dksX1_meanCells_0 9 rfl rfl)
theorem dX1_meanCells_10 : decode cX1_meanCells 10 = .ok (.getfield 19, 3) := dk_180 0 19 (dk_at dksX1_meanCells_0 10 rfl rfl)
theorem dX1_meanCells_13 : decode cX1_meanCells 13 = .ok (.invokeinterface 77 1, 5) := by decide +kernel
theorem dX1_meanCells_18 : decode cX1_meanCells 18 = .ok (.i2d, 1) := dk_135 (dk_at dksX1_meanCells_0 18 rfl rfl)
theorem dX1_meanCells_19 : decode cX1_meanCells 19 = .ok (.ddiv, 1) := dk_111 (dk_at dksX1_meanCells_0 19 rfl rfl)
theorem dX1_meanCells_20 : decode cX1_meanCells 20 = .ok (.dreturn, 1) := dk_175 (dk_at dksX1_meanCells_0 20 rfl rfl)
theorem q66 : (Jvm.Cond.initialized "CuttingRoom") ∈ lw_all := lw_g (lw_at lw_m1 1 rfl) rfl
theorem q101 : (Jvm.Cond.instantiable "CuttingRoom" (16 : Nat)) ∈ lw_all := lw_g (lw_at lw_m1 36 rfl) rfl
theorem q103 : (Jvm.Cond.instanceMethod ({ cls := "CuttingRoom", name := "<init>", desc := "()V" } : Jvm.MethodName)) ∈ lw_all := lw_g (lw_at lw_m1 38 rfl) rfl
theorem q104 : (Jvm.Cond.code ({ cls := "CuttingRoom", name := "<init>", desc := "()V" } : Jvm.MethodName) prog_1_method_1_code (1 : Nat) (Option.none : Option Jvm.ClassFile.FieldType)) ∈ lw_all := lw_g (lw_at lw_m1 39 rfl) rfl
theorem q105 : (Jvm.Cond.methodLink "CuttingRoom" (3 : Nat) ({ cls := "java/lang/Object", name := "<init>", desc := "()V" } : Jvm.MethodName)) ∈ lw_all := lw_g (lw_at lw_m1 40 rfl) rfl
theorem q108 : (Jvm.Cond.classLink "CuttingRoom" (9 : Nat) "java/util/ArrayList") ∈ lw_all := lw_g (lw_at lw_m1 43 rfl) rfl
theorem q110 : (Jvm.Cond.methodLink "CuttingRoom" (11 : Nat) ({ cls := "java/util/ArrayList", name := "<init>", desc := "()V" } : Jvm.MethodName)) ∈ lw_all := lw_g (lw_at lw_m1 45 rfl) rfl
theorem q134 : (Jvm.Cond.classLink "CuttingRoom" (22 : Nat) "[[Z") ∈ lw_all := lw_g (lw_at lw_m1 69 rfl) rfl
theorem q136 : (Jvm.Cond.classLink "CuttingRoom" (27 : Nat) "CuttingRoom$Spot") ∈ lw_all := lw_g (lw_at lw_m1 71 rfl) rfl
theorem q138 : (Jvm.Cond.methodLinkNest "CuttingRoom" (29 : Nat) ({ cls := "CuttingRoom$Spot", name := "<init>", desc := "()V" } : Jvm.MethodName) "CuttingRoom") ∈ lw_tbl := lw_at lw_m1 73 rfl
theorem q145 : (Jvm.Cond.fieldLinkNest "CuttingRoom" (229 : Nat) "CuttingRoom$Spot" "shape" "LCuttingRoom$Shape;" "CuttingRoom") ∈ lw_tbl := lw_at lw_m1 80 rfl
theorem q148 : (Jvm.Cond.fieldLinkNest "CuttingRoom" (226 : Nat) "CuttingRoom$Spot" "turns" "I" "CuttingRoom") ∈ lw_tbl := lw_at lw_m1 83 rfl
theorem q151 : (Jvm.Cond.fieldLinkNest "CuttingRoom" (428 : Nat) "CuttingRoom$Spot" "isMirrored" "Z" "CuttingRoom") ∈ lw_tbl := lw_at lw_m1 86 rfl
theorem q154 : (Jvm.Cond.fieldLinkNest "CuttingRoom" (237 : Nat) "CuttingRoom$Spot" "row" "I" "CuttingRoom") ∈ lw_tbl := lw_at lw_m1 89 rfl
theorem q157 : (Jvm.Cond.fieldLinkNest "CuttingRoom" (240 : Nat) "CuttingRoom$Spot" "column" "I" "CuttingRoom") ∈ lw_tbl := lw_at lw_m1 92 rfl
theorem q170 : (Jvm.Cond.classLink "CuttingRoom" (34 : Nat) "CuttingRoom$Sheet") ∈ lw_all := lw_g (lw_at lw_m1 105 rfl) rfl
theorem q172 : (Jvm.Cond.methodLink "CuttingRoom" (36 : Nat) ({ cls := "CuttingRoom$Sheet", name := "<init>", desc := "(LCuttingRoom;)V" } : Jvm.MethodName)) ∈ lw_all := lw_g (lw_at lw_m1 107 rfl) rfl
theorem q184 : (Jvm.Cond.fieldLinkNest "CuttingRoom" (313 : Nat) "CuttingRoom$Sheet" "remainders" "[I" "CuttingRoom") ∈ lw_tbl := lw_at lw_m1 119 rfl
theorem q187 : (Jvm.Cond.fieldLinkNest "CuttingRoom" (297 : Nat) "CuttingRoom$Sheet" "length" "I" "CuttingRoom") ∈ lw_tbl := lw_at lw_m1 122 rfl
theorem q199 : (Jvm.Cond.classLink "CuttingRoom" (50 : Nat) "CuttingRoom$Hindrance") ∈ lw_all := lw_g (lw_at lw_m1 134 rfl) rfl
theorem q201 : (Jvm.Cond.privateMethod ({ cls := "CuttingRoom", name := "lambda$new$0", desc := "(LCuttingRoom$Sheet;)C" } : Jvm.MethodName)) ∈ lw_tbl := lw_at lw_m1 136 rfl
theorem q202 : (Jvm.Cond.instanceMethod ({ cls := "CuttingRoom", name := "lambda$new$0", desc := "(LCuttingRoom$Sheet;)C" } : Jvm.MethodName)) ∈ lw_all := lw_g (lw_at lw_m1 137 rfl) rfl
theorem q203 : (Jvm.Cond.code ({ cls := "CuttingRoom", name := "lambda$new$0", desc := "(LCuttingRoom$Sheet;)C" } : Jvm.MethodName) prog_1_method_81_code (2 : Nat) (Option.some Jvm.ClassFile.FieldType.char)) ∈ lw_all := lw_g (lw_at lw_m1 138 rfl) rfl
theorem q204 : (Jvm.Cond.methodLink "CuttingRoom" (246 : Nat) ({ cls := "CuttingRoom$Spot", name := "cells", desc := "()I" } : Jvm.MethodName)) ∈ lw_all := lw_g (lw_at lw_m1 139 rfl) rfl
theorem q218 : (Jvm.Cond.privateMethod ({ cls := "CuttingRoom", name := "lambda$new$1", desc := "(LCuttingRoom$Sheet;)C" } : Jvm.MethodName)) ∈ lw_tbl := lw_at lw_m1 153 rfl
theorem q219 : (Jvm.Cond.instanceMethod ({ cls := "CuttingRoom", name := "lambda$new$1", desc := "(LCuttingRoom$Sheet;)C" } : Jvm.MethodName)) ∈ lw_all := lw_g (lw_at lw_m1 154 rfl) rfl
theorem q220 : (Jvm.Cond.code ({ cls := "CuttingRoom", name := "lambda$new$1", desc := "(LCuttingRoom$Sheet;)C" } : Jvm.MethodName) prog_1_method_80_code (2 : Nat) (Option.some Jvm.ClassFile.FieldType.char)) ∈ lw_all := lw_g (lw_at lw_m1 155 rfl) rfl
theorem q221 : (Jvm.Cond.methodLink "CuttingRoom" (429 : Nat) ({ cls := "CuttingRoom", name := "canTurn", desc := "()Z" } : Jvm.MethodName)) ∈ lw_all := lw_g (lw_at lw_m1 156 rfl) rfl
theorem q222 : (Jvm.Cond.privateMethod ({ cls := "CuttingRoom", name := "canTurn", desc := "()Z" } : Jvm.MethodName)) ∈ lw_tbl := lw_at lw_m1 157 rfl
theorem q223 : (Jvm.Cond.instanceMethod ({ cls := "CuttingRoom", name := "canTurn", desc := "()Z" } : Jvm.MethodName)) ∈ lw_all := lw_g (lw_at lw_m1 158 rfl) rfl
theorem q224 : (Jvm.Cond.code ({ cls := "CuttingRoom", name := "canTurn", desc := "()Z" } : Jvm.MethodName) prog_1_method_25_code (1 : Nat) (Option.some Jvm.ClassFile.FieldType.boolean)) ∈ lw_all := lw_g (lw_at lw_m1 159 rfl) rfl
theorem q225 : (Jvm.Cond.methodLink "CuttingRoom" (233 : Nat) ({ cls := "CuttingRoom$Rule", name := "allows", desc := "(I)Z" } : Jvm.MethodName)) ∈ lw_all := lw_g (lw_at lw_m1 160 rfl) rfl
theorem q237 : (Jvm.Cond.privateMethod ({ cls := "CuttingRoom", name := "lambda$new$2", desc := "(LCuttingRoom$Sheet;)C" } : Jvm.MethodName)) ∈ lw_tbl := lw_at lw_m1 172 rfl
theorem q238 : (Jvm.Cond.instanceMethod ({ cls := "CuttingRoom", name := "lambda$new$2", desc := "(LCuttingRoom$Sheet;)C" } : Jvm.MethodName)) ∈ lw_all := lw_g (lw_at lw_m1 173 rfl) rfl
theorem q239 : (Jvm.Cond.code ({ cls := "CuttingRoom", name := "lambda$new$2", desc := "(LCuttingRoom$Sheet;)C" } : Jvm.MethodName) prog_1_method_79_code (2 : Nat) (Option.some Jvm.ClassFile.FieldType.char)) ∈ lw_all := lw_g (lw_at lw_m1 174 rfl) rfl
theorem q240 : (Jvm.Cond.privateMethod ({ cls := "CuttingRoom", name := "lambda$new$3", desc := "(LCuttingRoom$Sheet;)C" } : Jvm.MethodName)) ∈ lw_tbl := lw_at lw_m1 175 rfl
theorem q241 : (Jvm.Cond.instanceMethod ({ cls := "CuttingRoom", name := "lambda$new$3", desc := "(LCuttingRoom$Sheet;)C" } : Jvm.MethodName)) ∈ lw_all := lw_g (lw_at lw_m1 176 rfl) rfl
theorem q242 : (Jvm.Cond.code ({ cls := "CuttingRoom", name := "lambda$new$3", desc := "(LCuttingRoom$Sheet;)C" } : Jvm.MethodName) prog_1_method_78_code (2 : Nat) (Option.some Jvm.ClassFile.FieldType.char)) ∈ lw_all := lw_g (lw_at lw_m1 177 rfl) rfl
theorem q243 : (Jvm.Cond.methodLink "CuttingRoom" (425 : Nat) ({ cls := "CuttingRoom", name := "isInside", desc := "()Z" } : Jvm.MethodName)) ∈ lw_all := lw_g (lw_at lw_m1 178 rfl) rfl
theorem q244 : (Jvm.Cond.privateMethod ({ cls := "CuttingRoom", name := "isInside", desc := "()Z" } : Jvm.MethodName)) ∈ lw_tbl := lw_at lw_m1 179 rfl
theorem q245 : (Jvm.Cond.instanceMethod ({ cls := "CuttingRoom", name := "isInside", desc := "()Z" } : Jvm.MethodName)) ∈ lw_all := lw_g (lw_at lw_m1 180 rfl) rfl
theorem q246 : (Jvm.Cond.code ({ cls := "CuttingRoom", name := "isInside", desc := "()Z" } : Jvm.MethodName) prog_1_method_26_code (2 : Nat) (Option.some Jvm.ClassFile.FieldType.boolean)) ∈ lw_all := lw_g (lw_at lw_m1 181 rfl) rfl
theorem q247 : (Jvm.Cond.methodLink "CuttingRoom" (83 : Nat) ({ cls := "CuttingRoom", name := "isBetween", desc := "(III)Z" } : Jvm.MethodName)) ∈ lw_all := lw_g (lw_at lw_m1 182 rfl) rfl
theorem q248 : (Jvm.Cond.static ({ cls := "CuttingRoom", name := "isBetween", desc := "(III)Z" } : Jvm.MethodName)) ∈ lw_all := lw_g (lw_at lw_m1 183 rfl) rfl
theorem q249 : (Jvm.Cond.code ({ cls := "CuttingRoom", name := "isBetween", desc := "(III)Z" } : Jvm.MethodName) prog_1_method_2_code (3 : Nat) (Option.some Jvm.ClassFile.FieldType.boolean)) ∈ lw_all := lw_g (lw_at lw_m1 184 rfl) rfl
theorem q250 : (Jvm.Cond.methodLink "CuttingRoom" (243 : Nat) ({ cls := "CuttingRoom", name := "columns", desc := "()I" } : Jvm.MethodName)) ∈ lw_all := lw_g (lw_at lw_m1 185 rfl) rfl
theorem q251 : (Jvm.Cond.privateMethod ({ cls := "CuttingRoom", name := "columns", desc := "()I" } : Jvm.MethodName)) ∈ lw_tbl := lw_at lw_m1 186 rfl
theorem q252 : (Jvm.Cond.instanceMethod ({ cls := "CuttingRoom", name := "columns", desc := "()I" } : Jvm.MethodName)) ∈ lw_all := lw_g (lw_at lw_m1 187 rfl) rfl
theorem q253 : (Jvm.Cond.code ({ cls := "CuttingRoom", name := "columns", desc := "()I" } : Jvm.MethodName) prog_1_method_18_code (1 : Nat) (Option.some Jvm.ClassFile.FieldType.int)) ∈ lw_all := lw_g (lw_at lw_m1 188 rfl) rfl
theorem q254 : (Jvm.Cond.methodLink "CuttingRoom" (248 : Nat) ({ cls := "CuttingRoom$Spot", name := "rowOf", desc := "(I)I" } : Jvm.MethodName)) ∈ lw_all := lw_g (lw_at lw_m1 189 rfl) rfl
theorem q266 : (Jvm.Cond.methodLink "CuttingRoom" (252 : Nat) ({ cls := "CuttingRoom$Spot", name := "columnOf", desc := "(I)I" } : Jvm.MethodName)) ∈ lw_all := lw_g (lw_at lw_m1 201 rfl) rfl
theorem q270 : (Jvm.Cond.privateMethod ({ cls := "CuttingRoom", name := "lambda$new$4", desc := "(LCuttingRoom$Sheet;)C" } : Jvm.MethodName)) ∈ lw_tbl := lw_at lw_m1 205 rfl
theorem q271 : (Jvm.Cond.instanceMethod ({ cls := "CuttingRoom", name := "lambda$new$4", desc := "(LCuttingRoom$Sheet;)C" } : Jvm.MethodName)) ∈ lw_all := lw_g (lw_at lw_m1 206 rfl) rfl
theorem q272 : (Jvm.Cond.code ({ cls := "CuttingRoom", name := "lambda$new$4", desc := "(LCuttingRoom$Sheet;)C" } : Jvm.MethodName) prog_1_method_77_code (2 : Nat) (Option.some Jvm.ClassFile.FieldType.char)) ∈ lw_all := lw_g (lw_at lw_m1 207 rfl) rfl
theorem q273 : (Jvm.Cond.methodLink "CuttingRoom" (422 : Nat) ({ cls := "CuttingRoom", name := "isOnFlaw", desc := "()Z" } : Jvm.MethodName)) ∈ lw_all := lw_g (lw_at lw_m1 208 rfl) rfl
theorem q274 : (Jvm.Cond.privateMethod ({ cls := "CuttingRoom", name := "isOnFlaw", desc := "()Z" } : Jvm.MethodName)) ∈ lw_tbl := lw_at lw_m1 209 rfl
theorem q275 : (Jvm.Cond.instanceMethod ({ cls := "CuttingRoom", name := "isOnFlaw", desc := "()Z" } : Jvm.MethodName)) ∈ lw_all := lw_g (lw_at lw_m1 210 rfl) rfl
theorem q276 : (Jvm.Cond.code ({ cls := "CuttingRoom", name := "isOnFlaw", desc := "()Z" } : Jvm.MethodName) prog_1_method_27_code (2 : Nat) (Option.some Jvm.ClassFile.FieldType.boolean)) ∈ lw_all := lw_g (lw_at lw_m1 211 rfl) rfl
theorem q277 : (Jvm.Cond.methodLink "CuttingRoom" (255 : Nat) ({ cls := "CuttingRoom", name := "isFlawed", desc := "(II)Z" } : Jvm.MethodName)) ∈ lw_all := lw_g (lw_at lw_m1 212 rfl) rfl
theorem q278 : (Jvm.Cond.privateMethod ({ cls := "CuttingRoom", name := "isFlawed", desc := "(II)Z" } : Jvm.MethodName)) ∈ lw_tbl := lw_at lw_m1 213 rfl
theorem q279 : (Jvm.Cond.instanceMethod ({ cls := "CuttingRoom", name := "isFlawed", desc := "(II)Z" } : Jvm.MethodName)) ∈ lw_all := lw_g (lw_at lw_m1 214 rfl) rfl
theorem q280 : (Jvm.Cond.code ({ cls := "CuttingRoom", name := "isFlawed", desc := "(II)Z" } : Jvm.MethodName) prog_1_method_21_code (3 : Nat) (Option.some Jvm.ClassFile.FieldType.boolean)) ∈ lw_all := lw_g (lw_at lw_m1 215 rfl) rfl
theorem q281 : (Jvm.Cond.static ({ cls := "CuttingRoom", name := "lambda$new$5", desc := "(LCuttingRoom$Sheet;)C" } : Jvm.MethodName)) ∈ lw_all := lw_g (lw_at lw_m1 216 rfl) rfl
theorem q282 : (Jvm.Cond.code ({ cls := "CuttingRoom", name := "lambda$new$5", desc := "(LCuttingRoom$Sheet;)C" } : Jvm.MethodName) prog_1_method_76_code (1 : Nat) (Option.some Jvm.ClassFile.FieldType.char)) ∈ lw_all := lw_g (lw_at lw_m1 217 rfl) rfl
theorem q283 : (Jvm.Cond.methodLink "CuttingRoom" (419 : Nat) ({ cls := "CuttingRoom$Sheet", name := "isTaken", desc := "()Z" } : Jvm.MethodName)) ∈ lw_all := lw_g (lw_at lw_m1 218 rfl) rfl
theorem q294 : (Jvm.Cond.static ({ cls := "CuttingRoom", name := "lambda$new$6", desc := "(LCuttingRoom$Sheet;)C" } : Jvm.MethodName)) ∈ lw_all := lw_g (lw_at lw_m1 229 rfl) rfl
theorem q295 : (Jvm.Cond.code ({ cls := "CuttingRoom", name := "lambda$new$6", desc := "(LCuttingRoom$Sheet;)C" } : Jvm.MethodName) prog_1_method_75_code (1 : Nat) (Option.some Jvm.ClassFile.FieldType.char)) ∈ lw_all := lw_g (lw_at lw_m1 230 rfl) rfl
theorem q296 : (Jvm.Cond.methodLink "CuttingRoom" (416 : Nat) ({ cls := "CuttingRoom$Sheet", name := "meets", desc := "()Z" } : Jvm.MethodName)) ∈ lw_all := lw_g (lw_at lw_m1 231 rfl) rfl
theorem q315 : (Jvm.Cond.fieldLink "CuttingRoom" (12 : Nat) "CuttingRoom" "shapes" "Ljava/util/List;") ∈ lw_all := lw_g (lw_at lw_m2 10 rfl) rfl
theorem q316 : (Jvm.Cond.fieldLink "CuttingRoom" (16 : Nat) "CuttingRoom" "styles" "Ljava/util/List;") ∈ lw_all := lw_g (lw_at lw_m2 11 rfl) rfl
theorem q317 : (Jvm.Cond.fieldLink "CuttingRoom" (19 : Nat) "CuttingRoom" "marker" "Ljava/util/List;") ∈ lw_all := lw_g (lw_at lw_m2 12 rfl) rfl
theorem q318 : (Jvm.Cond.fieldLink "CuttingRoom" (24 : Nat) "CuttingRoom" "flaws" "[[Z") ∈ lw_all := lw_g (lw_at lw_m2 13 rfl) rfl
theorem q319 : (Jvm.Cond.fieldLink "CuttingRoom" (64 : Nat) "CuttingRoom" "hindrances" "[LCuttingRoom$Hindrance;") ∈ lw_all := lw_g (lw_at lw_m2 14 rfl) rfl
theorem q320 : (Jvm.Cond.fieldLink "CuttingRoom" (30 : Nat) "CuttingRoom" "spot" "LCuttingRoom$Spot;") ∈ lw_all := lw_g (lw_at lw_m2 15 rfl) rfl
theorem q323 : (Jvm.Cond.fieldLink "CuttingRoom" (39 : Nat) "CuttingRoom" "sheet" "LCuttingRoom$Sheet;") ∈ lw_all := lw_g (lw_at lw_m2 18 rfl) rfl
theorem q324 : (Jvm.Cond.fieldLink "CuttingRoom" (43 : Nat) "CuttingRoom" "trial" "LCuttingRoom$Sheet;") ∈ lw_all := lw_g (lw_at lw_m2 19 rfl) rfl
theorem q326 : (Jvm.Cond.fieldLink "CuttingRoom" (46 : Nat) "CuttingRoom" "width" "I") ∈ lw_all := lw_g (lw_at lw_m2 21 rfl) rfl
theorem q327 : (Jvm.Cond.fieldLink "CuttingRoom" (205 : Nat) "CuttingRoom" "hasNap" "Z") ∈ lw_all := lw_g (lw_at lw_m2 22 rfl) rfl
theorem q328 : (Jvm.Cond.fieldLink "CuttingRoom" (199 : Nat) "CuttingRoom" "isFolded" "Z") ∈ lw_all := lw_g (lw_at lw_m2 23 rfl) rfl
theorem q330 : (Jvm.Cond.fieldLink "CuttingRoom" (208 : Nat) "CuttingRoom" "stripes" "I") ∈ lw_all := lw_g (lw_at lw_m2 25 rfl) rfl
theorem q331 : (Jvm.Cond.fieldLink "CuttingRoom" (202 : Nat) "CuttingRoom" "flawCount" "I") ∈ lw_all := lw_g (lw_at lw_m2 26 rfl) rfl
theorem q332 : (Jvm.Cond.fieldLink "CuttingRoom" (261 : Nat) "CuttingRoom" "nextNumber" "I") ∈ lw_all := lw_g (lw_at lw_m2 27 rfl) rfl
theorem q333 : (Jvm.Cond.fieldLink "CuttingRoom" (366 : Nat) "CuttingRoom" "roll" "I") ∈ lw_all := lw_g (lw_at lw_m2 28 rfl) rfl
theorem q334 : (Jvm.Cond.fieldLink "CuttingRoom" (386 : Nat) "CuttingRoom" "cut" "J") ∈ lw_all := lw_g (lw_at lw_m2 29 rfl) rfl
theorem q335 : (Jvm.Cond.laysFinal "CuttingRoom" "CuttingRoom" "shapes" "Ljava/util/List;") ∈ lw_all := lw_g (lw_at lw_m2 30 rfl) rfl
theorem q336 : (Jvm.Cond.soleField "CuttingRoom" "shapes") ∈ lw_all := lw_g (lw_at lw_m2 31 rfl) rfl
theorem q337 : (Jvm.Cond.laysFinal "CuttingRoom" "CuttingRoom" "styles" "Ljava/util/List;") ∈ lw_all := lw_g (lw_at lw_m2 32 rfl) rfl
theorem q338 : (Jvm.Cond.soleField "CuttingRoom" "styles") ∈ lw_all := lw_g (lw_at lw_m2 33 rfl) rfl
theorem q339 : (Jvm.Cond.laysFinal "CuttingRoom" "CuttingRoom" "marker" "Ljava/util/List;") ∈ lw_all := lw_g (lw_at lw_m2 34 rfl) rfl
theorem q340 : (Jvm.Cond.soleField "CuttingRoom" "marker") ∈ lw_all := lw_g (lw_at lw_m2 35 rfl) rfl
theorem q341 : (Jvm.Cond.laysFinal "CuttingRoom" "CuttingRoom" "flaws" "[[Z") ∈ lw_all := lw_g (lw_at lw_m2 36 rfl) rfl
theorem q342 : (Jvm.Cond.soleField "CuttingRoom" "flaws") ∈ lw_all := lw_g (lw_at lw_m2 37 rfl) rfl
theorem q343 : (Jvm.Cond.laysFinal "CuttingRoom" "CuttingRoom" "hindrances" "[LCuttingRoom$Hindrance;") ∈ lw_all := lw_g (lw_at lw_m2 38 rfl) rfl
theorem q344 : (Jvm.Cond.soleField "CuttingRoom" "hindrances") ∈ lw_all := lw_g (lw_at lw_m2 39 rfl) rfl
theorem q345 : (Jvm.Cond.laysFinal "CuttingRoom" "CuttingRoom" "spot" "LCuttingRoom$Spot;") ∈ lw_all := lw_g (lw_at lw_m2 40 rfl) rfl
theorem q346 : (Jvm.Cond.soleField "CuttingRoom" "spot") ∈ lw_all := lw_g (lw_at lw_m2 41 rfl) rfl
theorem q347 : (Jvm.Cond.laysFinal "CuttingRoom" "CuttingRoom" "sheet" "LCuttingRoom$Sheet;") ∈ lw_all := lw_g (lw_at lw_m2 42 rfl) rfl
theorem q348 : (Jvm.Cond.soleField "CuttingRoom" "sheet") ∈ lw_all := lw_g (lw_at lw_m2 43 rfl) rfl
theorem q349 : (Jvm.Cond.laysFinal "CuttingRoom" "CuttingRoom" "trial" "LCuttingRoom$Sheet;") ∈ lw_all := lw_g (lw_at lw_m2 44 rfl) rfl
theorem q350 : (Jvm.Cond.soleField "CuttingRoom" "trial") ∈ lw_all := lw_g (lw_at lw_m2 45 rfl) rfl
theorem q351 : (Jvm.Cond.lays "CuttingRoom" "CuttingRoom" "width" "I") ∈ lw_all := lw_g (lw_at lw_m2 46 rfl) rfl
theorem q352 : (Jvm.Cond.soleField "CuttingRoom" "width") ∈ lw_all := lw_g (lw_at lw_m2 47 rfl) rfl
theorem q353 : (Jvm.Cond.lays "CuttingRoom" "CuttingRoom" "hasNap" "Z") ∈ lw_all := lw_g (lw_at lw_m2 48 rfl) rfl
theorem q354 : (Jvm.Cond.soleField "CuttingRoom" "hasNap") ∈ lw_all := lw_g (lw_at lw_m2 49 rfl) rfl
theorem q355 : (Jvm.Cond.lays "CuttingRoom" "CuttingRoom" "isFolded" "Z") ∈ lw_all := lw_g (lw_at lw_m2 50 rfl) rfl
theorem q356 : (Jvm.Cond.soleField "CuttingRoom" "isFolded") ∈ lw_all := lw_g (lw_at lw_m2 51 rfl) rfl
theorem q357 : (Jvm.Cond.lays "CuttingRoom" "CuttingRoom" "stripes" "I") ∈ lw_all := lw_g (lw_at lw_m2 52 rfl) rfl
theorem q358 : (Jvm.Cond.soleField "CuttingRoom" "stripes") ∈ lw_all := lw_g (lw_at lw_m2 53 rfl) rfl
theorem q359 : (Jvm.Cond.lays "CuttingRoom" "CuttingRoom" "flawCount" "I") ∈ lw_all := lw_g (lw_at lw_m2 54 rfl) rfl
theorem q360 : (Jvm.Cond.soleField "CuttingRoom" "flawCount") ∈ lw_all := lw_g (lw_at lw_m2 55 rfl) rfl
theorem q361 : (Jvm.Cond.lays "CuttingRoom" "CuttingRoom" "nextNumber" "I") ∈ lw_all := lw_g (lw_at lw_m2 56 rfl) rfl
theorem q362 : (Jvm.Cond.soleField "CuttingRoom" "nextNumber") ∈ lw_all := lw_g (lw_at lw_m2 57 rfl) rfl
theorem q363 : (Jvm.Cond.lays "CuttingRoom" "CuttingRoom" "roll" "I") ∈ lw_all := lw_g (lw_at lw_m2 58 rfl) rfl
theorem q364 : (Jvm.Cond.soleField "CuttingRoom" "roll") ∈ lw_all := lw_g (lw_at lw_m2 59 rfl) rfl
theorem q365 : (Jvm.Cond.lays "CuttingRoom" "CuttingRoom" "cut" "J") ∈ lw_all := lw_g (lw_at lw_m2 60 rfl) rfl
theorem q366 : (Jvm.Cond.soleField "CuttingRoom" "cut") ∈ lw_all := lw_g (lw_at lw_m2 61 rfl) rfl
theorem q367 : (Jvm.Cond.superclass "CuttingRoom" "java/lang/Object") ∈ lw_all := lw_g (lw_at lw_m2 62 rfl) rfl
theorem q369 : (Jvm.Cond.instanceMethod ({ cls := "CuttingRoom", name := "clearFlaws", desc := "()I" } : Jvm.MethodName)) ∈ lw_all := lw_g (lw_at lw_m2 64 rfl) rfl
theorem q370 : (Jvm.Cond.selects "CuttingRoom" ({ cls := "CuttingRoom", name := "clearFlaws", desc := "()I" } : Jvm.MethodName) ({ cls := "CuttingRoom", name := "clearFlaws", desc := "()I" } : Jvm.MethodName)) ∈ lw_all := lw_g (lw_at lw_m2 65 rfl) rfl
theorem q371 : (Jvm.Cond.code ({ cls := "CuttingRoom", name := "clearFlaws", desc := "()I" } : Jvm.MethodName) prog_1_method_23_code (4 : Nat) (Option.some Jvm.ClassFile.FieldType.int)) ∈ lw_all := lw_g (lw_at lw_m2 66 rfl) rfl
theorem q373 : (Jvm.Cond.instanceMethod ({ cls := "CuttingRoom", name := "clear", desc := "()I" } : Jvm.MethodName)) ∈ lw_all := lw_g (lw_at lw_m2 68 rfl) rfl
theorem q374 : (Jvm.Cond.selects "CuttingRoom" ({ cls := "CuttingRoom", name := "clear", desc := "()I" } : Jvm.MethodName) ({ cls := "CuttingRoom", name := "clear", desc := "()I" } : Jvm.MethodName)) ∈ lw_all := lw_g (lw_at lw_m2 69 rfl) rfl
theorem q375 : (Jvm.Cond.code ({ cls := "CuttingRoom", name := "clear", desc := "()I" } : Jvm.MethodName) prog_1_method_36_code (2 : Nat) (Option.some Jvm.ClassFile.FieldType.int)) ∈ lw_all := lw_g (lw_at lw_m2 70 rfl) rfl
theorem q376 : (Jvm.Cond.interfaceEntry "CuttingRoom" (77 : Nat)) ∈ lw_tbl := lw_at lw_m2 71 rfl
theorem q377 : (Jvm.Cond.methodLink "CuttingRoom" (77 : Nat) ({ cls := "java/util/List", name := "size", desc := "()I" } : Jvm.MethodName)) ∈ lw_all := lw_g (lw_at lw_m2 72 rfl) rfl
theorem q378 : (Jvm.Cond.interfaceEntry "CuttingRoom" (300 : Nat)) ∈ lw_tbl := lw_at lw_m2 73 rfl
theorem q379 : (Jvm.Cond.methodLink "CuttingRoom" (300 : Nat) ({ cls := "java/util/List", name := "clear", desc := "()V" } : Jvm.MethodName)) ∈ lw_all := lw_g (lw_at lw_m2 74 rfl) rfl
theorem q387 : (Jvm.Cond.methodLink "CuttingRoom" (215 : Nat) ({ cls := "CuttingRoom$Sheet", name := "clear", desc := "()V" } : Jvm.MethodName)) ∈ lw_all := lw_g (lw_at lw_m2 82 rfl) rfl
theorem q389 : (Jvm.Cond.instanceMethod ({ cls := "CuttingRoom", name := "inMarker", desc := "()I" } : Jvm.MethodName)) ∈ lw_all := lw_g (lw_at lw_m2 84 rfl) rfl
theorem q390 : (Jvm.Cond.selects "CuttingRoom" ({ cls := "CuttingRoom", name := "inMarker", desc := "()I" } : Jvm.MethodName) ({ cls := "CuttingRoom", name := "inMarker", desc := "()I" } : Jvm.MethodName)) ∈ lw_all := lw_g (lw_at lw_m2 85 rfl) rfl
theorem q391 : (Jvm.Cond.code ({ cls := "CuttingRoom", name := "inMarker", desc := "()I" } : Jvm.MethodName) prog_1_method_37_code (1 : Nat) (Option.some Jvm.ClassFile.FieldType.int)) ∈ lw_all := lw_g (lw_at lw_m2 86 rfl) rfl
theorem q393 : (Jvm.Cond.instanceMethod ({ cls := "CuttingRoom", name := "length", desc := "()I" } : Jvm.MethodName)) ∈ lw_all := lw_g (lw_at lw_m2 88 rfl) rfl
theorem q394 : (Jvm.Cond.selects "CuttingRoom" ({ cls := "CuttingRoom", name := "length", desc := "()I" } : Jvm.MethodName) ({ cls := "CuttingRoom", name := "length", desc := "()I" } : Jvm.MethodName)) ∈ lw_all := lw_g (lw_at lw_m2 89 rfl) rfl
theorem q395 : (Jvm.Cond.code ({ cls := "CuttingRoom", name := "length", desc := "()I" } : Jvm.MethodName) prog_1_method_44_code (1 : Nat) (Option.some Jvm.ClassFile.FieldType.int)) ∈ lw_all := lw_g (lw_at lw_m2 90 rfl) rfl
theorem q397 : (Jvm.Cond.instanceMethod ({ cls := "CuttingRoom", name := "used", desc := "()I" } : Jvm.MethodName)) ∈ lw_all := lw_g (lw_at lw_m2 92 rfl) rfl
theorem q398 : (Jvm.Cond.selects "CuttingRoom" ({ cls := "CuttingRoom", name := "used", desc := "()I" } : Jvm.MethodName) ({ cls := "CuttingRoom", name := "used", desc := "()I" } : Jvm.MethodName)) ∈ lw_all := lw_g (lw_at lw_m2 93 rfl) rfl
theorem q399 : (Jvm.Cond.code ({ cls := "CuttingRoom", name := "used", desc := "()I" } : Jvm.MethodName) prog_1_method_46_code (1 : Nat) (Option.some Jvm.ClassFile.FieldType.int)) ∈ lw_all := lw_g (lw_at lw_m2 94 rfl) rfl
theorem q400 : (Jvm.Cond.methodLink "CuttingRoom" (310 : Nat) ({ cls := "CuttingRoom", name := "countCells", desc := "()I" } : Jvm.MethodName)) ∈ lw_all := lw_g (lw_at lw_m2 95 rfl) rfl
theorem q401 : (Jvm.Cond.privateMethod ({ cls := "CuttingRoom", name := "countCells", desc := "()I" } : Jvm.MethodName)) ∈ lw_tbl := lw_at lw_m2 96 rfl
theorem q402 : (Jvm.Cond.instanceMethod ({ cls := "CuttingRoom", name := "countCells", desc := "()I" } : Jvm.MethodName)) ∈ lw_all := lw_g (lw_at lw_m2 97 rfl) rfl
theorem q403 : (Jvm.Cond.code ({ cls := "CuttingRoom", name := "countCells", desc := "()I" } : Jvm.MethodName) prog_1_method_45_code (4 : Nat) (Option.some Jvm.ClassFile.FieldType.int)) ∈ lw_all := lw_g (lw_at lw_m2 98 rfl) rfl
theorem q404 : (Jvm.Cond.interfaceEntry "CuttingRoom" (90 : Nat)) ∈ lw_tbl := lw_at lw_m2 99 rfl
theorem q405 : (Jvm.Cond.methodLink "CuttingRoom" (90 : Nat) ({ cls := "java/util/List", name := "get", desc := "(I)Ljava/lang/Object;" } : Jvm.MethodName)) ∈ lw_all := lw_g (lw_at lw_m2 100 rfl) rfl
theorem q423 : (Jvm.Cond.classLink "CuttingRoom" (117 : Nat) "CuttingRoom$Piece") ∈ lw_all := lw_g (lw_at lw_m2 118 rfl) rfl
theorem q425 : (Jvm.Cond.instanceMethod ({ cls := "CuttingRoom", name := "roll", desc := "()I" } : Jvm.MethodName)) ∈ lw_all := lw_g (lw_at lw_m2 120 rfl) rfl
theorem q426 : (Jvm.Cond.selects "CuttingRoom" ({ cls := "CuttingRoom", name := "roll", desc := "()I" } : Jvm.MethodName) ({ cls := "CuttingRoom", name := "roll", desc := "()I" } : Jvm.MethodName)) ∈ lw_all := lw_g (lw_at lw_m2 121 rfl) rfl
theorem q427 : (Jvm.Cond.code ({ cls := "CuttingRoom", name := "roll", desc := "()I" } : Jvm.MethodName) prog_1_method_57_code (1 : Nat) (Option.some Jvm.ClassFile.FieldType.int)) ∈ lw_all := lw_g (lw_at lw_m2 122 rfl) rfl
theorem q429 : (Jvm.Cond.instanceMethod ({ cls := "CuttingRoom", name := "cut", desc := "()J" } : Jvm.MethodName)) ∈ lw_all := lw_g (lw_at lw_m2 124 rfl) rfl
theorem q430 : (Jvm.Cond.selects "CuttingRoom" ({ cls := "CuttingRoom", name := "cut", desc := "()J" } : Jvm.MethodName) ({ cls := "CuttingRoom", name := "cut", desc := "()J" } : Jvm.MethodName)) ∈ lw_all := lw_g (lw_at lw_m2 125 rfl) rfl
theorem q431 : (Jvm.Cond.code ({ cls := "CuttingRoom", name := "cut", desc := "()J" } : Jvm.MethodName) prog_1_method_68_code (1 : Nat) (Option.some Jvm.ClassFile.FieldType.long)) ∈ lw_all := lw_g (lw_at lw_m2 126 rfl) rfl
theorem q433 : (Jvm.Cond.instanceMethod ({ cls := "CuttingRoom", name := "isSound", desc := "()Z" } : Jvm.MethodName)) ∈ lw_all := lw_g (lw_at lw_m2 128 rfl) rfl
theorem q434 : (Jvm.Cond.selects "CuttingRoom" ({ cls := "CuttingRoom", name := "isSound", desc := "()Z" } : Jvm.MethodName) ({ cls := "CuttingRoom", name := "isSound", desc := "()Z" } : Jvm.MethodName)) ∈ lw_all := lw_g (lw_at lw_m2 129 rfl) rfl
theorem q435 : (Jvm.Cond.code ({ cls := "CuttingRoom", name := "isSound", desc := "()Z" } : Jvm.MethodName) prog_1_method_74_code (1 : Nat) (Option.some Jvm.ClassFile.FieldType.boolean)) ∈ lw_all := lw_g (lw_at lw_m2 130 rfl) rfl
theorem q436 : (Jvm.Cond.methodLink "CuttingRoom" (409 : Nat) ({ cls := "CuttingRoom", name := "areCellsRight", desc := "()Z" } : Jvm.MethodName)) ∈ lw_all := lw_g (lw_at lw_m2 131 rfl) rfl
theorem q437 : (Jvm.Cond.privateMethod ({ cls := "CuttingRoom", name := "areCellsRight", desc := "()Z" } : Jvm.MethodName)) ∈ lw_tbl := lw_at lw_m2 132 rfl
theorem q438 : (Jvm.Cond.instanceMethod ({ cls := "CuttingRoom", name := "areCellsRight", desc := "()Z" } : Jvm.MethodName)) ∈ lw_all := lw_g (lw_at lw_m2 133 rfl) rfl
theorem q439 : (Jvm.Cond.code ({ cls := "CuttingRoom", name := "areCellsRight", desc := "()Z" } : Jvm.MethodName) prog_1_method_72_code (5 : Nat) (Option.some Jvm.ClassFile.FieldType.boolean)) ∈ lw_all := lw_g (lw_at lw_m2 134 rfl) rfl
theorem q440 : (Jvm.Cond.methodLink "CuttingRoom" (211 : Nat) ({ cls := "CuttingRoom$Sheet", name := "at", desc := "(II)I" } : Jvm.MethodName)) ∈ lw_all := lw_g (lw_at lw_m2 135 rfl) rfl
theorem q441 : (Jvm.Cond.methodLink "CuttingRoom" (287 : Nat) ({ cls := "CuttingRoom", name := "checkedPiece", desc := "(I)LCuttingRoom$Piece;" } : Jvm.MethodName)) ∈ lw_all := lw_g (lw_at lw_m2 136 rfl) rfl
theorem q442 : (Jvm.Cond.privateMethod ({ cls := "CuttingRoom", name := "checkedPiece", desc := "(I)LCuttingRoom$Piece;" } : Jvm.MethodName)) ∈ lw_tbl := lw_at lw_m2 137 rfl
theorem q443 : (Jvm.Cond.instanceMethod ({ cls := "CuttingRoom", name := "checkedPiece", desc := "(I)LCuttingRoom$Piece;" } : Jvm.MethodName)) ∈ lw_all := lw_g (lw_at lw_m2 138 rfl) rfl
theorem q444 : (Jvm.Cond.code ({ cls := "CuttingRoom", name := "checkedPiece", desc := "(I)LCuttingRoom$Piece;" } : Jvm.MethodName) prog_1_method_10_code (4 : Nat) (Option.some (Jvm.ClassFile.FieldType.object "CuttingRoom$Piece"))) ∈ lw_all := lw_g (lw_at lw_m2 139 rfl) rfl
theorem q445 : (Jvm.Cond.classLink "CuttingRoom" (122 : Nat) "java/util/NoSuchElementException") ∈ lw_all := lw_g (lw_at lw_m2 140 rfl) rfl
theorem q490 : (Jvm.Cond.methodLink "CuttingRoom" (124 : Nat) ({ cls := "java/util/NoSuchElementException", name := "<init>", desc := "()V" } : Jvm.MethodName)) ∈ lw_all := lw_g (lw_at lw_m2 185 rfl) rfl
theorem q513 : (Jvm.Cond.methodLink "CuttingRoom" (307 : Nat) ({ cls := "CuttingRoom$Piece", name := "has", desc := "(II)Z" } : Jvm.MethodName)) ∈ lw_all := lw_g (lw_at lw_m2 208 rfl) rfl
theorem q522 : (Jvm.Cond.methodLink "CuttingRoom" (412 : Nat) ({ cls := "CuttingRoom", name := "countPieces", desc := "()J" } : Jvm.MethodName)) ∈ lw_all := lw_g (lw_at lw_m2 217 rfl) rfl
theorem q523 : (Jvm.Cond.privateMethod ({ cls := "CuttingRoom", name := "countPieces", desc := "()J" } : Jvm.MethodName)) ∈ lw_tbl := lw_at lw_m2 218 rfl
theorem q524 : (Jvm.Cond.instanceMethod ({ cls := "CuttingRoom", name := "countPieces", desc := "()J" } : Jvm.MethodName)) ∈ lw_all := lw_g (lw_at lw_m2 219 rfl) rfl
theorem q525 : (Jvm.Cond.code ({ cls := "CuttingRoom", name := "countPieces", desc := "()J" } : Jvm.MethodName) prog_1_method_73_code (5 : Nat) (Option.some Jvm.ClassFile.FieldType.long)) ∈ lw_all := lw_g (lw_at lw_m2 220 rfl) rfl
theorem q526 : (Jvm.Cond.classLink "CuttingRoom" (98 : Nat) "CuttingRoom$Shape") ∈ lw_all := lw_g (lw_at lw_m2 221 rfl) rfl
theorem q527 : (Jvm.Cond.classLink "CuttingRoom" (100 : Nat) "CuttingRoom$Style") ∈ lw_all := lw_g (lw_at lw_m2 222 rfl) rfl
theorem q528 : (Jvm.Cond.methodLink "CuttingRoom" (329 : Nat) ({ cls := "CuttingRoom$Style", name := "pieces", desc := "()I" } : Jvm.MethodName)) ∈ lw_all := lw_g (lw_at lw_m2 223 rfl) rfl
theorem q547 : (Jvm.Cond.instanceMethod ({ cls := "CuttingRoom", name := "setCloth", desc := "(IZI)I" } : Jvm.MethodName)) ∈ lw_all := lw_g (lw_at lw_m3 2 rfl) rfl
theorem q548 : (Jvm.Cond.selects "CuttingRoom" ({ cls := "CuttingRoom", name := "setCloth", desc := "(IZI)I" } : Jvm.MethodName) ({ cls := "CuttingRoom", name := "setCloth", desc := "(IZI)I" } : Jvm.MethodName)) ∈ lw_all := lw_g (lw_at lw_m3 3 rfl) rfl
theorem q549 : (Jvm.Cond.code ({ cls := "CuttingRoom", name := "setCloth", desc := "(IZI)I" } : Jvm.MethodName) prog_1_method_19_code (5 : Nat) (Option.some Jvm.ClassFile.FieldType.int)) ∈ lw_all := lw_g (lw_at lw_m3 4 rfl) rfl
theorem q550 : (Jvm.Cond.methodLink "CuttingRoom" (141 : Nat) ({ cls := "CuttingRoom", name := "checkArgument", desc := "(Z)V" } : Jvm.MethodName)) ∈ lw_all := lw_g (lw_at lw_m3 5 rfl) rfl
theorem q551 : (Jvm.Cond.static ({ cls := "CuttingRoom", name := "checkArgument", desc := "(Z)V" } : Jvm.MethodName)) ∈ lw_all := lw_g (lw_at lw_m3 6 rfl) rfl
theorem q552 : (Jvm.Cond.code ({ cls := "CuttingRoom", name := "checkArgument", desc := "(Z)V" } : Jvm.MethodName) prog_1_method_3_code (1 : Nat) (Option.none : Option Jvm.ClassFile.FieldType)) ∈ lw_all := lw_g (lw_at lw_m3 7 rfl) rfl
theorem q553 : (Jvm.Cond.classLink "CuttingRoom" (68 : Nat) "java/lang/IllegalArgumentException") ∈ lw_all := lw_g (lw_at lw_m3 8 rfl) rfl
theorem q562 : (Jvm.Cond.methodLink "CuttingRoom" (70 : Nat) ({ cls := "java/lang/IllegalArgumentException", name := "<init>", desc := "()V" } : Jvm.MethodName)) ∈ lw_all := lw_g (lw_at lw_m3 17 rfl) rfl
theorem q568 : (Jvm.Cond.interfaceEntry "CuttingRoom" (109 : Nat)) ∈ lw_tbl := lw_at lw_m3 23 rfl
theorem q569 : (Jvm.Cond.methodLink "CuttingRoom" (109 : Nat) ({ cls := "java/util/List", name := "isEmpty", desc := "()Z" } : Jvm.MethodName)) ∈ lw_all := lw_g (lw_at lw_m3 24 rfl) rfl
theorem q577 : (Jvm.Cond.methodLink "CuttingRoom" (152 : Nat) ({ cls := "CuttingRoom", name := "checkState", desc := "(Z)V" } : Jvm.MethodName)) ∈ lw_all := lw_g (lw_at lw_m3 32 rfl) rfl
theorem q578 : (Jvm.Cond.static ({ cls := "CuttingRoom", name := "checkState", desc := "(Z)V" } : Jvm.MethodName)) ∈ lw_all := lw_g (lw_at lw_m3 33 rfl) rfl
theorem q579 : (Jvm.Cond.code ({ cls := "CuttingRoom", name := "checkState", desc := "(Z)V" } : Jvm.MethodName) prog_1_method_4_code (1 : Nat) (Option.none : Option Jvm.ClassFile.FieldType)) ∈ lw_all := lw_g (lw_at lw_m3 34 rfl) rfl
theorem q580 : (Jvm.Cond.classLink "CuttingRoom" (71 : Nat) "java/lang/IllegalStateException") ∈ lw_all := lw_g (lw_at lw_m3 35 rfl) rfl
theorem q589 : (Jvm.Cond.methodLink "CuttingRoom" (73 : Nat) ({ cls := "java/lang/IllegalStateException", name := "<init>", desc := "()V" } : Jvm.MethodName)) ∈ lw_all := lw_g (lw_at lw_m3 44 rfl) rfl
theorem q599 : (Jvm.Cond.instanceMethod ({ cls := "CuttingRoom", name := "fold", desc := "(Z)Z" } : Jvm.MethodName)) ∈ lw_all := lw_g (lw_at lw_m3 54 rfl) rfl
theorem q600 : (Jvm.Cond.selects "CuttingRoom" ({ cls := "CuttingRoom", name := "fold", desc := "(Z)Z" } : Jvm.MethodName) ({ cls := "CuttingRoom", name := "fold", desc := "(Z)Z" } : Jvm.MethodName)) ∈ lw_all := lw_g (lw_at lw_m3 55 rfl) rfl
theorem q601 : (Jvm.Cond.code ({ cls := "CuttingRoom", name := "fold", desc := "(Z)Z" } : Jvm.MethodName) prog_1_method_20_code (3 : Nat) (Option.some Jvm.ClassFile.FieldType.boolean)) ∈ lw_all := lw_g (lw_at lw_m3 56 rfl) rfl
theorem q607 : (Jvm.Cond.instanceMethod ({ cls := "CuttingRoom", name := "addFlaw", desc := "(II)I" } : Jvm.MethodName)) ∈ lw_all := lw_g (lw_at lw_m3 62 rfl) rfl
theorem q608 : (Jvm.Cond.selects "CuttingRoom" ({ cls := "CuttingRoom", name := "addFlaw", desc := "(II)I" } : Jvm.MethodName) ({ cls := "CuttingRoom", name := "addFlaw", desc := "(II)I" } : Jvm.MethodName)) ∈ lw_all := lw_g (lw_at lw_m3 63 rfl) rfl
theorem q609 : (Jvm.Cond.code ({ cls := "CuttingRoom", name := "addFlaw", desc := "(II)I" } : Jvm.MethodName) prog_1_method_22_code (3 : Nat) (Option.some Jvm.ClassFile.FieldType.int)) ∈ lw_all := lw_g (lw_at lw_m3 64 rfl) rfl
theorem q610 : (Jvm.Cond.methodLink "CuttingRoom" (113 : Nat) ({ cls := "CuttingRoom", name := "checkSupported", desc := "(Z)V" } : Jvm.MethodName)) ∈ lw_all := lw_g (lw_at lw_m3 65 rfl) rfl
theorem q611 : (Jvm.Cond.static ({ cls := "CuttingRoom", name := "checkSupported", desc := "(Z)V" } : Jvm.MethodName)) ∈ lw_all := lw_g (lw_at lw_m3 66 rfl) rfl
theorem q612 : (Jvm.Cond.code ({ cls := "CuttingRoom", name := "checkSupported", desc := "(Z)V" } : Jvm.MethodName) prog_1_method_5_code (1 : Nat) (Option.none : Option Jvm.ClassFile.FieldType)) ∈ lw_all := lw_g (lw_at lw_m3 67 rfl) rfl
theorem q613 : (Jvm.Cond.classLink "CuttingRoom" (74 : Nat) "java/lang/UnsupportedOperationException") ∈ lw_all := lw_g (lw_at lw_m3 68 rfl) rfl
theorem q622 : (Jvm.Cond.methodLink "CuttingRoom" (76 : Nat) ({ cls := "java/lang/UnsupportedOperationException", name := "<init>", desc := "()V" } : Jvm.MethodName)) ∈ lw_all := lw_g (lw_at lw_m3 77 rfl) rfl
theorem q632 : (Jvm.Cond.instanceMethod ({ cls := "CuttingRoom", name := "addShape", desc := "(CZ)I" } : Jvm.MethodName)) ∈ lw_all := lw_g (lw_at lw_m3 87 rfl) rfl
theorem q633 : (Jvm.Cond.selects "CuttingRoom" ({ cls := "CuttingRoom", name := "addShape", desc := "(CZ)I" } : Jvm.MethodName) ({ cls := "CuttingRoom", name := "addShape", desc := "(CZ)I" } : Jvm.MethodName)) ∈ lw_all := lw_g (lw_at lw_m3 88 rfl) rfl
theorem q634 : (Jvm.Cond.code ({ cls := "CuttingRoom", name := "addShape", desc := "(CZ)I" } : Jvm.MethodName) prog_1_method_13_code (4 : Nat) (Option.some Jvm.ClassFile.FieldType.int)) ∈ lw_all := lw_g (lw_at lw_m3 89 rfl) rfl
theorem q635 : (Jvm.Cond.methodLink "CuttingRoom" (148 : Nat) ({ cls := "CuttingRoom", name := "ruleOf", desc := "(C)LCuttingRoom$Rule;" } : Jvm.MethodName)) ∈ lw_all := lw_g (lw_at lw_m3 90 rfl) rfl
theorem q636 : (Jvm.Cond.static ({ cls := "CuttingRoom", name := "ruleOf", desc := "(C)LCuttingRoom$Rule;" } : Jvm.MethodName)) ∈ lw_all := lw_g (lw_at lw_m3 91 rfl) rfl
theorem q637 : (Jvm.Cond.code ({ cls := "CuttingRoom", name := "ruleOf", desc := "(C)LCuttingRoom$Rule;" } : Jvm.MethodName) prog_1_method_11_code (1 : Nat) (Option.some (Jvm.ClassFile.FieldType.object "CuttingRoom$Rule"))) ∈ lw_all := lw_g (lw_at lw_m3 92 rfl) rfl
theorem q638 : (Jvm.Cond.fieldLink "CuttingRoom" (125 : Nat) "CuttingRoom$Rule" "FIXED" "LCuttingRoom$Rule;") ∈ lw_all := lw_g (lw_at lw_m3 93 rfl) rfl
theorem q640 : (Jvm.Cond.fieldLink "CuttingRoom" (135 : Nat) "CuttingRoom$Rule" "HALF" "LCuttingRoom$Rule;") ∈ lw_all := lw_g (lw_at lw_m3 95 rfl) rfl
theorem q642 : (Jvm.Cond.fieldLink "CuttingRoom" (138 : Nat) "CuttingRoom$Rule" "QUARTER" "LCuttingRoom$Rule;") ∈ lw_all := lw_g (lw_at lw_m3 97 rfl) rfl
theorem q645 : (Jvm.Cond.methodLink "CuttingRoom" (155 : Nat) ({ cls := "CuttingRoom$Shape", name := "<init>", desc := "(LCuttingRoom$Rule;Z)V" } : Jvm.MethodName)) ∈ lw_all := lw_g (lw_at lw_m3 100 rfl) rfl
theorem q705 : (Jvm.Cond.fieldLinkNest "CuttingRoom" (230 : Nat) "CuttingRoom$Shape" "rule" "LCuttingRoom$Rule;" "CuttingRoom") ∈ lw_tbl := lw_at lw_m3 160 rfl
theorem q708 : (Jvm.Cond.fieldLinkNest "CuttingRoom" (337 : Nat) "CuttingRoom$Shape" "isPaired" "Z" "CuttingRoom") ∈ lw_tbl := lw_at lw_m3 163 rfl
theorem q712 : (Jvm.Cond.fieldLinkNest "CuttingRoom" (181 : Nat) "CuttingRoom$Shape" "cells" "Ljava/util/List;" "CuttingRoom") ∈ lw_tbl := lw_at lw_m3 167 rfl
theorem q715 : (Jvm.Cond.fieldLinkNest "CuttingRoom" (192 : Nat) "CuttingRoom$Shape" "group" "I" "CuttingRoom") ∈ lw_tbl := lw_at lw_m3 170 rfl
theorem q718 : (Jvm.Cond.fieldLinkNest "CuttingRoom" (195 : Nat) "CuttingRoom$Shape" "mark" "LCuttingRoom$Cell;" "CuttingRoom") ∈ lw_tbl := lw_at lw_m3 173 rfl
theorem q720 : (Jvm.Cond.fieldLinkNest "CuttingRoom" (373 : Nat) "CuttingRoom$Shape" "plain" "I" "CuttingRoom") ∈ lw_tbl := lw_at lw_m3 175 rfl
theorem q722 : (Jvm.Cond.fieldLinkNest "CuttingRoom" (380 : Nat) "CuttingRoom$Shape" "mirrored" "I" "CuttingRoom") ∈ lw_tbl := lw_at lw_m3 177 rfl
theorem q723 : (Jvm.Cond.fieldLinkNest "CuttingRoom" (177 : Nat) "CuttingRoom$Shape" "wasCut" "Z" "CuttingRoom") ∈ lw_tbl := lw_at lw_m3 178 rfl
theorem q744 : (Jvm.Cond.interfaceEntry "CuttingRoom" (158 : Nat)) ∈ lw_tbl := lw_at lw_m3 199 rfl
theorem q745 : (Jvm.Cond.methodLink "CuttingRoom" (158 : Nat) ({ cls := "java/util/List", name := "add", desc := "(Ljava/lang/Object;)Z" } : Jvm.MethodName)) ∈ lw_all := lw_g (lw_at lw_m3 200 rfl) rfl
theorem q781 : (Jvm.Cond.selects "CuttingRoom" ({ cls := "java/lang/Object", name := "getClass", desc := "()Ljava/lang/Class;" } : Jvm.MethodName) ({ cls := "java/lang/Object", name := "getClass", desc := "()Ljava/lang/Class;" } : Jvm.MethodName)) ∈ lw_all := lw_g (lw_at lw_m3 236 rfl) rfl
theorem q854 : (Jvm.Cond.instanceMethod ({ cls := "CuttingRoom", name := "addCell", desc := "(III)I" } : Jvm.MethodName)) ∈ lw_all := lw_g (lw_at lw_m4 69 rfl) rfl
theorem q855 : (Jvm.Cond.selects "CuttingRoom" ({ cls := "CuttingRoom", name := "addCell", desc := "(III)I" } : Jvm.MethodName) ({ cls := "CuttingRoom", name := "addCell", desc := "(III)I" } : Jvm.MethodName)) ∈ lw_all := lw_g (lw_at lw_m4 70 rfl) rfl
theorem q856 : (Jvm.Cond.code ({ cls := "CuttingRoom", name := "addCell", desc := "(III)I" } : Jvm.MethodName) prog_1_method_15_code (5 : Nat) (Option.some Jvm.ClassFile.FieldType.int)) ∈ lw_all := lw_g (lw_at lw_m4 71 rfl) rfl
theorem q857 : (Jvm.Cond.methodLink "CuttingRoom" (162 : Nat) ({ cls := "CuttingRoom", name := "checkedShape", desc := "(I)LCuttingRoom$Shape;" } : Jvm.MethodName)) ∈ lw_all := lw_g (lw_at lw_m4 72 rfl) rfl
theorem q858 : (Jvm.Cond.privateMethod ({ cls := "CuttingRoom", name := "checkedShape", desc := "(I)LCuttingRoom$Shape;" } : Jvm.MethodName)) ∈ lw_tbl := lw_at lw_m4 73 rfl
theorem q859 : (Jvm.Cond.instanceMethod ({ cls := "CuttingRoom", name := "checkedShape", desc := "(I)LCuttingRoom$Shape;" } : Jvm.MethodName)) ∈ lw_all := lw_g (lw_at lw_m4 74 rfl) rfl
theorem q860 : (Jvm.Cond.code ({ cls := "CuttingRoom", name := "checkedShape", desc := "(I)LCuttingRoom$Shape;" } : Jvm.MethodName) prog_1_method_7_code (2 : Nat) (Option.some (Jvm.ClassFile.FieldType.object "CuttingRoom$Shape"))) ∈ lw_all := lw_g (lw_at lw_m4 75 rfl) rfl
theorem q861 : (Jvm.Cond.methodLink "CuttingRoom" (94 : Nat) ({ cls := "CuttingRoom", name := "checkedIndex", desc := "(Ljava/util/List;I)Ljava/lang/Object;" } : Jvm.MethodName)) ∈ lw_all := lw_g (lw_at lw_m4 76 rfl) rfl
theorem q862 : (Jvm.Cond.static ({ cls := "CuttingRoom", name := "checkedIndex", desc := "(Ljava/util/List;I)Ljava/lang/Object;" } : Jvm.MethodName)) ∈ lw_all := lw_g (lw_at lw_m4 77 rfl) rfl
theorem q863 : (Jvm.Cond.code ({ cls := "CuttingRoom", name := "checkedIndex", desc := "(Ljava/util/List;I)Ljava/lang/Object;" } : Jvm.MethodName) prog_1_method_6_code (2 : Nat) (Option.some (Jvm.ClassFile.FieldType.object "java/lang/Object"))) ∈ lw_all := lw_g (lw_at lw_m4 78 rfl) rfl
theorem q864 : (Jvm.Cond.classLink "CuttingRoom" (87 : Nat) "java/lang/IndexOutOfBoundsException") ∈ lw_all := lw_g (lw_at lw_m4 79 rfl) rfl
theorem q873 : (Jvm.Cond.methodLink "CuttingRoom" (89 : Nat) ({ cls := "java/lang/IndexOutOfBoundsException", name := "<init>", desc := "()V" } : Jvm.MethodName)) ∈ lw_all := lw_g (lw_at lw_m4 88 rfl) rfl
theorem q879 : (Jvm.Cond.methodLink "CuttingRoom" (166 : Nat) ({ cls := "CuttingRoom", name := "isInSquare", desc := "(II)Z" } : Jvm.MethodName)) ∈ lw_all := lw_g (lw_at lw_m4 94 rfl) rfl
theorem q880 : (Jvm.Cond.static ({ cls := "CuttingRoom", name := "isInSquare", desc := "(II)Z" } : Jvm.MethodName)) ∈ lw_all := lw_g (lw_at lw_m4 95 rfl) rfl
theorem q881 : (Jvm.Cond.code ({ cls := "CuttingRoom", name := "isInSquare", desc := "(II)Z" } : Jvm.MethodName) prog_1_method_14_code (2 : Nat) (Option.some Jvm.ClassFile.FieldType.boolean)) ∈ lw_all := lw_g (lw_at lw_m4 96 rfl) rfl
theorem q882 : (Jvm.Cond.methodLink "CuttingRoom" (170 : Nat) ({ cls := "CuttingRoom$Shape", name := "hasCell", desc := "(II)Z" } : Jvm.MethodName)) ∈ lw_all := lw_g (lw_at lw_m4 97 rfl) rfl
theorem q894 : (Jvm.Cond.methodLink "CuttingRoom" (173 : Nat) ({ cls := "CuttingRoom", name := "isInMarker", desc := "(LCuttingRoom$Shape;)Z" } : Jvm.MethodName)) ∈ lw_all := lw_g (lw_at lw_m4 109 rfl) rfl
theorem q895 : (Jvm.Cond.privateMethod ({ cls := "CuttingRoom", name := "isInMarker", desc := "(LCuttingRoom$Shape;)Z" } : Jvm.MethodName)) ∈ lw_tbl := lw_at lw_m4 110 rfl
theorem q896 : (Jvm.Cond.instanceMethod ({ cls := "CuttingRoom", name := "isInMarker", desc := "(LCuttingRoom$Shape;)Z" } : Jvm.MethodName)) ∈ lw_all := lw_g (lw_at lw_m4 111 rfl) rfl
theorem q897 : (Jvm.Cond.code ({ cls := "CuttingRoom", name := "isInMarker", desc := "(LCuttingRoom$Shape;)Z" } : Jvm.MethodName) prog_1_method_12_code (4 : Nat) (Option.some Jvm.ClassFile.FieldType.boolean)) ∈ lw_all := lw_g (lw_at lw_m4 112 rfl) rfl
theorem q898 : (Jvm.Cond.classLink "CuttingRoom" (184 : Nat) "CuttingRoom$Cell") ∈ lw_all := lw_g (lw_at lw_m4 113 rfl) rfl
theorem q899 : (Jvm.Cond.methodLink "CuttingRoom" (186 : Nat) ({ cls := "CuttingRoom$Cell", name := "<init>", desc := "(II)V" } : Jvm.MethodName)) ∈ lw_all := lw_g (lw_at lw_m4 114 rfl) rfl
theorem q900 : (Jvm.Cond.methodLink "CuttingRoom" (189 : Nat) ({ cls := "CuttingRoom$Shape", name := "vary", desc := "()V" } : Jvm.MethodName)) ∈ lw_all := lw_g (lw_at lw_m4 115 rfl) rfl
theorem q905 : (Jvm.Cond.instanceMethod ({ cls := "CuttingRoom", name := "setMark", desc := "(IIII)I" } : Jvm.MethodName)) ∈ lw_all := lw_g (lw_at lw_m4 120 rfl) rfl
theorem q906 : (Jvm.Cond.selects "CuttingRoom" ({ cls := "CuttingRoom", name := "setMark", desc := "(IIII)I" } : Jvm.MethodName) ({ cls := "CuttingRoom", name := "setMark", desc := "(IIII)I" } : Jvm.MethodName)) ∈ lw_all := lw_g (lw_at lw_m4 121 rfl) rfl
theorem q907 : (Jvm.Cond.code ({ cls := "CuttingRoom", name := "setMark", desc := "(IIII)I" } : Jvm.MethodName) prog_1_method_16_code (7 : Nat) (Option.some Jvm.ClassFile.FieldType.int)) ∈ lw_all := lw_g (lw_at lw_m4 122 rfl) rfl
theorem q912 : (Jvm.Cond.instanceMethod ({ cls := "CuttingRoom", name := "cellsOf", desc := "(I)I" } : Jvm.MethodName)) ∈ lw_all := lw_g (lw_at lw_m4 127 rfl) rfl
theorem q913 : (Jvm.Cond.selects "CuttingRoom" ({ cls := "CuttingRoom", name := "cellsOf", desc := "(I)I" } : Jvm.MethodName) ({ cls := "CuttingRoom", name := "cellsOf", desc := "(I)I" } : Jvm.MethodName)) ∈ lw_all := lw_g (lw_at lw_m4 128 rfl) rfl
theorem q914 : (Jvm.Cond.code ({ cls := "CuttingRoom", name := "cellsOf", desc := "(I)I" } : Jvm.MethodName) prog_1_method_17_code (2 : Nat) (Option.some Jvm.ClassFile.FieldType.int)) ∈ lw_all := lw_g (lw_at lw_m4 129 rfl) rfl
theorem q919 : (Jvm.Cond.instanceMethod ({ cls := "CuttingRoom", name := "lay", desc := "(IIIIZ)I" } : Jvm.MethodName)) ∈ lw_all := lw_g (lw_at lw_m4 134 rfl) rfl
theorem q920 : (Jvm.Cond.selects "CuttingRoom" ({ cls := "CuttingRoom", name := "lay", desc := "(IIIIZ)I" } : Jvm.MethodName) ({ cls := "CuttingRoom", name := "lay", desc := "(IIIIZ)I" } : Jvm.MethodName)) ∈ lw_all := lw_g (lw_at lw_m4 135 rfl) rfl
theorem q921 : (Jvm.Cond.code ({ cls := "CuttingRoom", name := "lay", desc := "(IIIIZ)I" } : Jvm.MethodName) prog_1_method_31_code (6 : Nat) (Option.some Jvm.ClassFile.FieldType.int)) ∈ lw_all := lw_g (lw_at lw_m4 136 rfl) rfl
theorem q922 : (Jvm.Cond.methodLink "CuttingRoom" (267 : Nat) ({ cls := "CuttingRoom$Spot", name := "choose", desc := "(LCuttingRoom$Shape;Z)V" } : Jvm.MethodName)) ∈ lw_all := lw_g (lw_at lw_m4 137 rfl) rfl
theorem q926 : (Jvm.Cond.methodLink "CuttingRoom" (270 : Nat) ({ cls := "CuttingRoom", name := "checkTurns", desc := "(I)V" } : Jvm.MethodName)) ∈ lw_all := lw_g (lw_at lw_m4 141 rfl) rfl
theorem q927 : (Jvm.Cond.static ({ cls := "CuttingRoom", name := "checkTurns", desc := "(I)V" } : Jvm.MethodName)) ∈ lw_all := lw_g (lw_at lw_m4 142 rfl) rfl
theorem q928 : (Jvm.Cond.code ({ cls := "CuttingRoom", name := "checkTurns", desc := "(I)V" } : Jvm.MethodName) prog_1_method_30_code (1 : Nat) (Option.none : Option Jvm.ClassFile.FieldType)) ∈ lw_all := lw_g (lw_at lw_m4 143 rfl) rfl
theorem q929 : (Jvm.Cond.methodLink "CuttingRoom" (273 : Nat) ({ cls := "CuttingRoom$Spot", name := "move", desc := "(III)V" } : Jvm.MethodName)) ∈ lw_all := lw_g (lw_at lw_m4 144 rfl) rfl
theorem q933 : (Jvm.Cond.methodLink "CuttingRoom" (277 : Nat) ({ cls := "CuttingRoom", name := "findReason", desc := "(LCuttingRoom$Sheet;)C" } : Jvm.MethodName)) ∈ lw_all := lw_g (lw_at lw_m4 148 rfl) rfl
theorem q934 : (Jvm.Cond.privateMethod ({ cls := "CuttingRoom", name := "findReason", desc := "(LCuttingRoom$Sheet;)C" } : Jvm.MethodName)) ∈ lw_tbl := lw_at lw_m4 149 rfl
theorem q935 : (Jvm.Cond.instanceMethod ({ cls := "CuttingRoom", name := "findReason", desc := "(LCuttingRoom$Sheet;)C" } : Jvm.MethodName)) ∈ lw_all := lw_g (lw_at lw_m4 150 rfl) rfl
theorem q936 : (Jvm.Cond.code ({ cls := "CuttingRoom", name := "findReason", desc := "(LCuttingRoom$Sheet;)C" } : Jvm.MethodName) prog_1_method_28_code (7 : Nat) (Option.some Jvm.ClassFile.FieldType.char)) ∈ lw_all := lw_g (lw_at lw_m4 151 rfl) rfl
theorem q937 : (Jvm.Cond.interfaceEntry "CuttingRoom" (258 : Nat)) ∈ lw_tbl := lw_at lw_m4 152 rfl
theorem q938 : (Jvm.Cond.methodLink "CuttingRoom" (258 : Nat) ({ cls := "CuttingRoom$Hindrance", name := "find", desc := "(LCuttingRoom$Sheet;)C" } : Jvm.MethodName)) ∈ lw_all := lw_g (lw_at lw_m4 153 rfl) rfl
theorem q941 : (Jvm.Cond.methodLink "CuttingRoom" (280 : Nat) ({ cls := "CuttingRoom", name := "putIntoMarker", desc := "()I" } : Jvm.MethodName)) ∈ lw_all := lw_g (lw_at lw_m4 156 rfl) rfl
theorem q942 : (Jvm.Cond.privateMethod ({ cls := "CuttingRoom", name := "putIntoMarker", desc := "()I" } : Jvm.MethodName)) ∈ lw_tbl := lw_at lw_m4 157 rfl
theorem q943 : (Jvm.Cond.instanceMethod ({ cls := "CuttingRoom", name := "putIntoMarker", desc := "()I" } : Jvm.MethodName)) ∈ lw_all := lw_g (lw_at lw_m4 158 rfl) rfl
theorem q944 : (Jvm.Cond.code ({ cls := "CuttingRoom", name := "putIntoMarker", desc := "()I" } : Jvm.MethodName) prog_1_method_29_code (2 : Nat) (Option.some Jvm.ClassFile.FieldType.int)) ∈ lw_all := lw_g (lw_at lw_m4 159 rfl) rfl
theorem q946 : (Jvm.Cond.methodLink "CuttingRoom" (264 : Nat) ({ cls := "CuttingRoom$Piece", name := "<init>", desc := "(ILCuttingRoom$Spot;)V" } : Jvm.MethodName)) ∈ lw_all := lw_g (lw_at lw_m4 161 rfl) rfl
theorem q951 : (Jvm.Cond.fieldLinkNest "CuttingRoom" (119 : Nat) "CuttingRoom$Piece" "number" "I" "CuttingRoom") ∈ lw_tbl := lw_at lw_m4 166 rfl
theorem q954 : (Jvm.Cond.fieldLinkNest "CuttingRoom" (144 : Nat) "CuttingRoom$Piece" "shape" "LCuttingRoom$Shape;" "CuttingRoom") ∈ lw_tbl := lw_at lw_m4 169 rfl
theorem q957 : (Jvm.Cond.fieldLinkNest "CuttingRoom" (303 : Nat) "CuttingRoom$Piece" "turns" "I" "CuttingRoom") ∈ lw_tbl := lw_at lw_m4 172 rfl
theorem q960 : (Jvm.Cond.fieldLinkNest "CuttingRoom" (370 : Nat) "CuttingRoom$Piece" "isMirrored" "Z" "CuttingRoom") ∈ lw_tbl := lw_at lw_m4 175 rfl
theorem q963 : (Jvm.Cond.fieldLinkNest "CuttingRoom" (301 : Nat) "CuttingRoom$Piece" "row" "I" "CuttingRoom") ∈ lw_tbl := lw_at lw_m4 178 rfl
theorem q966 : (Jvm.Cond.fieldLinkNest "CuttingRoom" (302 : Nat) "CuttingRoom$Piece" "column" "I" "CuttingRoom") ∈ lw_tbl := lw_at lw_m4 181 rfl
theorem q980 : (Jvm.Cond.methodLink "CuttingRoom" (222 : Nat) ({ cls := "CuttingRoom$Sheet", name := "put", desc := "(I)V" } : Jvm.MethodName)) ∈ lw_all := lw_g (lw_at lw_m4 195 rfl) rfl
theorem q989 : (Jvm.Cond.instanceMethod ({ cls := "CuttingRoom", name := "reason", desc := "(IIIIZ)C" } : Jvm.MethodName)) ∈ lw_all := lw_g (lw_at lw_m4 204 rfl) rfl
theorem q990 : (Jvm.Cond.selects "CuttingRoom" ({ cls := "CuttingRoom", name := "reason", desc := "(IIIIZ)C" } : Jvm.MethodName) ({ cls := "CuttingRoom", name := "reason", desc := "(IIIIZ)C" } : Jvm.MethodName)) ∈ lw_all := lw_g (lw_at lw_m4 205 rfl) rfl
theorem q991 : (Jvm.Cond.code ({ cls := "CuttingRoom", name := "reason", desc := "(IIIIZ)C" } : Jvm.MethodName) prog_1_method_32_code (6 : Nat) (Option.some Jvm.ClassFile.FieldType.char)) ∈ lw_all := lw_g (lw_at lw_m4 206 rfl) rfl
theorem q997 : (Jvm.Cond.instanceMethod ({ cls := "CuttingRoom", name := "nest", desc := "(IZ)I" } : Jvm.MethodName)) ∈ lw_all := lw_g (lw_at lw_m4 212 rfl) rfl
theorem q998 : (Jvm.Cond.selects "CuttingRoom" ({ cls := "CuttingRoom", name := "nest", desc := "(IZ)I" } : Jvm.MethodName) ({ cls := "CuttingRoom", name := "nest", desc := "(IZ)I" } : Jvm.MethodName)) ∈ lw_all := lw_g (lw_at lw_m4 213 rfl) rfl
theorem q999 : (Jvm.Cond.code ({ cls := "CuttingRoom", name := "nest", desc := "(IZ)I" } : Jvm.MethodName) prog_1_method_34_code (3 : Nat) (Option.some Jvm.ClassFile.FieldType.int)) ∈ lw_all := lw_g (lw_at lw_m4 214 rfl) rfl
theorem q1000 : (Jvm.Cond.methodLink "CuttingRoom" (283 : Nat) ({ cls := "CuttingRoom", name := "findNest", desc := "(LCuttingRoom$Sheet;)Z" } : Jvm.MethodName)) ∈ lw_all := lw_g (lw_at lw_m4 215 rfl) rfl
theorem q1001 : (Jvm.Cond.privateMethod ({ cls := "CuttingRoom", name := "findNest", desc := "(LCuttingRoom$Sheet;)Z" } : Jvm.MethodName)) ∈ lw_tbl := lw_at lw_m4 216 rfl
theorem q1002 : (Jvm.Cond.instanceMethod ({ cls := "CuttingRoom", name := "findNest", desc := "(LCuttingRoom$Sheet;)Z" } : Jvm.MethodName)) ∈ lw_all := lw_g (lw_at lw_m4 217 rfl) rfl
theorem q1003 : (Jvm.Cond.code ({ cls := "CuttingRoom", name := "findNest", desc := "(LCuttingRoom$Sheet;)Z" } : Jvm.MethodName) prog_1_method_33_code (5 : Nat) (Option.some Jvm.ClassFile.FieldType.boolean)) ∈ lw_all := lw_g (lw_at lw_m4 218 rfl) rfl
theorem q1008 : (Jvm.Cond.instanceMethod ({ cls := "CuttingRoom", name := "takeOff", desc := "(I)I" } : Jvm.MethodName)) ∈ lw_all := lw_g (lw_at lw_m4 223 rfl) rfl
theorem q1009 : (Jvm.Cond.selects "CuttingRoom" ({ cls := "CuttingRoom", name := "takeOff", desc := "(I)I" } : Jvm.MethodName) ({ cls := "CuttingRoom", name := "takeOff", desc := "(I)I" } : Jvm.MethodName)) ∈ lw_all := lw_g (lw_at lw_m4 224 rfl) rfl
theorem q1010 : (Jvm.Cond.code ({ cls := "CuttingRoom", name := "takeOff", desc := "(I)I" } : Jvm.MethodName) prog_1_method_35_code (2 : Nat) (Option.some Jvm.ClassFile.FieldType.int)) ∈ lw_all := lw_g (lw_at lw_m4 225 rfl) rfl
theorem q1011 : (Jvm.Cond.interfaceEntry "CuttingRoom" (291 : Nat)) ∈ lw_tbl := lw_at lw_m4 226 rfl
theorem q1012 : (Jvm.Cond.methodLink "CuttingRoom" (291 : Nat) ({ cls := "java/util/List", name := "remove", desc := "(Ljava/lang/Object;)Z" } : Jvm.MethodName)) ∈ lw_all := lw_g (lw_at lw_m4 227 rfl) rfl
theorem q1024 : (Jvm.Cond.selects "CuttingRoom" ({ cls := "java/lang/Object", name := "equals", desc := "(Ljava/lang/Object;)Z" } : Jvm.MethodName) ({ cls := "java/lang/Object", name := "equals", desc := "(Ljava/lang/Object;)Z" } : Jvm.MethodName)) ∈ lw_all := lw_g (lw_at lw_m4 239 rfl) rfl
theorem q1053 : (Jvm.Cond.methodLink "CuttingRoom" (294 : Nat) ({ cls := "CuttingRoom", name := "layAgain", desc := "()V" } : Jvm.MethodName)) ∈ lw_all := lw_g (lw_at lw_m5 28 rfl) rfl
theorem q1054 : (Jvm.Cond.privateMethod ({ cls := "CuttingRoom", name := "layAgain", desc := "()V" } : Jvm.MethodName)) ∈ lw_tbl := lw_at lw_m5 29 rfl
theorem q1055 : (Jvm.Cond.instanceMethod ({ cls := "CuttingRoom", name := "layAgain", desc := "()V" } : Jvm.MethodName)) ∈ lw_all := lw_g (lw_at lw_m5 30 rfl) rfl
theorem q1056 : (Jvm.Cond.code ({ cls := "CuttingRoom", name := "layAgain", desc := "()V" } : Jvm.MethodName) prog_1_method_24_code (3 : Nat) (Option.none : Option Jvm.ClassFile.FieldType)) ∈ lw_all := lw_g (lw_at lw_m5 31 rfl) rfl
theorem q1057 : (Jvm.Cond.methodLink "CuttingRoom" (218 : Nat) ({ cls := "CuttingRoom$Spot", name := "choose", desc := "(LCuttingRoom$Piece;)V" } : Jvm.MethodName)) ∈ lw_all := lw_g (lw_at lw_m5 32 rfl) rfl
theorem q1067 : (Jvm.Cond.instanceMethod ({ cls := "CuttingRoom", name := "rowOf", desc := "(I)I" } : Jvm.MethodName)) ∈ lw_all := lw_g (lw_at lw_m5 42 rfl) rfl
theorem q1068 : (Jvm.Cond.selects "CuttingRoom" ({ cls := "CuttingRoom", name := "rowOf", desc := "(I)I" } : Jvm.MethodName) ({ cls := "CuttingRoom", name := "rowOf", desc := "(I)I" } : Jvm.MethodName)) ∈ lw_all := lw_g (lw_at lw_m5 43 rfl) rfl
theorem q1069 : (Jvm.Cond.code ({ cls := "CuttingRoom", name := "rowOf", desc := "(I)I" } : Jvm.MethodName) prog_1_method_38_code (2 : Nat) (Option.some Jvm.ClassFile.FieldType.int)) ∈ lw_all := lw_g (lw_at lw_m5 44 rfl) rfl
theorem q1074 : (Jvm.Cond.instanceMethod ({ cls := "CuttingRoom", name := "columnOf", desc := "(I)I" } : Jvm.MethodName)) ∈ lw_all := lw_g (lw_at lw_m5 49 rfl) rfl
theorem q1075 : (Jvm.Cond.selects "CuttingRoom" ({ cls := "CuttingRoom", name := "columnOf", desc := "(I)I" } : Jvm.MethodName) ({ cls := "CuttingRoom", name := "columnOf", desc := "(I)I" } : Jvm.MethodName)) ∈ lw_all := lw_g (lw_at lw_m5 50 rfl) rfl
theorem q1076 : (Jvm.Cond.code ({ cls := "CuttingRoom", name := "columnOf", desc := "(I)I" } : Jvm.MethodName) prog_1_method_39_code (2 : Nat) (Option.some Jvm.ClassFile.FieldType.int)) ∈ lw_all := lw_g (lw_at lw_m5 51 rfl) rfl
theorem q1081 : (Jvm.Cond.instanceMethod ({ cls := "CuttingRoom", name := "turnsOf", desc := "(I)I" } : Jvm.MethodName)) ∈ lw_all := lw_g (lw_at lw_m5 56 rfl) rfl
theorem q1082 : (Jvm.Cond.selects "CuttingRoom" ({ cls := "CuttingRoom", name := "turnsOf", desc := "(I)I" } : Jvm.MethodName) ({ cls := "CuttingRoom", name := "turnsOf", desc := "(I)I" } : Jvm.MethodName)) ∈ lw_all := lw_g (lw_at lw_m5 57 rfl) rfl
theorem q1083 : (Jvm.Cond.code ({ cls := "CuttingRoom", name := "turnsOf", desc := "(I)I" } : Jvm.MethodName) prog_1_method_40_code (2 : Nat) (Option.some Jvm.ClassFile.FieldType.int)) ∈ lw_all := lw_g (lw_at lw_m5 58 rfl) rfl
theorem q1088 : (Jvm.Cond.instanceMethod ({ cls := "CuttingRoom", name := "pieceAt", desc := "(II)I" } : Jvm.MethodName)) ∈ lw_all := lw_g (lw_at lw_m5 63 rfl) rfl
theorem q1089 : (Jvm.Cond.selects "CuttingRoom" ({ cls := "CuttingRoom", name := "pieceAt", desc := "(II)I" } : Jvm.MethodName) ({ cls := "CuttingRoom", name := "pieceAt", desc := "(II)I" } : Jvm.MethodName)) ∈ lw_all := lw_g (lw_at lw_m5 64 rfl) rfl
theorem q1090 : (Jvm.Cond.code ({ cls := "CuttingRoom", name := "pieceAt", desc := "(II)I" } : Jvm.MethodName) prog_1_method_42_code (3 : Nat) (Option.some Jvm.ClassFile.FieldType.int)) ∈ lw_all := lw_g (lw_at lw_m5 65 rfl) rfl
theorem q1091 : (Jvm.Cond.methodLink "CuttingRoom" (304 : Nat) ({ cls := "CuttingRoom", name := "checkCell", desc := "(II)V" } : Jvm.MethodName)) ∈ lw_all := lw_g (lw_at lw_m5 66 rfl) rfl
theorem q1092 : (Jvm.Cond.static ({ cls := "CuttingRoom", name := "checkCell", desc := "(II)V" } : Jvm.MethodName)) ∈ lw_all := lw_g (lw_at lw_m5 67 rfl) rfl
theorem q1093 : (Jvm.Cond.code ({ cls := "CuttingRoom", name := "checkCell", desc := "(II)V" } : Jvm.MethodName) prog_1_method_41_code (2 : Nat) (Option.none : Option Jvm.ClassFile.FieldType)) ∈ lw_all := lw_g (lw_at lw_m5 68 rfl) rfl
theorem q1098 : (Jvm.Cond.instanceMethod ({ cls := "CuttingRoom", name := "pieceByPieces", desc := "(II)I" } : Jvm.MethodName)) ∈ lw_all := lw_g (lw_at lw_m5 73 rfl) rfl
theorem q1099 : (Jvm.Cond.selects "CuttingRoom" ({ cls := "CuttingRoom", name := "pieceByPieces", desc := "(II)I" } : Jvm.MethodName) ({ cls := "CuttingRoom", name := "pieceByPieces", desc := "(II)I" } : Jvm.MethodName)) ∈ lw_all := lw_g (lw_at lw_m5 74 rfl) rfl
theorem q1100 : (Jvm.Cond.code ({ cls := "CuttingRoom", name := "pieceByPieces", desc := "(II)I" } : Jvm.MethodName) prog_1_method_43_code (5 : Nat) (Option.some Jvm.ClassFile.FieldType.int)) ∈ lw_all := lw_g (lw_at lw_m5 75 rfl) rfl
theorem q1105 : (Jvm.Cond.instanceMethod ({ cls := "CuttingRoom", name := "phase", desc := "(I)I" } : Jvm.MethodName)) ∈ lw_all := lw_g (lw_at lw_m5 80 rfl) rfl
theorem q1106 : (Jvm.Cond.selects "CuttingRoom" ({ cls := "CuttingRoom", name := "phase", desc := "(I)I" } : Jvm.MethodName) ({ cls := "CuttingRoom", name := "phase", desc := "(I)I" } : Jvm.MethodName)) ∈ lw_all := lw_g (lw_at lw_m5 81 rfl) rfl
theorem q1107 : (Jvm.Cond.code ({ cls := "CuttingRoom", name := "phase", desc := "(I)I" } : Jvm.MethodName) prog_1_method_47_code (2 : Nat) (Option.some Jvm.ClassFile.FieldType.int)) ∈ lw_all := lw_g (lw_at lw_m5 82 rfl) rfl
theorem q1112 : (Jvm.Cond.instanceMethod ({ cls := "CuttingRoom", name := "addStyle", desc := "()I" } : Jvm.MethodName)) ∈ lw_all := lw_g (lw_at lw_m5 87 rfl) rfl
theorem q1113 : (Jvm.Cond.selects "CuttingRoom" ({ cls := "CuttingRoom", name := "addStyle", desc := "()I" } : Jvm.MethodName) ({ cls := "CuttingRoom", name := "addStyle", desc := "()I" } : Jvm.MethodName)) ∈ lw_all := lw_g (lw_at lw_m5 88 rfl) rfl
theorem q1114 : (Jvm.Cond.code ({ cls := "CuttingRoom", name := "addStyle", desc := "()I" } : Jvm.MethodName) prog_1_method_48_code (1 : Nat) (Option.some Jvm.ClassFile.FieldType.int)) ∈ lw_all := lw_g (lw_at lw_m5 89 rfl) rfl
theorem q1116 : (Jvm.Cond.methodLinkNest "CuttingRoom" (317 : Nat) ({ cls := "CuttingRoom$Style", name := "<init>", desc := "()V" } : Jvm.MethodName) "CuttingRoom") ∈ lw_tbl := lw_at lw_m5 91 rfl
theorem q1123 : (Jvm.Cond.fieldLinkNest "CuttingRoom" (106 : Nat) "CuttingRoom$Style" "parts" "Ljava/util/List;" "CuttingRoom") ∈ lw_tbl := lw_at lw_m5 98 rfl
theorem q1124 : (Jvm.Cond.fieldLinkNest "CuttingRoom" (321 : Nat) "CuttingRoom$Style" "made" "I" "CuttingRoom") ∈ lw_tbl := lw_at lw_m5 99 rfl
theorem q1134 : (Jvm.Cond.instanceMethod ({ cls := "CuttingRoom", name := "addPart", desc := "(III)I" } : Jvm.MethodName)) ∈ lw_all := lw_g (lw_at lw_m5 109 rfl) rfl
theorem q1135 : (Jvm.Cond.selects "CuttingRoom" ({ cls := "CuttingRoom", name := "addPart", desc := "(III)I" } : Jvm.MethodName) ({ cls := "CuttingRoom", name := "addPart", desc := "(III)I" } : Jvm.MethodName)) ∈ lw_all := lw_g (lw_at lw_m5 110 rfl) rfl
theorem q1136 : (Jvm.Cond.code ({ cls := "CuttingRoom", name := "addPart", desc := "(III)I" } : Jvm.MethodName) prog_1_method_49_code (6 : Nat) (Option.some Jvm.ClassFile.FieldType.int)) ∈ lw_all := lw_g (lw_at lw_m5 111 rfl) rfl
theorem q1137 : (Jvm.Cond.methodLink "CuttingRoom" (102 : Nat) ({ cls := "CuttingRoom", name := "checkedStyle", desc := "(I)LCuttingRoom$Style;" } : Jvm.MethodName)) ∈ lw_all := lw_g (lw_at lw_m5 112 rfl) rfl
theorem q1138 : (Jvm.Cond.privateMethod ({ cls := "CuttingRoom", name := "checkedStyle", desc := "(I)LCuttingRoom$Style;" } : Jvm.MethodName)) ∈ lw_tbl := lw_at lw_m5 113 rfl
theorem q1139 : (Jvm.Cond.instanceMethod ({ cls := "CuttingRoom", name := "checkedStyle", desc := "(I)LCuttingRoom$Style;" } : Jvm.MethodName)) ∈ lw_all := lw_g (lw_at lw_m5 114 rfl) rfl
theorem q1140 : (Jvm.Cond.code ({ cls := "CuttingRoom", name := "checkedStyle", desc := "(I)LCuttingRoom$Style;" } : Jvm.MethodName) prog_1_method_8_code (2 : Nat) (Option.some (Jvm.ClassFile.FieldType.object "CuttingRoom$Style"))) ∈ lw_all := lw_g (lw_at lw_m5 115 rfl) rfl
theorem q1141 : (Jvm.Cond.methodLink "CuttingRoom" (318 : Nat) ({ cls := "CuttingRoom$Style", name := "hasShape", desc := "(LCuttingRoom$Shape;)Z" } : Jvm.MethodName)) ∈ lw_all := lw_g (lw_at lw_m5 116 rfl) rfl
theorem q1145 : (Jvm.Cond.classLink "CuttingRoom" (324 : Nat) "CuttingRoom$Part") ∈ lw_all := lw_g (lw_at lw_m5 120 rfl) rfl
theorem q1147 : (Jvm.Cond.methodLink "CuttingRoom" (326 : Nat) ({ cls := "CuttingRoom$Part", name := "<init>", desc := "(LCuttingRoom$Shape;I)V" } : Jvm.MethodName)) ∈ lw_all := lw_g (lw_at lw_m5 122 rfl) rfl
theorem q1153 : (Jvm.Cond.fieldLinkNest "CuttingRoom" (336 : Nat) "CuttingRoom$Part" "shape" "LCuttingRoom$Shape;" "CuttingRoom") ∈ lw_tbl := lw_at lw_m5 128 rfl
theorem q1156 : (Jvm.Cond.fieldLinkNest "CuttingRoom" (340 : Nat) "CuttingRoom$Part" "count" "I" "CuttingRoom") ∈ lw_tbl := lw_at lw_m5 131 rfl
theorem q1166 : (Jvm.Cond.instanceMethod ({ cls := "CuttingRoom", name := "piecesFor", desc := "(I)I" } : Jvm.MethodName)) ∈ lw_all := lw_g (lw_at lw_m5 141 rfl) rfl
theorem q1167 : (Jvm.Cond.selects "CuttingRoom" ({ cls := "CuttingRoom", name := "piecesFor", desc := "(I)I" } : Jvm.MethodName) ({ cls := "CuttingRoom", name := "piecesFor", desc := "(I)I" } : Jvm.MethodName)) ∈ lw_all := lw_g (lw_at lw_m5 142 rfl) rfl
theorem q1168 : (Jvm.Cond.code ({ cls := "CuttingRoom", name := "piecesFor", desc := "(I)I" } : Jvm.MethodName) prog_1_method_50_code (2 : Nat) (Option.some Jvm.ClassFile.FieldType.int)) ∈ lw_all := lw_g (lw_at lw_m5 143 rfl) rfl
theorem q1173 : (Jvm.Cond.instanceMethod ({ cls := "CuttingRoom", name := "nestedLength", desc := "(I)I" } : Jvm.MethodName)) ∈ lw_all := lw_g (lw_at lw_m5 148 rfl) rfl
theorem q1174 : (Jvm.Cond.selects "CuttingRoom" ({ cls := "CuttingRoom", name := "nestedLength", desc := "(I)I" } : Jvm.MethodName) ({ cls := "CuttingRoom", name := "nestedLength", desc := "(I)I" } : Jvm.MethodName)) ∈ lw_all := lw_g (lw_at lw_m5 149 rfl) rfl
theorem q1175 : (Jvm.Cond.code ({ cls := "CuttingRoom", name := "nestedLength", desc := "(I)I" } : Jvm.MethodName) prog_1_method_54_code (2 : Nat) (Option.some Jvm.ClassFile.FieldType.int)) ∈ lw_all := lw_g (lw_at lw_m5 150 rfl) rfl
theorem q1176 : (Jvm.Cond.methodLink "CuttingRoom" (362 : Nat) ({ cls := "CuttingRoom", name := "findLeast", desc := "(IZ)I" } : Jvm.MethodName)) ∈ lw_all := lw_g (lw_at lw_m5 151 rfl) rfl
theorem q1177 : (Jvm.Cond.privateMethod ({ cls := "CuttingRoom", name := "findLeast", desc := "(IZ)I" } : Jvm.MethodName)) ∈ lw_tbl := lw_at lw_m5 152 rfl
theorem q1178 : (Jvm.Cond.instanceMethod ({ cls := "CuttingRoom", name := "findLeast", desc := "(IZ)I" } : Jvm.MethodName)) ∈ lw_all := lw_g (lw_at lw_m5 153 rfl) rfl
theorem q1179 : (Jvm.Cond.code ({ cls := "CuttingRoom", name := "findLeast", desc := "(IZ)I" } : Jvm.MethodName) prog_1_method_53_code (5 : Nat) (Option.some Jvm.ClassFile.FieldType.int)) ∈ lw_all := lw_g (lw_at lw_m5 154 rfl) rfl
theorem q1180 : (Jvm.Cond.methodLink "CuttingRoom" (347 : Nat) ({ cls := "CuttingRoom", name := "sortsFor", desc := "(LCuttingRoom$Style;)Ljava/util/List;" } : Jvm.MethodName)) ∈ lw_all := lw_g (lw_at lw_m5 155 rfl) rfl
theorem q1181 : (Jvm.Cond.privateMethod ({ cls := "CuttingRoom", name := "sortsFor", desc := "(LCuttingRoom$Style;)Ljava/util/List;" } : Jvm.MethodName)) ∈ lw_tbl := lw_at lw_m5 156 rfl
theorem q1182 : (Jvm.Cond.instanceMethod ({ cls := "CuttingRoom", name := "sortsFor", desc := "(LCuttingRoom$Style;)Ljava/util/List;" } : Jvm.MethodName)) ∈ lw_all := lw_g (lw_at lw_m5 157 rfl) rfl
theorem q1183 : (Jvm.Cond.code ({ cls := "CuttingRoom", name := "sortsFor", desc := "(LCuttingRoom$Style;)Ljava/util/List;" } : Jvm.MethodName) prog_1_method_52_code (6 : Nat) (Option.some (Jvm.ClassFile.FieldType.object "java/util/List"))) ∈ lw_all := lw_g (lw_at lw_m5 158 rfl) rfl
theorem q1184 : (Jvm.Cond.methodLink "CuttingRoom" (343 : Nat) ({ cls := "CuttingRoom", name := "addSorts", desc := "(Ljava/util/List;LCuttingRoom$Shape;ZI)V" } : Jvm.MethodName)) ∈ lw_all := lw_g (lw_at lw_m5 159 rfl) rfl
theorem q1185 : (Jvm.Cond.static ({ cls := "CuttingRoom", name := "addSorts", desc := "(Ljava/util/List;LCuttingRoom$Shape;ZI)V" } : Jvm.MethodName)) ∈ lw_all := lw_g (lw_at lw_m5 160 rfl) rfl
theorem q1186 : (Jvm.Cond.code ({ cls := "CuttingRoom", name := "addSorts", desc := "(Ljava/util/List;LCuttingRoom$Shape;ZI)V" } : Jvm.MethodName) prog_1_method_51_code (5 : Nat) (Option.none : Option Jvm.ClassFile.FieldType)) ∈ lw_all := lw_g (lw_at lw_m5 161 rfl) rfl
theorem q1187 : (Jvm.Cond.classLink "CuttingRoom" (332 : Nat) "CuttingRoom$Sort") ∈ lw_all := lw_g (lw_at lw_m5 162 rfl) rfl
theorem q1189 : (Jvm.Cond.methodLink "CuttingRoom" (334 : Nat) ({ cls := "CuttingRoom$Sort", name := "<init>", desc := "(LCuttingRoom$Shape;Z)V" } : Jvm.MethodName)) ∈ lw_all := lw_g (lw_at lw_m5 164 rfl) rfl
theorem q1202 : (Jvm.Cond.classLink "CuttingRoom" (351 : Nat) "CuttingRoom$Orders") ∈ lw_all := lw_g (lw_at lw_m5 177 rfl) rfl
theorem q1204 : (Jvm.Cond.methodLink "CuttingRoom" (353 : Nat) ({ cls := "CuttingRoom$Orders", name := "<init>", desc := "(LCuttingRoom;Ljava/util/List;Z)V" } : Jvm.MethodName)) ∈ lw_all := lw_g (lw_at lw_m5 179 rfl) rfl
theorem q1214 : (Jvm.Cond.fieldLinkNest "CuttingRoom" (359 : Nat) "CuttingRoom$Orders" "least" "I" "CuttingRoom") ∈ lw_tbl := lw_at lw_m5 189 rfl
theorem q1227 : (Jvm.Cond.methodLink "CuttingRoom" (356 : Nat) ({ cls := "CuttingRoom$Orders", name := "tryFrom", desc := "(I)V" } : Jvm.MethodName)) ∈ lw_all := lw_g (lw_at lw_m5 202 rfl) rfl
theorem q1252 : (Jvm.Cond.instanceMethod ({ cls := "CuttingRoom", name := "nestedByTrying", desc := "(I)I" } : Jvm.MethodName)) ∈ lw_all := lw_g (lw_at lw_m5 227 rfl) rfl
theorem q1253 : (Jvm.Cond.selects "CuttingRoom" ({ cls := "CuttingRoom", name := "nestedByTrying", desc := "(I)I" } : Jvm.MethodName) ({ cls := "CuttingRoom", name := "nestedByTrying", desc := "(I)I" } : Jvm.MethodName)) ∈ lw_all := lw_g (lw_at lw_m5 228 rfl) rfl
theorem q1254 : (Jvm.Cond.code ({ cls := "CuttingRoom", name := "nestedByTrying", desc := "(I)I" } : Jvm.MethodName) prog_1_method_55_code (2 : Nat) (Option.some Jvm.ClassFile.FieldType.int)) ∈ lw_all := lw_g (lw_at lw_m5 229 rfl) rfl
theorem q1259 : (Jvm.Cond.instanceMethod ({ cls := "CuttingRoom", name := "addCloth", desc := "(I)I" } : Jvm.MethodName)) ∈ lw_all := lw_g (lw_at lw_m5 234 rfl) rfl
theorem q1260 : (Jvm.Cond.selects "CuttingRoom" ({ cls := "CuttingRoom", name := "addCloth", desc := "(I)I" } : Jvm.MethodName) ({ cls := "CuttingRoom", name := "addCloth", desc := "(I)I" } : Jvm.MethodName)) ∈ lw_all := lw_g (lw_at lw_m5 235 rfl) rfl
theorem q1261 : (Jvm.Cond.code ({ cls := "CuttingRoom", name := "addCloth", desc := "(I)I" } : Jvm.MethodName) prog_1_method_56_code (2 : Nat) (Option.some Jvm.ClassFile.FieldType.int)) ∈ lw_all := lw_g (lw_at lw_m5 236 rfl) rfl
theorem q1262 : (Jvm.Cond.constant "CuttingRoom" (369 : Nat) (999999 : Int32)) ∈ lw_all := lw_g (lw_at lw_m5 237 rfl) rfl
theorem q1267 : (Jvm.Cond.instanceMethod ({ cls := "CuttingRoom", name := "spread", desc := "(I)I" } : Jvm.MethodName)) ∈ lw_all := lw_g (lw_at lw_m6 2 rfl) rfl
theorem q1268 : (Jvm.Cond.selects "CuttingRoom" ({ cls := "CuttingRoom", name := "spread", desc := "(I)I" } : Jvm.MethodName) ({ cls := "CuttingRoom", name := "spread", desc := "(I)I" } : Jvm.MethodName)) ∈ lw_all := lw_g (lw_at lw_m6 3 rfl) rfl
theorem q1269 : (Jvm.Cond.code ({ cls := "CuttingRoom", name := "spread", desc := "(I)I" } : Jvm.MethodName) prog_1_method_60_code (7 : Nat) (Option.some Jvm.ClassFile.FieldType.int)) ∈ lw_all := lw_g (lw_at lw_m6 4 rfl) rfl
theorem q1270 : (Jvm.Cond.methodLink "CuttingRoom" (383 : Nat) ({ cls := "CuttingRoom", name := "hasRoomFor", desc := "(I)Z" } : Jvm.MethodName)) ∈ lw_all := lw_g (lw_at lw_m6 5 rfl) rfl
theorem q1271 : (Jvm.Cond.privateMethod ({ cls := "CuttingRoom", name := "hasRoomFor", desc := "(I)Z" } : Jvm.MethodName)) ∈ lw_tbl := lw_at lw_m6 6 rfl
theorem q1272 : (Jvm.Cond.instanceMethod ({ cls := "CuttingRoom", name := "hasRoomFor", desc := "(I)Z" } : Jvm.MethodName)) ∈ lw_all := lw_g (lw_at lw_m6 7 rfl) rfl
theorem q1273 : (Jvm.Cond.code ({ cls := "CuttingRoom", name := "hasRoomFor", desc := "(I)Z" } : Jvm.MethodName) prog_1_method_59_code (4 : Nat) (Option.some Jvm.ClassFile.FieldType.boolean)) ∈ lw_all := lw_g (lw_at lw_m6 8 rfl) rfl
theorem q1274 : (Jvm.Cond.methodLink "CuttingRoom" (376 : Nat) ({ cls := "CuttingRoom", name := "givenBy", desc := "(LCuttingRoom$Shape;Z)I" } : Jvm.MethodName)) ∈ lw_all := lw_g (lw_at lw_m6 9 rfl) rfl
theorem q1275 : (Jvm.Cond.privateMethod ({ cls := "CuttingRoom", name := "givenBy", desc := "(LCuttingRoom$Shape;Z)I" } : Jvm.MethodName)) ∈ lw_tbl := lw_at lw_m6 10 rfl
theorem q1276 : (Jvm.Cond.instanceMethod ({ cls := "CuttingRoom", name := "givenBy", desc := "(LCuttingRoom$Shape;Z)I" } : Jvm.MethodName)) ∈ lw_all := lw_g (lw_at lw_m6 11 rfl) rfl
theorem q1277 : (Jvm.Cond.code ({ cls := "CuttingRoom", name := "givenBy", desc := "(LCuttingRoom$Shape;Z)I" } : Jvm.MethodName) prog_1_method_58_code (6 : Nat) (Option.some Jvm.ClassFile.FieldType.int)) ∈ lw_all := lw_g (lw_at lw_m6 12 rfl) rfl
theorem q1282 : (Jvm.Cond.instanceMethod ({ cls := "CuttingRoom", name := "pieces", desc := "(IZ)I" } : Jvm.MethodName)) ∈ lw_all := lw_g (lw_at lw_m6 17 rfl) rfl
theorem q1283 : (Jvm.Cond.selects "CuttingRoom" ({ cls := "CuttingRoom", name := "pieces", desc := "(IZ)I" } : Jvm.MethodName) ({ cls := "CuttingRoom", name := "pieces", desc := "(IZ)I" } : Jvm.MethodName)) ∈ lw_all := lw_g (lw_at lw_m6 18 rfl) rfl
theorem q1284 : (Jvm.Cond.code ({ cls := "CuttingRoom", name := "pieces", desc := "(IZ)I" } : Jvm.MethodName) prog_1_method_61_code (4 : Nat) (Option.some Jvm.ClassFile.FieldType.int)) ∈ lw_all := lw_g (lw_at lw_m6 19 rfl) rfl
theorem q1289 : (Jvm.Cond.instanceMethod ({ cls := "CuttingRoom", name := "canMake", desc := "(I)I" } : Jvm.MethodName)) ∈ lw_all := lw_g (lw_at lw_m6 24 rfl) rfl
theorem q1290 : (Jvm.Cond.selects "CuttingRoom" ({ cls := "CuttingRoom", name := "canMake", desc := "(I)I" } : Jvm.MethodName) ({ cls := "CuttingRoom", name := "canMake", desc := "(I)I" } : Jvm.MethodName)) ∈ lw_all := lw_g (lw_at lw_m6 25 rfl) rfl
theorem q1291 : (Jvm.Cond.code ({ cls := "CuttingRoom", name := "canMake", desc := "(I)I" } : Jvm.MethodName) prog_1_method_62_code (2 : Nat) (Option.some Jvm.ClassFile.FieldType.int)) ∈ lw_all := lw_g (lw_at lw_m6 26 rfl) rfl
theorem q1292 : (Jvm.Cond.methodLink "CuttingRoom" (390 : Nat) ({ cls := "CuttingRoom", name := "checkedStyleWithParts", desc := "(I)LCuttingRoom$Style;" } : Jvm.MethodName)) ∈ lw_all := lw_g (lw_at lw_m6 27 rfl) rfl
theorem q1293 : (Jvm.Cond.privateMethod ({ cls := "CuttingRoom", name := "checkedStyleWithParts", desc := "(I)LCuttingRoom$Style;" } : Jvm.MethodName)) ∈ lw_tbl := lw_at lw_m6 28 rfl
theorem q1294 : (Jvm.Cond.instanceMethod ({ cls := "CuttingRoom", name := "checkedStyleWithParts", desc := "(I)LCuttingRoom$Style;" } : Jvm.MethodName)) ∈ lw_all := lw_g (lw_at lw_m6 29 rfl) rfl
theorem q1295 : (Jvm.Cond.code ({ cls := "CuttingRoom", name := "checkedStyleWithParts", desc := "(I)LCuttingRoom$Style;" } : Jvm.MethodName) prog_1_method_9_code (3 : Nat) (Option.some (Jvm.ClassFile.FieldType.object "CuttingRoom$Style"))) ∈ lw_all := lw_g (lw_at lw_m6 30 rfl) rfl
theorem q1296 : (Jvm.Cond.methodLink "CuttingRoom" (393 : Nat) ({ cls := "CuttingRoom$Style", name := "canMake", desc := "()I" } : Jvm.MethodName)) ∈ lw_all := lw_g (lw_at lw_m6 31 rfl) rfl
theorem q1310 : (Jvm.Cond.instanceMethod ({ cls := "CuttingRoom", name := "canMakeByTaking", desc := "(I)I" } : Jvm.MethodName)) ∈ lw_all := lw_g (lw_at lw_m6 45 rfl) rfl
theorem q1311 : (Jvm.Cond.selects "CuttingRoom" ({ cls := "CuttingRoom", name := "canMakeByTaking", desc := "(I)I" } : Jvm.MethodName) ({ cls := "CuttingRoom", name := "canMakeByTaking", desc := "(I)I" } : Jvm.MethodName)) ∈ lw_all := lw_g (lw_at lw_m6 46 rfl) rfl
theorem q1312 : (Jvm.Cond.code ({ cls := "CuttingRoom", name := "canMakeByTaking", desc := "(I)I" } : Jvm.MethodName) prog_1_method_63_code (4 : Nat) (Option.some Jvm.ClassFile.FieldType.int)) ∈ lw_all := lw_g (lw_at lw_m6 47 rfl) rfl
theorem q1313 : (Jvm.Cond.methodLink "CuttingRoom" (396 : Nat) ({ cls := "CuttingRoom", name := "isEnoughFor", desc := "(LCuttingRoom$Style;II)Z" } : Jvm.MethodName)) ∈ lw_all := lw_g (lw_at lw_m6 48 rfl) rfl
theorem q1314 : (Jvm.Cond.privateMethod ({ cls := "CuttingRoom", name := "isEnoughFor", desc := "(LCuttingRoom$Style;II)Z" } : Jvm.MethodName)) ∈ lw_tbl := lw_at lw_m6 49 rfl
theorem q1315 : (Jvm.Cond.instanceMethod ({ cls := "CuttingRoom", name := "isEnoughFor", desc := "(LCuttingRoom$Style;II)Z" } : Jvm.MethodName)) ∈ lw_all := lw_g (lw_at lw_m6 50 rfl) rfl
theorem q1316 : (Jvm.Cond.code ({ cls := "CuttingRoom", name := "isEnoughFor", desc := "(LCuttingRoom$Style;II)Z" } : Jvm.MethodName) prog_1_method_64_code (8 : Nat) (Option.some Jvm.ClassFile.FieldType.boolean)) ∈ lw_all := lw_g (lw_at lw_m6 51 rfl) rfl
theorem q1321 : (Jvm.Cond.instanceMethod ({ cls := "CuttingRoom", name := "make", desc := "(II)I" } : Jvm.MethodName)) ∈ lw_all := lw_g (lw_at lw_m6 56 rfl) rfl
theorem q1322 : (Jvm.Cond.selects "CuttingRoom" ({ cls := "CuttingRoom", name := "make", desc := "(II)I" } : Jvm.MethodName) ({ cls := "CuttingRoom", name := "make", desc := "(II)I" } : Jvm.MethodName)) ∈ lw_all := lw_g (lw_at lw_m6 57 rfl) rfl
theorem q1323 : (Jvm.Cond.code ({ cls := "CuttingRoom", name := "make", desc := "(II)I" } : Jvm.MethodName) prog_1_method_65_code (4 : Nat) (Option.some Jvm.ClassFile.FieldType.int)) ∈ lw_all := lw_g (lw_at lw_m6 58 rfl) rfl
theorem q1324 : (Jvm.Cond.methodLink "CuttingRoom" (400 : Nat) ({ cls := "CuttingRoom$Style", name := "take", desc := "(I)V" } : Jvm.MethodName)) ∈ lw_all := lw_g (lw_at lw_m6 59 rfl) rfl
theorem q1336 : (Jvm.Cond.instanceMethod ({ cls := "CuttingRoom", name := "made", desc := "(I)I" } : Jvm.MethodName)) ∈ lw_all := lw_g (lw_at lw_m6 71 rfl) rfl
theorem q1337 : (Jvm.Cond.selects "CuttingRoom" ({ cls := "CuttingRoom", name := "made", desc := "(I)I" } : Jvm.MethodName) ({ cls := "CuttingRoom", name := "made", desc := "(I)I" } : Jvm.MethodName)) ∈ lw_all := lw_g (lw_at lw_m6 72 rfl) rfl
theorem q1338 : (Jvm.Cond.code ({ cls := "CuttingRoom", name := "made", desc := "(I)I" } : Jvm.MethodName) prog_1_method_66_code (2 : Nat) (Option.some Jvm.ClassFile.FieldType.int)) ∈ lw_all := lw_g (lw_at lw_m6 73 rfl) rfl
theorem q1343 : (Jvm.Cond.instanceMethod ({ cls := "CuttingRoom", name := "pliesFor", desc := "(II)I" } : Jvm.MethodName)) ∈ lw_all := lw_g (lw_at lw_m6 78 rfl) rfl
theorem q1344 : (Jvm.Cond.selects "CuttingRoom" ({ cls := "CuttingRoom", name := "pliesFor", desc := "(II)I" } : Jvm.MethodName) ({ cls := "CuttingRoom", name := "pliesFor", desc := "(II)I" } : Jvm.MethodName)) ∈ lw_all := lw_g (lw_at lw_m6 79 rfl) rfl
theorem q1345 : (Jvm.Cond.code ({ cls := "CuttingRoom", name := "pliesFor", desc := "(II)I" } : Jvm.MethodName) prog_1_method_67_code (5 : Nat) (Option.some Jvm.ClassFile.FieldType.int)) ∈ lw_all := lw_g (lw_at lw_m6 80 rfl) rfl
theorem q1364 : (Jvm.Cond.instanceMethod ({ cls := "CuttingRoom", name := "density", desc := "()F" } : Jvm.MethodName)) ∈ lw_all := lw_g (lw_at lw_m6 99 rfl) rfl
theorem q1365 : (Jvm.Cond.selects "CuttingRoom" ({ cls := "CuttingRoom", name := "density", desc := "()F" } : Jvm.MethodName) ({ cls := "CuttingRoom", name := "density", desc := "()F" } : Jvm.MethodName)) ∈ lw_all := lw_g (lw_at lw_m6 100 rfl) rfl
theorem q1366 : (Jvm.Cond.code ({ cls := "CuttingRoom", name := "density", desc := "()F" } : Jvm.MethodName) prog_1_method_70_code (1 : Nat) (Option.some Jvm.ClassFile.FieldType.float)) ∈ lw_all := lw_g (lw_at lw_m6 101 rfl) rfl
theorem q1367 : (Jvm.Cond.methodLink "CuttingRoom" (406 : Nat) ({ cls := "CuttingRoom", name := "checkMarker", desc := "()V" } : Jvm.MethodName)) ∈ lw_all := lw_g (lw_at lw_m6 102 rfl) rfl
theorem q1368 : (Jvm.Cond.privateMethod ({ cls := "CuttingRoom", name := "checkMarker", desc := "()V" } : Jvm.MethodName)) ∈ lw_tbl := lw_at lw_m6 103 rfl
theorem q1369 : (Jvm.Cond.instanceMethod ({ cls := "CuttingRoom", name := "checkMarker", desc := "()V" } : Jvm.MethodName)) ∈ lw_all := lw_g (lw_at lw_m6 104 rfl) rfl
theorem q1370 : (Jvm.Cond.code ({ cls := "CuttingRoom", name := "checkMarker", desc := "()V" } : Jvm.MethodName) prog_1_method_69_code (1 : Nat) (Option.none : Option Jvm.ClassFile.FieldType)) ∈ lw_all := lw_g (lw_at lw_m6 105 rfl) rfl
theorem q1371 : (Jvm.Cond.classLink "CuttingRoom" (403 : Nat) "java/lang/ArithmeticException") ∈ lw_all := lw_g (lw_at lw_m6 106 rfl) rfl
theorem q1372 : (Jvm.Cond.methodLink "CuttingRoom" (405 : Nat) ({ cls := "java/lang/ArithmeticException", name := "<init>", desc := "()V" } : Jvm.MethodName)) ∈ lw_all := lw_g (lw_at lw_m6 107 rfl) rfl
theorem q1380 : (Jvm.Cond.instanceMethod ({ cls := "CuttingRoom", name := "meanCells", desc := "()D" } : Jvm.MethodName)) ∈ lw_all := lw_g (lw_at lw_m6 115 rfl) rfl
theorem q1381 : (Jvm.Cond.selects "CuttingRoom" ({ cls := "CuttingRoom", name := "meanCells", desc := "()D" } : Jvm.MethodName) ({ cls := "CuttingRoom", name := "meanCells", desc := "()D" } : Jvm.MethodName)) ∈ lw_all := lw_g (lw_at lw_m6 116 rfl) rfl
theorem q1382 : (Jvm.Cond.code ({ cls := "CuttingRoom", name := "meanCells", desc := "()D" } : Jvm.MethodName) prog_1_method_71_code (1 : Nat) (Option.some Jvm.ClassFile.FieldType.double)) ∈ lw_all := lw_g (lw_at lw_m6 117 rfl) rfl
theorem q1835 : (Jvm.Cond.castable "CuttingRoom" "java/lang/Object") ∈ lw_tbl := lw_at lw_m8 90 rfl
theorem q1874 : (Jvm.Cond.fieldLinkNest "CuttingRoom" (131 : Nat) "CuttingRoom$Rule" "letter" "C" "CuttingRoom") ∈ lw_tbl := lw_at lw_m8 129 rfl
theorem in_X1 : ∀ w ∈ wsX10, w ∈ lw_all := lw_in wsX10 [335, 337, 339, 341, 343, 345, 347, 349, 351, 353, 355, 357, 359, 361, 363, 365] (by decide +kernel) (by decide +kernel)
