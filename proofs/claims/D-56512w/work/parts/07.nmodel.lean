/-! CuttingRoomModel -/
set_option maxRecDepth 100000
def RX4 : String := "CuttingRoomModel"
def TX4 : u_T := fun k => match k with
  | 0 => ("CuttingRoomModel", "thrown", "I", false)
  | 1 => ("CuttingRoomModel", "width", "I", false)
  | 2 => ("CuttingRoomModel", "nap", "Z", false)
  | 3 => ("CuttingRoomModel", "folded", "Z", false)
  | 4 => ("CuttingRoomModel", "stripes", "I", false)
  | 5 => ("CuttingRoomModel", "flaws", "I", false)
  | 6 => ("CuttingRoomModel", "flaw", "[Z", true)
  | 7 => ("CuttingRoomModel", "shapes", "I", false)
  | 8 => ("CuttingRoomModel", "rule", "[C", true)
  | 9 => ("CuttingRoomModel", "paired", "[Z", true)
  | 10 => ("CuttingRoomModel", "drawn", "[Z", true)
  | 11 => ("CuttingRoomModel", "size", "[I", true)
  | 12 => ("CuttingRoomModel", "group", "[I", true)
  | 13 => ("CuttingRoomModel", "markRow", "[I", true)
  | 14 => ("CuttingRoomModel", "markColumn", "[I", true)
  | 15 => ("CuttingRoomModel", "everCut", "[Z", true)
  | 16 => ("CuttingRoomModel", "stock", "[I", true)
  | 17 => ("CuttingRoomModel", "many", "I", false)
  | 18 => ("CuttingRoomModel", "next", "I", false)
  | 19 => ("CuttingRoomModel", "number", "[I", true)
  | 20 => ("CuttingRoomModel", "shapeOf", "[I", true)
  | 21 => ("CuttingRoomModel", "rowAt", "[I", true)
  | 22 => ("CuttingRoomModel", "columnAt", "[I", true)
  | 23 => ("CuttingRoomModel", "turned", "[I", true)
  | 24 => ("CuttingRoomModel", "mirrored", "[Z", true)
  | 25 => ("CuttingRoomModel", "cloth", "[I", true)
  | 26 => ("CuttingRoomModel", "phase", "[I", true)
  | 27 => ("CuttingRoomModel", "ofGroup", "[I", true)
  | 28 => ("CuttingRoomModel", "styles", "I", false)
  | 29 => ("CuttingRoomModel", "count", "[I", true)
  | 30 => ("CuttingRoomModel", "made", "[I", true)
  | 31 => ("CuttingRoomModel", "roll", "I", false)
  | 32 => ("CuttingRoomModel", "cutAll", "J", false)
  | 33 => ("CuttingRoomModel", "cellMany", "I", false)
  | 34 => ("CuttingRoomModel", "cellRow", "[I", true)
  | 35 => ("CuttingRoomModel", "cellColumn", "[I", true)
  | 36 => ("CuttingRoomModel", "markBehind", "I", false)
  | 37 => ("CuttingRoomModel", "nestRow", "I", false)
  | 38 => ("CuttingRoomModel", "nestColumn", "I", false)
  | 39 => ("CuttingRoomModel", "nestTurns", "I", false)
  | 40 => ("CuttingRoomModel", "queue", "[I", true)
  | 41 => ("CuttingRoomModel", "queued", "I", false)
  | 42 => ("CuttingRoomModel", "keptNumber", "[I", true)
  | 43 => ("CuttingRoomModel", "keptShape", "[I", true)
  | 44 => ("CuttingRoomModel", "keptRow", "[I", true)
  | 45 => ("CuttingRoomModel", "keptColumn", "[I", true)
  | 46 => ("CuttingRoomModel", "keptTurns", "[I", true)
  | 47 => ("CuttingRoomModel", "keptMirror", "[Z", true)
  | _ => ("CuttingRoomModel", "least", "I", false)
def tyX4 : Nat → FieldType := fun k => match k with
  | 0 => .int
  | 1 => .int
  | 2 => .boolean
  | 3 => .boolean
  | 4 => .int
  | 5 => .int
  | 6 => .array .boolean
  | 7 => .int
  | 8 => .array .char
  | 9 => .array .boolean
  | 10 => .array .boolean
  | 11 => .array .int
  | 12 => .array .int
  | 13 => .array .int
  | 14 => .array .int
  | 15 => .array .boolean
  | 16 => .array .int
  | 17 => .int
  | 18 => .int
  | 19 => .array .int
  | 20 => .array .int
  | 21 => .array .int
  | 22 => .array .int
  | 23 => .array .int
  | 24 => .array .boolean
  | 25 => .array .int
  | 26 => .array .int
  | 27 => .array .int
  | 28 => .int
  | 29 => .array .int
  | 30 => .array .int
  | 31 => .int
  | 32 => .long
  | 33 => .int
  | 34 => .array .int
  | 35 => .array .int
  | 36 => .int
  | 37 => .int
  | 38 => .int
  | 39 => .int
  | 40 => .array .int
  | 41 => .int
  | 42 => .array .int
  | 43 => .array .int
  | 44 => .array .int
  | 45 => .array .int
  | 46 => .array .int
  | 47 => .array .boolean
  | _ => .int
abbrev wsX40 : List Cond := u_ws RX4 TX4 49
set_option maxRecDepth 100000 in
theorem nmX4 : ∀ a, a < 49 → ∀ b, b < 49 → a ≠ b → (TX4 a).2.1 ≠ (TX4 b).2.1 := by decide +kernel
set_option maxRecDepth 100000 in
theorem tyX4_ok : ∀ k, k < 49 → parseFieldDescriptor (TX4 k).2.2.1 = some (tyX4 k) := by decide +kernel
abbrev cX4_init : ByteArray := prog_18_method_1_code
def yX4_init : MethodName := ⟨RX4, "<init>", "()V"⟩
def dkwX4_init_11 : List UInt8 := [180, 0, 31, 27, 2, 79, 132, 1, 1, 167, 255, 240, 42, 182, 0, 106, 177]
abbrev dktX4_init_11 : List UInt8 := dkwX4_init_11 ++ []
def dkwX4_init_10 : List UInt8 := [16, 40, 188, 10, 181, 0, 100, 42, 16, 40, 188, 4, 181, 0, 103, 3, 60, 27, 16, 8, 162, 0, 16, 42]
abbrev dktX4_init_10 : List UInt8 := dkwX4_init_10 ++ dktX4_init_11
def dkwX4_init_9 : List UInt8 := [16, 40, 188, 10, 181, 0, 91, 42, 16, 40, 188, 10, 181, 0, 94, 42, 16, 40, 188, 10, 181, 0, 97, 42]
abbrev dktX4_init_9 : List UInt8 := dkwX4_init_9 ++ dktX4_init_10
def dkwX4_init_8 : List UInt8 := [16, 25, 188, 10, 181, 0, 82, 42, 7, 188, 10, 181, 0, 85, 42, 16, 40, 188, 10, 181, 0, 88, 42]
abbrev dktX4_init_8 : List UInt8 := dkwX4_init_8 ++ dktX4_init_9
def dkwX4_init_7 : List UInt8 := [16, 32, 188, 10, 181, 0, 73, 42, 7, 188, 10, 181, 0, 76, 42, 16, 25, 188, 10, 181, 0, 79, 42]
abbrev dktX4_init_7 : List UInt8 := dkwX4_init_7 ++ dktX4_init_8
def dkwX4_init_6 : List UInt8 := [17, 2, 208, 188, 10, 181, 0, 64, 42, 7, 188, 10, 181, 0, 67, 42, 7, 188, 10, 181, 0, 70, 42]
abbrev dktX4_init_6 : List UInt8 := dkwX4_init_6 ++ dktX4_init_7
def dkwX4_init_5 : List UInt8 := [188, 10, 181, 0, 55, 42, 16, 40, 188, 10, 181, 0, 58, 42, 16, 40, 188, 4, 181, 0, 61, 42]
abbrev dktX4_init_5 : List UInt8 := dkwX4_init_5 ++ dktX4_init_6
def dkwX4_init_4 : List UInt8 := [188, 10, 181, 0, 46, 42, 16, 40, 188, 10, 181, 0, 49, 42, 16, 40, 188, 10, 181, 0, 52, 42, 16, 40]
abbrev dktX4_init_4 : List UInt8 := dkwX4_init_4 ++ dktX4_init_5
def dkwX4_init_3 : List UInt8 := [188, 10, 181, 0, 37, 42, 16, 8, 188, 4, 181, 0, 40, 42, 16, 16, 188, 10, 181, 0, 43, 42, 16, 40]
abbrev dktX4_init_3 : List UInt8 := dkwX4_init_3 ++ dktX4_init_4
def dkwX4_init_2 : List UInt8 := [188, 10, 181, 0, 27, 42, 16, 8, 188, 10, 181, 0, 31, 42, 16, 8, 188, 10, 181, 0, 34, 42, 16, 8]
abbrev dktX4_init_2 : List UInt8 := dkwX4_init_2 ++ dktX4_init_3
def dkwX4_init_1 : List UInt8 := [181, 0, 17, 42, 16, 8, 188, 4, 181, 0, 21, 42, 17, 0, 200, 188, 4, 181, 0, 24, 42, 16, 8]
abbrev dktX4_init_1 : List UInt8 := dkwX4_init_1 ++ dktX4_init_2
def dkwX4_init_0 : List UInt8 := [42, 183, 0, 1, 42, 16, 12, 181, 0, 7, 42, 17, 2, 208, 188, 4, 181, 0, 13, 42, 16, 8, 188, 5]
abbrev dktX4_init_0 : List UInt8 := dkwX4_init_0 ++ dktX4_init_1
theorem dksX4_init_0 : cX4_init.data.toList.drop 0 = dktX4_init_0 := by decide +kernel
theorem dksX4_init_1 : cX4_init.data.toList.drop 24 = dktX4_init_1 := dk_seg dksX4_init_0 24 rfl rfl
theorem dksX4_init_2 : cX4_init.data.toList.drop 47 = dktX4_init_2 := dk_seg dksX4_init_1 23 rfl rfl
theorem dksX4_init_3 : cX4_init.data.toList.drop 71 = dktX4_init_3 := dk_seg dksX4_init_2 24 rfl rfl
theorem dksX4_init_4 : cX4_init.data.toList.drop 95 = dktX4_init_4 := dk_seg dksX4_init_3 24 rfl rfl
theorem dksX4_init_5 : cX4_init.data.toList.drop 119 = dktX4_init_5 := dk_seg dksX4_init_4 24 rfl rfl
theorem dksX4_init_6 : cX4_init.data.toList.drop 141 = dktX4_init_6 := dk_seg dksX4_init_5 22 rfl rfl
theorem dksX4_init_7 : cX4_init.data.toList.drop 164 = dktX4_init_7 := dk_seg dksX4_init_6 23 rfl rfl
theorem dksX4_init_8 : cX4_init.data.toList.drop 187 = dktX4_init_8 := dk_seg dksX4_init_7 23 rfl rfl
theorem dksX4_init_9 : cX4_init.data.toList.drop 210 = dktX4_init_9 := dk_seg dksX4_init_8 23 rfl rfl
theorem dksX4_init_10 : cX4_init.data.toList.drop 234 = dktX4_init_10 := dk_seg dksX4_init_9 24 rfl rfl
theorem dksX4_init_11 : cX4_init.data.toList.drop 258 = dktX4_init_11 := dk_seg dksX4_init_10 24 rfl rfl
theorem dX4_init_0 : decode cX4_init 0 = .ok (.aload_n 0, 1) := dk_42 (dk_at dksX4_init_0 0 rfl rfl)
theorem dX4_init_1 : decode cX4_init 1 = .ok (.invokespecial 1, 3) := dk_183 0 1 (dk_at dksX4_init_0 1 rfl rfl)
theorem dX4_init_4 : decode cX4_init 4 = .ok (.aload_n 0, 1) := dk_42 (dk_at dksX4_init_0 4 rfl rfl)
theorem dX4_init_5 : decode cX4_init 5 = .ok (.bipush 12, 2) := dk_16 12 (dk_at dksX4_init_0 5 rfl rfl)
theorem dX4_init_7 : decode cX4_init 7 = .ok (.putfield 7, 3) := dk_181 0 7 (dk_at dksX4_init_0 7 rfl rfl)
theorem dX4_init_10 : decode cX4_init 10 = .ok (.aload_n 0, 1) := dk_42 (dk_at dksX4_init_0 10 rfl rfl)
theorem dX4_init_11 : decode cX4_init 11 = .ok (.sipush 720, 3) := dk_17 2 208 (dk_at dksX4_init_0 11 rfl rfl)
theorem dX4_init_14 : decode cX4_init 14 = .ok (.newarray .boolean, 2) := dk_188_4 (dk_at dksX4_init_0 14 rfl rfl)
theorem dX4_init_16 : decode cX4_init 16 = .ok (.putfield 13, 3) := dk_181 0 13 (dk_at dksX4_init_0 16 rfl rfl)
theorem dX4_init_19 : decode cX4_init 19 = .ok (.aload_n 0, 1) := dk_42 (dk_at dksX4_init_0 19 rfl rfl)
theorem dX4_init_20 : decode cX4_init 20 = .ok (.bipush 8, 2) := dk_16 8 (dk_at dksX4_init_0 20 rfl rfl)
theorem dX4_init_22 : decode cX4_init 22 = .ok (.newarray .char, 2) := dk_188_5 (dk_at dksX4_init_0 22 rfl rfl)
theorem dX4_init_24 : decode cX4_init 24 = .ok (.putfield 17, 3) := dk_181 0 17 (dk_at dksX4_init_1 0 rfl rfl)
theorem dX4_init_27 : decode cX4_init 27 = .ok (.aload_n 0, 1) := dk_42 (dk_at dksX4_init_1 3 rfl rfl)
theorem dX4_init_28 : decode cX4_init 28 = .ok (.bipush 8, 2) := dk_16 8 (dk_at dksX4_init_1 4 rfl rfl)
theorem dX4_init_30 : decode cX4_init 30 = .ok (.newarray .boolean, 2) := dk_188_4 (dk_at dksX4_init_1 6 rfl rfl)
theorem dX4_init_32 : decode cX4_init 32 = .ok (.putfield 21, 3) := dk_181 0 21 (dk_at dksX4_init_1 8 rfl rfl)
theorem dX4_init_35 : decode cX4_init 35 = .ok (.aload_n 0, 1) := dk_42 (dk_at dksX4_init_1 11 rfl rfl)
theorem dX4_init_36 : decode cX4_init 36 = .ok (.sipush 200, 3) := dk_17 0 200 (dk_at dksX4_init_1 12 rfl rfl)
theorem dX4_init_39 : decode cX4_init 39 = .ok (.newarray .boolean, 2) := dk_188_4 (dk_at dksX4_init_1 15 rfl rfl)
theorem dX4_init_41 : decode cX4_init 41 = .ok (.putfield 24, 3) := dk_181 0 24 (dk_at dksX4_init_1 17 rfl rfl)
theorem dX4_init_44 : decode cX4_init 44 = .ok (.aload_n 0, 1) := dk_42 (dk_at dksX4_init_1 20 rfl rfl)
theorem dX4_init_45 : decode cX4_init 45 = .ok (.bipush 8, 2) := dk_16 8 (dk_at dksX4_init_1 21 rfl rfl)
theorem dX4_init_47 : decode cX4_init 47 = .ok (.newarray .int, 2) := dk_188_10 (dk_at dksX4_init_2 0 rfl rfl)
theorem dX4_init_49 : decode cX4_init 49 = .ok (.putfield 27, 3) := dk_181 0 27 (dk_at dksX4_init_2 2 rfl rfl)
theorem dX4_init_52 : decode cX4_init 52 = .ok (.aload_n 0, 1) := dk_42 (dk_at dksX4_init_2 5 rfl rfl)
theorem dX4_init_53 : decode cX4_init 53 = .ok (.bipush 8, 2) := dk_16 8 (dk_at dksX4_init_2 6 rfl rfl)
theorem dX4_init_55 : decode cX4_init 55 = .ok (.newarray .int, 2) := dk_188_10 (dk_at dksX4_init_2 8 rfl rfl)
theorem dX4_init_57 : decode cX4_init 57 = .ok (.putfield 31, 3) := dk_181 0 31 (dk_at dksX4_init_2 10 rfl rfl)
theorem dX4_init_60 : decode cX4_init 60 = .ok (.aload_n 0, 1) := dk_42 (dk_at dksX4_init_2 13 rfl rfl)
theorem dX4_init_61 : decode cX4_init 61 = .ok (.bipush 8, 2) := dk_16 8 (dk_at dksX4_init_2 14 rfl rfl)
theorem dX4_init_63 : decode cX4_init 63 = .ok (.newarray .int, 2) := dk_188_10 (dk_at dksX4_init_2 16 rfl rfl)
theorem dX4_init_65 : decode cX4_init 65 = .ok (.putfield 34, 3) := dk_181 0 34 (dk_at dksX4_init_2 18 rfl rfl)
theorem dX4_init_68 : decode cX4_init 68 = .ok (.aload_n 0, 1) := dk_42 (dk_at dksX4_init_2 21 rfl rfl)
theorem dX4_init_69 : decode cX4_init 69 = .ok (.bipush 8, 2) := dk_16 8 (dk_at dksX4_init_2 22 rfl rfl)
theorem dX4_init_71 : decode cX4_init 71 = .ok (.newarray .int, 2) := dk_188_10 (dk_at dksX4_init_3 0 rfl rfl)
theorem dX4_init_73 : decode cX4_init 73 = .ok (.putfield 37, 3) := dk_181 0 37 (dk_at dksX4_init_3 2 rfl rfl)
theorem dX4_init_76 : decode cX4_init 76 = .ok (.aload_n 0, 1) := dk_42 (dk_at dksX4_init_3 5 rfl rfl)
theorem dX4_init_77 : decode cX4_init 77 = .ok (.bipush 8, 2) := dk_16 8 (dk_at dksX4_init_3 6 rfl rfl)
theorem dX4_init_79 : decode cX4_init 79 = .ok (.newarray .boolean, 2) := dk_188_4 (dk_at dksX4_init_3 8 rfl rfl)
theorem dX4_init_81 : decode cX4_init 81 = .ok (.putfield 40, 3) := dk_181 0 40 (dk_at dksX4_init_3 10 rfl rfl)
theorem dX4_init_84 : decode cX4_init 84 = .ok (.aload_n 0, 1) := dk_42 (dk_at dksX4_init_3 13 rfl rfl)
theorem dX4_init_85 : decode cX4_init 85 = .ok (.bipush 16, 2) := dk_16 16 (dk_at dksX4_init_3 14 rfl rfl)
theorem dX4_init_87 : decode cX4_init 87 = .ok (.newarray .int, 2) := dk_188_10 (dk_at dksX4_init_3 16 rfl rfl)
theorem dX4_init_89 : decode cX4_init 89 = .ok (.putfield 43, 3) := dk_181 0 43 (dk_at dksX4_init_3 18 rfl rfl)
theorem dX4_init_92 : decode cX4_init 92 = .ok (.aload_n 0, 1) := dk_42 (dk_at dksX4_init_3 21 rfl rfl)
theorem dX4_init_93 : decode cX4_init 93 = .ok (.bipush 40, 2) := dk_16 40 (dk_at dksX4_init_3 22 rfl rfl)
theorem dX4_init_95 : decode cX4_init 95 = .ok (.newarray .int, 2) := dk_188_10 (dk_at dksX4_init_4 0 rfl rfl)
theorem dX4_init_97 : decode cX4_init 97 = .ok (.putfield 46, 3) := dk_181 0 46 (dk_at dksX4_init_4 2 rfl rfl)
theorem dX4_init_100 : decode cX4_init 100 = .ok (.aload_n 0, 1) := dk_42 (dk_at dksX4_init_4 5 rfl rfl)
theorem dX4_init_101 : decode cX4_init 101 = .ok (.bipush 40, 2) := dk_16 40 (dk_at dksX4_init_4 6 rfl rfl)
theorem dX4_init_103 : decode cX4_init 103 = .ok (.newarray .int, 2) := dk_188_10 (dk_at dksX4_init_4 8 rfl rfl)
theorem dX4_init_105 : decode cX4_init 105 = .ok (.putfield 49, 3) := dk_181 0 49 (dk_at dksX4_init_4 10 rfl rfl)
theorem dX4_init_108 : decode cX4_init 108 = .ok (.aload_n 0, 1) := dk_42 (dk_at dksX4_init_4 13 rfl rfl)
theorem dX4_init_109 : decode cX4_init 109 = .ok (.bipush 40, 2) := dk_16 40 (dk_at dksX4_init_4 14 rfl rfl)
theorem dX4_init_111 : decode cX4_init 111 = .ok (.newarray .int, 2) := dk_188_10 (dk_at dksX4_init_4 16 rfl rfl)
theorem dX4_init_113 : decode cX4_init 113 = .ok (.putfield 52, 3) := dk_181 0 52 (dk_at dksX4_init_4 18 rfl rfl)
theorem dX4_init_116 : decode cX4_init 116 = .ok (.aload_n 0, 1) := dk_42 (dk_at dksX4_init_4 21 rfl rfl)
theorem dX4_init_117 : decode cX4_init 117 = .ok (.bipush 40, 2) := dk_16 40 (dk_at dksX4_init_4 22 rfl rfl)
theorem dX4_init_119 : decode cX4_init 119 = .ok (.newarray .int, 2) := dk_188_10 (dk_at dksX4_init_5 0 rfl rfl)
theorem dX4_init_121 : decode cX4_init 121 = .ok (.putfield 55, 3) := dk_181 0 55 (dk_at dksX4_init_5 2 rfl rfl)
theorem dX4_init_124 : decode cX4_init 124 = .ok (.aload_n 0, 1) := dk_42 (dk_at dksX4_init_5 5 rfl rfl)
theorem dX4_init_125 : decode cX4_init 125 = .ok (.bipush 40, 2) := dk_16 40 (dk_at dksX4_init_5 6 rfl rfl)
theorem dX4_init_127 : decode cX4_init 127 = .ok (.newarray .int, 2) := dk_188_10 (dk_at dksX4_init_5 8 rfl rfl)
theorem dX4_init_129 : decode cX4_init 129 = .ok (.putfield 58, 3) := dk_181 0 58 (dk_at dksX4_init_5 10 rfl rfl)
theorem dX4_init_132 : decode cX4_init 132 = .ok (.aload_n 0, 1) := dk_42 (dk_at dksX4_init_5 13 rfl rfl)
theorem dX4_init_133 : decode cX4_init 133 = .ok (.bipush 40, 2) := dk_16 40 (dk_at dksX4_init_5 14 rfl rfl)
theorem dX4_init_135 : decode cX4_init 135 = .ok (.newarray .boolean, 2) := dk_188_4 (dk_at dksX4_init_5 16 rfl rfl)
theorem dX4_init_137 : decode cX4_init 137 = .ok (.putfield 61, 3) := dk_181 0 61 (dk_at dksX4_init_5 18 rfl rfl)
theorem dX4_init_140 : decode cX4_init 140 = .ok (.aload_n 0, 1) := dk_42 (dk_at dksX4_init_5 21 rfl rfl)
theorem dX4_init_141 : decode cX4_init 141 = .ok (.sipush 720, 3) := dk_17 2 208 (dk_at dksX4_init_6 0 rfl rfl)
theorem dX4_init_144 : decode cX4_init 144 = .ok (.newarray .int, 2) := dk_188_10 (dk_at dksX4_init_6 3 rfl rfl)
theorem dX4_init_146 : decode cX4_init 146 = .ok (.putfield 64, 3) := dk_181 0 64 (dk_at dksX4_init_6 5 rfl rfl)
theorem dX4_init_149 : decode cX4_init 149 = .ok (.aload_n 0, 1) := dk_42 (dk_at dksX4_init_6 8 rfl rfl)
theorem dX4_init_150 : decode cX4_init 150 = .ok (.iconst 4, 1) := dk_7 (dk_at dksX4_init_6 9 rfl rfl)
theorem dX4_init_151 : decode cX4_init 151 = .ok (.newarray .int, 2) := dk_188_10 (dk_at dksX4_init_6 10 rfl rfl)
theorem dX4_init_153 : decode cX4_init 153 = .ok (.putfield 67, 3) := dk_181 0 67 (dk_at dksX4_init_6 12 rfl rfl)
theorem dX4_init_156 : decode cX4_init 156 = .ok (.aload_n 0, 1) := dk_42 (dk_at dksX4_init_6 15 rfl rfl)
theorem dX4_init_157 : decode cX4_init 157 = .ok (.iconst 4, 1) := dk_7 (dk_at dksX4_init_6 16 rfl rfl)
theorem dX4_init_158 : decode cX4_init 158 = .ok (.newarray .int, 2) := dk_188_10 (dk_at dksX4_init_6 17 rfl rfl)
theorem dX4_init_160 : decode cX4_init 160 = .ok (.putfield 70, 3) := dk_181 0 70 (dk_at dksX4_init_6 19 rfl rfl)
theorem dX4_init_163 : decode cX4_init 163 = .ok (.aload_n 0, 1) := dk_42 (dk_at dksX4_init_6 22 rfl rfl)
theorem dX4_init_164 : decode cX4_init 164 = .ok (.bipush 32, 2) := dk_16 32 (dk_at dksX4_init_7 0 rfl rfl)
theorem dX4_init_166 : decode cX4_init 166 = .ok (.newarray .int, 2) := dk_188_10 (dk_at dksX4_init_7 2 rfl rfl)
theorem dX4_init_168 : decode cX4_init 168 = .ok (.putfield 73, 3) := dk_181 0 73 (dk_at dksX4_init_7 4 rfl rfl)
theorem dX4_init_171 : decode cX4_init 171 = .ok (.aload_n 0, 1) := dk_42 (dk_at dksX4_init_7 7 rfl rfl)
theorem dX4_init_172 : decode cX4_init 172 = .ok (.iconst 4, 1) := dk_7 (dk_at dksX4_init_7 8 rfl rfl)
theorem dX4_init_173 : decode cX4_init 173 = .ok (.newarray .int, 2) := dk_188_10 (dk_at dksX4_init_7 9 rfl rfl)
theorem dX4_init_175 : decode cX4_init 175 = .ok (.putfield 76, 3) := dk_181 0 76 (dk_at dksX4_init_7 11 rfl rfl)
theorem dX4_init_178 : decode cX4_init 178 = .ok (.aload_n 0, 1) := dk_42 (dk_at dksX4_init_7 14 rfl rfl)
theorem dX4_init_179 : decode cX4_init 179 = .ok (.bipush 25, 2) := dk_16 25 (dk_at dksX4_init_7 15 rfl rfl)
theorem dX4_init_181 : decode cX4_init 181 = .ok (.newarray .int, 2) := dk_188_10 (dk_at dksX4_init_7 17 rfl rfl)
theorem dX4_init_183 : decode cX4_init 183 = .ok (.putfield 79, 3) := dk_181 0 79 (dk_at dksX4_init_7 19 rfl rfl)
theorem dX4_init_186 : decode cX4_init 186 = .ok (.aload_n 0, 1) := dk_42 (dk_at dksX4_init_7 22 rfl rfl)
theorem dX4_init_187 : decode cX4_init 187 = .ok (.bipush 25, 2) := dk_16 25 (dk_at dksX4_init_8 0 rfl rfl)
theorem dX4_init_189 : decode cX4_init 189 = .ok (.newarray .int, 2) := dk_188_10 (dk_at dksX4_init_8 2 rfl rfl)
theorem dX4_init_191 : decode cX4_init 191 = .ok (.putfield 82, 3) := dk_181 0 82 (dk_at dksX4_init_8 4 rfl rfl)
theorem dX4_init_194 : decode cX4_init 194 = .ok (.aload_n 0, 1) := dk_42 (dk_at dksX4_init_8 7 rfl rfl)
theorem dX4_init_195 : decode cX4_init 195 = .ok (.iconst 4, 1) := dk_7 (dk_at dksX4_init_8 8 rfl rfl)
theorem dX4_init_196 : decode cX4_init 196 = .ok (.newarray .int, 2) := dk_188_10 (dk_at dksX4_init_8 9 rfl rfl)
theorem dX4_init_198 : decode cX4_init 198 = .ok (.putfield 85, 3) := dk_181 0 85 (dk_at dksX4_init_8 11 rfl rfl)
theorem dX4_init_201 : decode cX4_init 201 = .ok (.aload_n 0, 1) := dk_42 (dk_at dksX4_init_8 14 rfl rfl)
theorem dX4_init_202 : decode cX4_init 202 = .ok (.bipush 40, 2) := dk_16 40 (dk_at dksX4_init_8 15 rfl rfl)
theorem dX4_init_204 : decode cX4_init 204 = .ok (.newarray .int, 2) := dk_188_10 (dk_at dksX4_init_8 17 rfl rfl)
theorem dX4_init_206 : decode cX4_init 206 = .ok (.putfield 88, 3) := dk_181 0 88 (dk_at dksX4_init_8 19 rfl rfl)
theorem dX4_init_209 : decode cX4_init 209 = .ok (.aload_n 0, 1) := dk_42 (dk_at dksX4_init_8 22 rfl rfl)
theorem dX4_init_210 : decode cX4_init 210 = .ok (.bipush 40, 2) := dk_16 40 (dk_at dksX4_init_9 0 rfl rfl)
theorem dX4_init_212 : decode cX4_init 212 = .ok (.newarray .int, 2) := dk_188_10 (dk_at dksX4_init_9 2 rfl rfl)
theorem dX4_init_214 : decode cX4_init 214 = .ok (.putfield 91, 3) := dk_181 0 91 (dk_at dksX4_init_9 4 rfl rfl)
theorem dX4_init_217 : decode cX4_init 217 = .ok (.aload_n 0, 1) := dk_42 (dk_at dksX4_init_9 7 rfl rfl)
theorem dX4_init_218 : decode cX4_init 218 = .ok (.bipush 40, 2) := dk_16 40 (dk_at dksX4_init_9 8 rfl rfl)
theorem dX4_init_220 : decode cX4_init 220 = .ok (.newarray .int, 2) := dk_188_10 (dk_at dksX4_init_9 10 rfl rfl)
theorem dX4_init_222 : decode cX4_init 222 = .ok (.putfield 94, 3) := dk_181 0 94 (dk_at dksX4_init_9 12 rfl rfl)
theorem dX4_init_225 : decode cX4_init 225 = .ok (.aload_n 0, 1) := dk_42 (dk_at dksX4_init_9 15 rfl rfl)
theorem dX4_init_226 : decode cX4_init 226 = .ok (.bipush 40, 2) := dk_16 40 (dk_at dksX4_init_9 16 rfl rfl)
theorem dX4_init_228 : decode cX4_init 228 = .ok (.newarray .int, 2) := dk_188_10 (dk_at dksX4_init_9 18 rfl rfl)
theorem dX4_init_230 : decode cX4_init 230 = .ok (.putfield 97, 3) := dk_181 0 97 (dk_at dksX4_init_9 20 rfl rfl)
theorem dX4_init_233 : decode cX4_init 233 = .ok (.aload_n 0, 1) := dk_42 (dk_at dksX4_init_9 23 rfl rfl)
theorem dX4_init_234 : decode cX4_init 234 = .ok (.bipush 40, 2) := dk_16 40 (dk_at dksX4_init_10 0 rfl rfl)
theorem dX4_init_236 : decode cX4_init 236 = .ok (.newarray .int, 2) := dk_188_10 (dk_at dksX4_init_10 2 rfl rfl)
theorem dX4_init_238 : decode cX4_init 238 = .ok (.putfield 100, 3) := dk_181 0 100 (dk_at dksX4_init_10 4 rfl rfl)
theorem dX4_init_241 : decode cX4_init 241 = .ok (.aload_n 0, 1) := dk_42 (dk_at dksX4_init_10 7 rfl rfl)
theorem dX4_init_242 : decode cX4_init 242 = .ok (.bipush 40, 2) := dk_16 40 (dk_at dksX4_init_10 8 rfl rfl)
theorem dX4_init_244 : decode cX4_init 244 = .ok (.newarray .boolean, 2) := dk_188_4 (dk_at dksX4_init_10 10 rfl rfl)
theorem dX4_init_246 : decode cX4_init 246 = .ok (.putfield 103, 3) := dk_181 0 103 (dk_at dksX4_init_10 12 rfl rfl)
theorem dX4_init_249 : decode cX4_init 249 = .ok (.iconst 0, 1) := dk_3 (dk_at dksX4_init_10 15 rfl rfl)
theorem dX4_init_250 : decode cX4_init 250 = .ok (.istore_n 1, 1) := dk_60 (dk_at dksX4_init_10 16 rfl rfl)
theorem dX4_init_251 : decode cX4_init 251 = .ok (.iload_n 1, 1) := dk_27 (dk_at dksX4_init_10 17 rfl rfl)
theorem dX4_init_252 : decode cX4_init 252 = .ok (.bipush 8, 2) := dk_16 8 (dk_at dksX4_init_10 18 rfl rfl)
theorem dX4_init_254 : decode cX4_init 254 = .ok (.if_icmp .ge 16, 3) := dk_162 0 16 (dk_at dksX4_init_10 20 rfl rfl)
theorem dX4_init_257 : decode cX4_init 257 = .ok (.aload_n 0, 1) := dk_42 (dk_at dksX4_init_10 23 rfl rfl)
theorem dX4_init_258 : decode cX4_init 258 = .ok (.getfield 31, 3) := dk_180 0 31 (dk_at dksX4_init_11 0 rfl rfl)
theorem dX4_init_261 : decode cX4_init 261 = .ok (.iload_n 1, 1) := dk_27 (dk_at dksX4_init_11 3 rfl rfl)
theorem dX4_init_262 : decode cX4_init 262 = .ok (.iconst (-1), 1) := dk_2 (dk_at dksX4_init_11 4 rfl rfl)
theorem dX4_init_263 : decode cX4_init 263 = .ok (.iastore, 1) := dk_79 (dk_at dksX4_init_11 5 rfl rfl)
theorem dX4_init_264 : decode cX4_init 264 = .ok (.iinc 1 1, 3) := dk_132 1 1 (dk_at dksX4_init_11 6 rfl rfl)
theorem dX4_init_267 : decode cX4_init 267 = .ok (.goto (-16), 3) := dk_167 255 240 (dk_at dksX4_init_11 9 rfl rfl)
theorem dX4_init_270 : decode cX4_init 270 = .ok (.aload_n 0, 1) := dk_42 (dk_at dksX4_init_11 12 rfl rfl)
theorem dX4_init_271 : decode cX4_init 271 = .ok (.invokevirtual 106, 3) := dk_182 0 106 (dk_at dksX4_init_11 13 rfl rfl)
theorem dX4_init_274 : decode cX4_init 274 = .ok (.return_, 1) := dk_177 (dk_at dksX4_init_11 16 rfl rfl)
abbrev cX4_empties : ByteArray := prog_18_method_5_code
def yX4_empties : MethodName := ⟨RX4, "empties", "()V"⟩
def dkwX4_empties_2 : List UInt8 := [167, 255, 234, 42, 3, 181, 0, 112, 42, 3, 181, 0, 115, 177]
abbrev dktX4_empties_2 : List UInt8 := dkwX4_empties_2 ++ []
def dkwX4_empties_1 : List UInt8 := [27, 7, 162, 0, 23, 42, 180, 0, 67, 27, 2, 79, 42, 180, 0, 70, 27, 3, 79, 132, 1, 1]
abbrev dktX4_empties_1 : List UInt8 := dkwX4_empties_1 ++ dktX4_empties_2
def dkwX4_empties_0 : List UInt8 := [3, 60, 27, 17, 2, 208, 162, 0, 16, 42, 180, 0, 64, 27, 2, 79, 132, 1, 1, 167, 255, 239, 3, 60]
abbrev dktX4_empties_0 : List UInt8 := dkwX4_empties_0 ++ dktX4_empties_1
theorem dksX4_empties_0 : cX4_empties.data.toList.drop 0 = dktX4_empties_0 := by decide +kernel
theorem dksX4_empties_1 : cX4_empties.data.toList.drop 24 = dktX4_empties_1 := dk_seg dksX4_empties_0 24 rfl rfl
theorem dksX4_empties_2 : cX4_empties.data.toList.drop 46 = dktX4_empties_2 := dk_seg dksX4_empties_1 22 rfl rfl
theorem dX4_empties_0 : decode cX4_empties 0 = .ok (.iconst 0, 1) := dk_3 (dk_at dksX4_empties_0 0 rfl rfl)
theorem dX4_empties_1 : decode cX4_empties 1 = .ok (.istore_n 1, 1) := dk_60 (dk_at dksX4_empties_0 1 rfl rfl)
theorem dX4_empties_2 : decode cX4_empties 2 = .ok (.iload_n 1, 1) := dk_27 (dk_at dksX4_empties_0 2 rfl rfl)
theorem dX4_empties_3 : decode cX4_empties 3 = .ok (.sipush 720, 3) := dk_17 2 208 (dk_at dksX4_empties_0 3 rfl rfl)
theorem dX4_empties_6 : decode cX4_empties 6 = .ok (.if_icmp .ge 16, 3) := dk_162 0 16 (dk_at dksX4_empties_0 6 rfl rfl)
theorem dX4_empties_9 : decode cX4_empties 9 = .ok (.aload_n 0, 1) := dk_42 (dk_at dksX4_empties_0 9 rfl rfl)
theorem dX4_empties_10 : decode cX4_empties 10 = .ok (.getfield 64, 3) := dk_180 0 64 (dk_at dksX4_empties_0 10 rfl rfl)
theorem dX4_empties_13 : decode cX4_empties 13 = .ok (.iload_n 1, 1) := dk_27 (dk_at dksX4_empties_0 13 rfl rfl)
theorem dX4_empties_14 : decode cX4_empties 14 = .ok (.iconst (-1), 1) := dk_2 (dk_at dksX4_empties_0 14 rfl rfl)
theorem dX4_empties_15 : decode cX4_empties 15 = .ok (.iastore, 1) := dk_79 (dk_at dksX4_empties_0 15 rfl rfl)
theorem dX4_empties_16 : decode cX4_empties 16 = .ok (.iinc 1 1, 3) := dk_132 1 1 (dk_at dksX4_empties_0 16 rfl rfl)
theorem dX4_empties_19 : decode cX4_empties 19 = .ok (.goto (-17), 3) := dk_167 255 239 (dk_at dksX4_empties_0 19 rfl rfl)
theorem dX4_empties_22 : decode cX4_empties 22 = .ok (.iconst 0, 1) := dk_3 (dk_at dksX4_empties_0 22 rfl rfl)
theorem dX4_empties_23 : decode cX4_empties 23 = .ok (.istore_n 1, 1) := dk_60 (dk_at dksX4_empties_0 23 rfl rfl)
theorem dX4_empties_24 : decode cX4_empties 24 = .ok (.iload_n 1, 1) := dk_27 (dk_at dksX4_empties_1 0 rfl rfl)
theorem dX4_empties_25 : decode cX4_empties 25 = .ok (.iconst 4, 1) := dk_7 (dk_at dksX4_empties_1 1 rfl rfl)
theorem dX4_empties_26 : decode cX4_empties 26 = .ok (.if_icmp .ge 23, 3) := dk_162 0 23 (dk_at dksX4_empties_1 2 rfl rfl)
theorem dX4_empties_29 : decode cX4_empties 29 = .ok (.aload_n 0, 1) := dk_42 (dk_at dksX4_empties_1 5 rfl rfl)
theorem dX4_empties_30 : decode cX4_empties 30 = .ok (.getfield 67, 3) := dk_180 0 67 (dk_at dksX4_empties_1 6 rfl rfl)
theorem dX4_empties_33 : decode cX4_empties 33 = .ok (.iload_n 1, 1) := dk_27 (dk_at dksX4_empties_1 9 rfl rfl)
theorem dX4_empties_34 : decode cX4_empties 34 = .ok (.iconst (-1), 1) := dk_2 (dk_at dksX4_empties_1 10 rfl rfl)
theorem dX4_empties_35 : decode cX4_empties 35 = .ok (.iastore, 1) := dk_79 (dk_at dksX4_empties_1 11 rfl rfl)
theorem dX4_empties_36 : decode cX4_empties 36 = .ok (.aload_n 0, 1) := dk_42 (dk_at dksX4_empties_1 12 rfl rfl)
theorem dX4_empties_37 : decode cX4_empties 37 = .ok (.getfield 70, 3) := dk_180 0 70 (dk_at dksX4_empties_1 13 rfl rfl)
theorem dX4_empties_40 : decode cX4_empties 40 = .ok (.iload_n 1, 1) := dk_27 (dk_at dksX4_empties_1 16 rfl rfl)
theorem dX4_empties_41 : decode cX4_empties 41 = .ok (.iconst 0, 1) := dk_3 (dk_at dksX4_empties_1 17 rfl rfl)
theorem dX4_empties_42 : decode cX4_empties 42 = .ok (.iastore, 1) := dk_79 (dk_at dksX4_empties_1 18 rfl rfl)
theorem dX4_empties_43 : decode cX4_empties 43 = .ok (.iinc 1 1, 3) := dk_132 1 1 (dk_at dksX4_empties_1 19 rfl rfl)
theorem dX4_empties_46 : decode cX4_empties 46 = .ok (.goto (-22), 3) := dk_167 255 234 (dk_at dksX4_empties_2 0 rfl rfl)
theorem dX4_empties_49 : decode cX4_empties 49 = .ok (.aload_n 0, 1) := dk_42 (dk_at dksX4_empties_2 3 rfl rfl)
theorem dX4_empties_50 : decode cX4_empties 50 = .ok (.iconst 0, 1) := dk_3 (dk_at dksX4_empties_2 4 rfl rfl)
theorem dX4_empties_51 : decode cX4_empties 51 = .ok (.putfield 112, 3) := dk_181 0 112 (dk_at dksX4_empties_2 5 rfl rfl)
theorem dX4_empties_54 : decode cX4_empties 54 = .ok (.aload_n 0, 1) := dk_42 (dk_at dksX4_empties_2 8 rfl rfl)
theorem dX4_empties_55 : decode cX4_empties 55 = .ok (.iconst 0, 1) := dk_3 (dk_at dksX4_empties_2 9 rfl rfl)
theorem dX4_empties_56 : decode cX4_empties 56 = .ok (.putfield 115, 3) := dk_181 0 115 (dk_at dksX4_empties_2 10 rfl rfl)
theorem dX4_empties_59 : decode cX4_empties 59 = .ok (.return_, 1) := dk_177 (dk_at dksX4_empties_2 13 rfl rfl)
abbrev cX4_thrown : ByteArray := prog_18_method_2_code
def yX4_thrown : MethodName := ⟨RX4, "thrown", "()I"⟩
theorem dX4_thrown_0 : decode cX4_thrown 0 = .ok (.aload_n 0, 1) := by decide +kernel
theorem dX4_thrown_1 : decode cX4_thrown 1 = .ok (.getfield 109, 3) := by decide +kernel
theorem dX4_thrown_4 : decode cX4_thrown 4 = .ok (.ireturn, 1) := by decide +kernel
abbrev cX4_setCloth : ByteArray := prog_18_method_8_code
def yX4_setCloth : MethodName := ⟨RX4, "setCloth", "(IZI)I"⟩
def dkwX4_setCloth_3 : List UInt8 := [42, 29, 181, 0, 136, 21, 4, 172]
abbrev dktX4_setCloth_3 : List UInt8 := dkwX4_setCloth_3 ++ []
def dkwX4_setCloth_2 : List UInt8 := [182, 0, 129, 153, 0, 5, 3, 172, 42, 180, 0, 7, 54, 4, 42, 27, 181, 0, 7, 42, 28, 181, 0, 133]
abbrev dktX4_setCloth_2 : List UInt8 := dkwX4_setCloth_2 ++ dktX4_setCloth_3
def dkwX4_setCloth_1 : List UInt8 := [167, 0, 22, 42, 180, 0, 112, 157, 0, 10, 42, 180, 0, 126, 158, 0, 7, 5, 167, 0, 4, 3]
abbrev dktX4_setCloth_1 : List UInt8 := dkwX4_setCloth_1 ++ dktX4_setCloth_2
def dkwX4_setCloth_0 : List UInt8 := [42, 27, 5, 16, 12, 184, 0, 122, 153, 0, 13, 29, 3, 16, 6, 184, 0, 122, 154, 0, 7, 4]
abbrev dktX4_setCloth_0 : List UInt8 := dkwX4_setCloth_0 ++ dktX4_setCloth_1
theorem dksX4_setCloth_0 : cX4_setCloth.data.toList.drop 0 = dktX4_setCloth_0 := by decide +kernel
theorem dksX4_setCloth_1 : cX4_setCloth.data.toList.drop 22 = dktX4_setCloth_1 := dk_seg dksX4_setCloth_0 22 rfl rfl
theorem dksX4_setCloth_2 : cX4_setCloth.data.toList.drop 44 = dktX4_setCloth_2 := dk_seg dksX4_setCloth_1 22 rfl rfl
theorem dksX4_setCloth_3 : cX4_setCloth.data.toList.drop 68 = dktX4_setCloth_3 := dk_seg dksX4_setCloth_2 24 rfl rfl
theorem dX4_setCloth_0 : decode cX4_setCloth 0 = .ok (.aload_n 0, 1) := dk_42 (dk_at dksX4_setCloth_0 0 rfl rfl)
theorem dX4_setCloth_1 : decode cX4_setCloth 1 = .ok (.iload_n 1, 1) := dk_27 (dk_at dksX4_setCloth_0 1 rfl rfl)
theorem dX4_setCloth_2 : decode cX4_setCloth 2 = .ok (.iconst 2, 1) := dk_5 (dk_at dksX4_setCloth_0 2 rfl rfl)
theorem dX4_setCloth_3 : decode cX4_setCloth 3 = .ok (.bipush 12, 2) := dk_16 12 (dk_at dksX4_setCloth_0 3 rfl rfl)
theorem dX4_setCloth_5 : decode cX4_setCloth 5 = .ok (.invokestatic 122, 3) := dk_184 0 122 (dk_at dksX4_setCloth_0 5 rfl rfl)
theorem dX4_setCloth_8 : decode cX4_setCloth 8 = .ok (.ifCond .eq 13, 3) := dk_153 0 13 (dk_at dksX4_setCloth_0 8 rfl rfl)
theorem dX4_setCloth_11 : decode cX4_setCloth 11 = .ok (.iload_n 3, 1) := dk_29 (dk_at dksX4_setCloth_0 11 rfl rfl)
theorem dX4_setCloth_12 : decode cX4_setCloth 12 = .ok (.iconst 0, 1) := dk_3 (dk_at dksX4_setCloth_0 12 rfl rfl)
theorem dX4_setCloth_13 : decode cX4_setCloth 13 = .ok (.bipush 6, 2) := dk_16 6 (dk_at dksX4_setCloth_0 13 rfl rfl)
theorem dX4_setCloth_15 : decode cX4_setCloth 15 = .ok (.invokestatic 122, 3) := dk_184 0 122 (dk_at dksX4_setCloth_0 15 rfl rfl)
theorem dX4_setCloth_18 : decode cX4_setCloth 18 = .ok (.ifCond .ne 7, 3) := dk_154 0 7 (dk_at dksX4_setCloth_0 18 rfl rfl)
theorem dX4_setCloth_21 : decode cX4_setCloth 21 = .ok (.iconst 1, 1) := dk_4 (dk_at dksX4_setCloth_0 21 rfl rfl)
theorem dX4_setCloth_22 : decode cX4_setCloth 22 = .ok (.goto 22, 3) := dk_167 0 22 (dk_at dksX4_setCloth_1 0 rfl rfl)
theorem dX4_setCloth_25 : decode cX4_setCloth 25 = .ok (.aload_n 0, 1) := dk_42 (dk_at dksX4_setCloth_1 3 rfl rfl)
theorem dX4_setCloth_26 : decode cX4_setCloth 26 = .ok (.getfield 112, 3) := dk_180 0 112 (dk_at dksX4_setCloth_1 4 rfl rfl)
theorem dX4_setCloth_29 : decode cX4_setCloth 29 = .ok (.ifCond .gt 10, 3) := dk_157 0 10 (dk_at dksX4_setCloth_1 7 rfl rfl)
theorem dX4_setCloth_32 : decode cX4_setCloth 32 = .ok (.aload_n 0, 1) := dk_42 (dk_at dksX4_setCloth_1 10 rfl rfl)
theorem dX4_setCloth_33 : decode cX4_setCloth 33 = .ok (.getfield 126, 3) := dk_180 0 126 (dk_at dksX4_setCloth_1 11 rfl rfl)
theorem dX4_setCloth_36 : decode cX4_setCloth 36 = .ok (.ifCond .le 7, 3) := dk_158 0 7 (dk_at dksX4_setCloth_1 14 rfl rfl)
theorem dX4_setCloth_39 : decode cX4_setCloth 39 = .ok (.iconst 2, 1) := dk_5 (dk_at dksX4_setCloth_1 17 rfl rfl)
theorem dX4_setCloth_40 : decode cX4_setCloth 40 = .ok (.goto 4, 3) := dk_167 0 4 (dk_at dksX4_setCloth_1 18 rfl rfl)
theorem dX4_setCloth_43 : decode cX4_setCloth 43 = .ok (.iconst 0, 1) := dk_3 (dk_at dksX4_setCloth_1 21 rfl rfl)
theorem dX4_setCloth_44 : decode cX4_setCloth 44 = .ok (.invokevirtual 129, 3) := dk_182 0 129 (dk_at dksX4_setCloth_2 0 rfl rfl)
theorem dX4_setCloth_47 : decode cX4_setCloth 47 = .ok (.ifCond .eq 5, 3) := dk_153 0 5 (dk_at dksX4_setCloth_2 3 rfl rfl)
theorem dX4_setCloth_50 : decode cX4_setCloth 50 = .ok (.iconst 0, 1) := dk_3 (dk_at dksX4_setCloth_2 6 rfl rfl)
theorem dX4_setCloth_51 : decode cX4_setCloth 51 = .ok (.ireturn, 1) := dk_172 (dk_at dksX4_setCloth_2 7 rfl rfl)
theorem dX4_setCloth_52 : decode cX4_setCloth 52 = .ok (.aload_n 0, 1) := dk_42 (dk_at dksX4_setCloth_2 8 rfl rfl)
theorem dX4_setCloth_53 : decode cX4_setCloth 53 = .ok (.getfield 7, 3) := dk_180 0 7 (dk_at dksX4_setCloth_2 9 rfl rfl)
theorem dX4_setCloth_56 : decode cX4_setCloth 56 = .ok (.istore 4, 2) := dk_54 4 (dk_at dksX4_setCloth_2 12 rfl rfl)
theorem dX4_setCloth_58 : decode cX4_setCloth 58 = .ok (.aload_n 0, 1) := dk_42 (dk_at dksX4_setCloth_2 14 rfl rfl)
theorem dX4_setCloth_59 : decode cX4_setCloth 59 = .ok (.iload_n 1, 1) := dk_27 (dk_at dksX4_setCloth_2 15 rfl rfl)
theorem dX4_setCloth_60 : decode cX4_setCloth 60 = .ok (.putfield 7, 3) := dk_181 0 7 (dk_at dksX4_setCloth_2 16 rfl rfl)
theorem dX4_setCloth_63 : decode cX4_setCloth 63 = .ok (.aload_n 0, 1) := dk_42 (dk_at dksX4_setCloth_2 19 rfl rfl)
theorem dX4_setCloth_64 : decode cX4_setCloth 64 = .ok (.iload_n 2, 1) := dk_28 (dk_at dksX4_setCloth_2 20 rfl rfl)
theorem dX4_setCloth_65 : decode cX4_setCloth 65 = .ok (.putfield 133, 3) := dk_181 0 133 (dk_at dksX4_setCloth_2 21 rfl rfl)
theorem dX4_setCloth_68 : decode cX4_setCloth 68 = .ok (.aload_n 0, 1) := dk_42 (dk_at dksX4_setCloth_3 0 rfl rfl)
theorem dX4_setCloth_69 : decode cX4_setCloth 69 = .ok (.iload_n 3, 1) := dk_29 (dk_at dksX4_setCloth_3 1 rfl rfl)
theorem dX4_setCloth_70 : decode cX4_setCloth 70 = .ok (.putfield 136, 3) := dk_181 0 136 (dk_at dksX4_setCloth_3 2 rfl rfl)
theorem dX4_setCloth_73 : decode cX4_setCloth 73 = .ok (.iload 4, 2) := dk_21 4 (dk_at dksX4_setCloth_3 5 rfl rfl)
theorem dX4_setCloth_75 : decode cX4_setCloth 75 = .ok (.ireturn, 1) := dk_172 (dk_at dksX4_setCloth_3 7 rfl rfl)
abbrev cX4_in : ByteArray := prog_18_method_4_code
def yX4_in : MethodName := ⟨RX4, "in", "(III)Z"⟩
def dkwX4_in_0 : List UInt8 := [26, 27, 161, 0, 12, 26, 28, 163, 0, 7, 4, 167, 0, 4, 3, 172]
abbrev dktX4_in_0 : List UInt8 := dkwX4_in_0 ++ []
theorem dksX4_in_0 : cX4_in.data.toList.drop 0 = dktX4_in_0 := by decide +kernel
theorem dX4_in_0 : decode cX4_in 0 = .ok (.iload_n 0, 1) := dk_26 (dk_at dksX4_in_0 0 rfl rfl)
theorem dX4_in_1 : decode cX4_in 1 = .ok (.iload_n 1, 1) := dk_27 (dk_at dksX4_in_0 1 rfl rfl)
theorem dX4_in_2 : decode cX4_in 2 = .ok (.if_icmp .lt 12, 3) := dk_161 0 12 (dk_at dksX4_in_0 2 rfl rfl)
theorem dX4_in_5 : decode cX4_in 5 = .ok (.iload_n 0, 1) := dk_26 (dk_at dksX4_in_0 5 rfl rfl)
theorem dX4_in_6 : decode cX4_in 6 = .ok (.iload_n 2, 1) := dk_28 (dk_at dksX4_in_0 6 rfl rfl)
theorem dX4_in_7 : decode cX4_in 7 = .ok (.if_icmp .gt 7, 3) := dk_163 0 7 (dk_at dksX4_in_0 7 rfl rfl)
theorem dX4_in_10 : decode cX4_in 10 = .ok (.iconst 1, 1) := dk_4 (dk_at dksX4_in_0 10 rfl rfl)
theorem dX4_in_11 : decode cX4_in 11 = .ok (.goto 4, 3) := dk_167 0 4 (dk_at dksX4_in_0 11 rfl rfl)
theorem dX4_in_14 : decode cX4_in 14 = .ok (.iconst 0, 1) := dk_3 (dk_at dksX4_in_0 14 rfl rfl)
theorem dX4_in_15 : decode cX4_in 15 = .ok (.ireturn, 1) := dk_172 (dk_at dksX4_in_0 15 rfl rfl)
abbrev cX4_fails : ByteArray := prog_18_method_3_code
def yX4_fails : MethodName := ⟨RX4, "fails", "(I)Z"⟩
def dkwX4_fails_0 : List UInt8 := [42, 27, 181, 0, 109, 27, 158, 0, 7, 4, 167, 0, 4, 3, 172]
abbrev dktX4_fails_0 : List UInt8 := dkwX4_fails_0 ++ []
theorem dksX4_fails_0 : cX4_fails.data.toList.drop 0 = dktX4_fails_0 := by decide +kernel
theorem dX4_fails_0 : decode cX4_fails 0 = .ok (.aload_n 0, 1) := dk_42 (dk_at dksX4_fails_0 0 rfl rfl)
theorem dX4_fails_1 : decode cX4_fails 1 = .ok (.iload_n 1, 1) := dk_27 (dk_at dksX4_fails_0 1 rfl rfl)
theorem dX4_fails_2 : decode cX4_fails 2 = .ok (.putfield 109, 3) := dk_181 0 109 (dk_at dksX4_fails_0 2 rfl rfl)
theorem dX4_fails_5 : decode cX4_fails 5 = .ok (.iload_n 1, 1) := dk_27 (dk_at dksX4_fails_0 5 rfl rfl)
theorem dX4_fails_6 : decode cX4_fails 6 = .ok (.ifCond .le 7, 3) := dk_158 0 7 (dk_at dksX4_fails_0 6 rfl rfl)
theorem dX4_fails_9 : decode cX4_fails 9 = .ok (.iconst 1, 1) := dk_4 (dk_at dksX4_fails_0 9 rfl rfl)
theorem dX4_fails_10 : decode cX4_fails 10 = .ok (.goto 4, 3) := dk_167 0 4 (dk_at dksX4_fails_0 10 rfl rfl)
theorem dX4_fails_13 : decode cX4_fails 13 = .ok (.iconst 0, 1) := dk_3 (dk_at dksX4_fails_0 13 rfl rfl)
theorem dX4_fails_14 : decode cX4_fails 14 = .ok (.ireturn, 1) := dk_172 (dk_at dksX4_fails_0 14 rfl rfl)
abbrev cX4_fold : ByteArray := prog_18_method_9_code
def yX4_fold : MethodName := ⟨RX4, "fold", "(Z)Z"⟩
def dkwX4_fold_1 : List UInt8 := [180, 0, 118, 61, 42, 27, 181, 0, 118, 28, 172]
abbrev dktX4_fold_1 : List UInt8 := dkwX4_fold_1 ++ []
def dkwX4_fold_0 : List UInt8 := [42, 42, 180, 0, 112, 158, 0, 7, 4, 167, 0, 4, 3, 182, 0, 129, 153, 0, 5, 3, 172, 42]
abbrev dktX4_fold_0 : List UInt8 := dkwX4_fold_0 ++ dktX4_fold_1
theorem dksX4_fold_0 : cX4_fold.data.toList.drop 0 = dktX4_fold_0 := by decide +kernel
theorem dksX4_fold_1 : cX4_fold.data.toList.drop 22 = dktX4_fold_1 := dk_seg dksX4_fold_0 22 rfl rfl
theorem dX4_fold_0 : decode cX4_fold 0 = .ok (.aload_n 0, 1) := dk_42 (dk_at dksX4_fold_0 0 rfl rfl)
theorem dX4_fold_1 : decode cX4_fold 1 = .ok (.aload_n 0, 1) := dk_42 (dk_at dksX4_fold_0 1 rfl rfl)
theorem dX4_fold_2 : decode cX4_fold 2 = .ok (.getfield 112, 3) := dk_180 0 112 (dk_at dksX4_fold_0 2 rfl rfl)
theorem dX4_fold_5 : decode cX4_fold 5 = .ok (.ifCond .le 7, 3) := dk_158 0 7 (dk_at dksX4_fold_0 5 rfl rfl)
theorem dX4_fold_8 : decode cX4_fold 8 = .ok (.iconst 1, 1) := dk_4 (dk_at dksX4_fold_0 8 rfl rfl)
theorem dX4_fold_9 : decode cX4_fold 9 = .ok (.goto 4, 3) := dk_167 0 4 (dk_at dksX4_fold_0 9 rfl rfl)
theorem dX4_fold_12 : decode cX4_fold 12 = .ok (.iconst 0, 1) := dk_3 (dk_at dksX4_fold_0 12 rfl rfl)
theorem dX4_fold_13 : decode cX4_fold 13 = .ok (.invokevirtual 129, 3) := dk_182 0 129 (dk_at dksX4_fold_0 13 rfl rfl)
theorem dX4_fold_16 : decode cX4_fold 16 = .ok (.ifCond .eq 5, 3) := dk_153 0 5 (dk_at dksX4_fold_0 16 rfl rfl)
theorem dX4_fold_19 : decode cX4_fold 19 = .ok (.iconst 0, 1) := dk_3 (dk_at dksX4_fold_0 19 rfl rfl)
theorem dX4_fold_20 : decode cX4_fold 20 = .ok (.ireturn, 1) := dk_172 (dk_at dksX4_fold_0 20 rfl rfl)
theorem dX4_fold_21 : decode cX4_fold 21 = .ok (.aload_n 0, 1) := dk_42 (dk_at dksX4_fold_0 21 rfl rfl)
theorem dX4_fold_22 : decode cX4_fold 22 = .ok (.getfield 118, 3) := dk_180 0 118 (dk_at dksX4_fold_1 0 rfl rfl)
theorem dX4_fold_25 : decode cX4_fold 25 = .ok (.istore_n 2, 1) := dk_61 (dk_at dksX4_fold_1 3 rfl rfl)
theorem dX4_fold_26 : decode cX4_fold 26 = .ok (.aload_n 0, 1) := dk_42 (dk_at dksX4_fold_1 4 rfl rfl)
theorem dX4_fold_27 : decode cX4_fold 27 = .ok (.iload_n 1, 1) := dk_27 (dk_at dksX4_fold_1 5 rfl rfl)
theorem dX4_fold_28 : decode cX4_fold 28 = .ok (.putfield 118, 3) := dk_181 0 118 (dk_at dksX4_fold_1 6 rfl rfl)
theorem dX4_fold_31 : decode cX4_fold 31 = .ok (.iload_n 2, 1) := dk_28 (dk_at dksX4_fold_1 9 rfl rfl)
theorem dX4_fold_32 : decode cX4_fold 32 = .ok (.ireturn, 1) := dk_172 (dk_at dksX4_fold_1 10 rfl rfl)
abbrev cX4_addFlaw : ByteArray := prog_18_method_11_code
def yX4_addFlaw : MethodName := ⟨RX4, "addFlaw", "(II)I"⟩
def dkwX4_addFlaw_5 : List UInt8 := [180, 0, 13, 16, 12, 27, 104, 28, 96, 4, 84, 42, 180, 0, 126, 172]
abbrev dktX4_addFlaw_5 : List UInt8 := dkwX4_addFlaw_5 ++ []
def dkwX4_addFlaw_4 : List UInt8 := [180, 0, 13, 16, 12, 27, 104, 28, 96, 51, 153, 0, 7, 3, 167, 0, 4, 4, 96, 181, 0, 126, 42]
abbrev dktX4_addFlaw_4 : List UInt8 := dkwX4_addFlaw_4 ++ dktX4_addFlaw_5
def dkwX4_addFlaw_3 : List UInt8 := [154, 0, 7, 6, 167, 0, 4, 3, 182, 0, 129, 153, 0, 5, 3, 172, 42, 89, 180, 0, 126, 42]
abbrev dktX4_addFlaw_3 : List UInt8 := dkwX4_addFlaw_3 ++ dktX4_addFlaw_4
def dkwX4_addFlaw_2 : List UInt8 := [5, 167, 0, 31, 42, 180, 0, 126, 16, 12, 160, 0, 21, 42, 180, 0, 13, 16, 12, 27, 104, 28, 96, 51]
abbrev dktX4_addFlaw_2 : List UInt8 := dkwX4_addFlaw_2 ++ dktX4_addFlaw_3
def dkwX4_addFlaw_1 : List UInt8 := [4, 167, 0, 4, 3, 62, 42, 29, 154, 0, 7, 4, 167, 0, 44, 42, 27, 28, 182, 0, 139, 153, 0, 7]
abbrev dktX4_addFlaw_1 : List UInt8 := dkwX4_addFlaw_1 ++ dktX4_addFlaw_2
def dkwX4_addFlaw_0 : List UInt8 := [27, 3, 16, 59, 184, 0, 122, 153, 0, 21, 28, 3, 42, 180, 0, 7, 4, 100, 184, 0, 122, 153, 0, 7]
abbrev dktX4_addFlaw_0 : List UInt8 := dkwX4_addFlaw_0 ++ dktX4_addFlaw_1
theorem dksX4_addFlaw_0 : cX4_addFlaw.data.toList.drop 0 = dktX4_addFlaw_0 := by decide +kernel
theorem dksX4_addFlaw_1 : cX4_addFlaw.data.toList.drop 24 = dktX4_addFlaw_1 := dk_seg dksX4_addFlaw_0 24 rfl rfl
theorem dksX4_addFlaw_2 : cX4_addFlaw.data.toList.drop 48 = dktX4_addFlaw_2 := dk_seg dksX4_addFlaw_1 24 rfl rfl
theorem dksX4_addFlaw_3 : cX4_addFlaw.data.toList.drop 72 = dktX4_addFlaw_3 := dk_seg dksX4_addFlaw_2 24 rfl rfl
theorem dksX4_addFlaw_4 : cX4_addFlaw.data.toList.drop 94 = dktX4_addFlaw_4 := dk_seg dksX4_addFlaw_3 22 rfl rfl
theorem dksX4_addFlaw_5 : cX4_addFlaw.data.toList.drop 117 = dktX4_addFlaw_5 := dk_seg dksX4_addFlaw_4 23 rfl rfl
theorem dX4_addFlaw_0 : decode cX4_addFlaw 0 = .ok (.iload_n 1, 1) := dk_27 (dk_at dksX4_addFlaw_0 0 rfl rfl)
theorem dX4_addFlaw_1 : decode cX4_addFlaw 1 = .ok (.iconst 0, 1) := dk_3 (dk_at dksX4_addFlaw_0 1 rfl rfl)
theorem dX4_addFlaw_2 : decode cX4_addFlaw 2 = .ok (.bipush 59, 2) := dk_16 59 (dk_at dksX4_addFlaw_0 2 rfl rfl)
theorem dX4_addFlaw_4 : decode cX4_addFlaw 4 = .ok (.invokestatic 122, 3) := dk_184 0 122 (dk_at dksX4_addFlaw_0 4 rfl rfl)
theorem dX4_addFlaw_7 : decode cX4_addFlaw 7 = .ok (.ifCond .eq 21, 3) := dk_153 0 21 (dk_at dksX4_addFlaw_0 7 rfl rfl)
theorem dX4_addFlaw_10 : decode cX4_addFlaw 10 = .ok (.iload_n 2, 1) := dk_28 (dk_at dksX4_addFlaw_0 10 rfl rfl)
theorem dX4_addFlaw_11 : decode cX4_addFlaw 11 = .ok (.iconst 0, 1) := dk_3 (dk_at dksX4_addFlaw_0 11 rfl rfl)
theorem dX4_addFlaw_12 : decode cX4_addFlaw 12 = .ok (.aload_n 0, 1) := dk_42 (dk_at dksX4_addFlaw_0 12 rfl rfl)
theorem dX4_addFlaw_13 : decode cX4_addFlaw 13 = .ok (.getfield 7, 3) := dk_180 0 7 (dk_at dksX4_addFlaw_0 13 rfl rfl)
theorem dX4_addFlaw_16 : decode cX4_addFlaw 16 = .ok (.iconst 1, 1) := dk_4 (dk_at dksX4_addFlaw_0 16 rfl rfl)
theorem dX4_addFlaw_17 : decode cX4_addFlaw 17 = .ok (.isub, 1) := dk_100 (dk_at dksX4_addFlaw_0 17 rfl rfl)
theorem dX4_addFlaw_18 : decode cX4_addFlaw 18 = .ok (.invokestatic 122, 3) := dk_184 0 122 (dk_at dksX4_addFlaw_0 18 rfl rfl)
theorem dX4_addFlaw_21 : decode cX4_addFlaw 21 = .ok (.ifCond .eq 7, 3) := dk_153 0 7 (dk_at dksX4_addFlaw_0 21 rfl rfl)
theorem dX4_addFlaw_24 : decode cX4_addFlaw 24 = .ok (.iconst 1, 1) := dk_4 (dk_at dksX4_addFlaw_1 0 rfl rfl)
theorem dX4_addFlaw_25 : decode cX4_addFlaw 25 = .ok (.goto 4, 3) := dk_167 0 4 (dk_at dksX4_addFlaw_1 1 rfl rfl)
theorem dX4_addFlaw_28 : decode cX4_addFlaw 28 = .ok (.iconst 0, 1) := dk_3 (dk_at dksX4_addFlaw_1 4 rfl rfl)
theorem dX4_addFlaw_29 : decode cX4_addFlaw 29 = .ok (.istore_n 3, 1) := dk_62 (dk_at dksX4_addFlaw_1 5 rfl rfl)
theorem dX4_addFlaw_30 : decode cX4_addFlaw 30 = .ok (.aload_n 0, 1) := dk_42 (dk_at dksX4_addFlaw_1 6 rfl rfl)
theorem dX4_addFlaw_31 : decode cX4_addFlaw 31 = .ok (.iload_n 3, 1) := dk_29 (dk_at dksX4_addFlaw_1 7 rfl rfl)
theorem dX4_addFlaw_32 : decode cX4_addFlaw 32 = .ok (.ifCond .ne 7, 3) := dk_154 0 7 (dk_at dksX4_addFlaw_1 8 rfl rfl)
theorem dX4_addFlaw_35 : decode cX4_addFlaw 35 = .ok (.iconst 1, 1) := dk_4 (dk_at dksX4_addFlaw_1 11 rfl rfl)
theorem dX4_addFlaw_36 : decode cX4_addFlaw 36 = .ok (.goto 44, 3) := dk_167 0 44 (dk_at dksX4_addFlaw_1 12 rfl rfl)
theorem dX4_addFlaw_39 : decode cX4_addFlaw 39 = .ok (.aload_n 0, 1) := dk_42 (dk_at dksX4_addFlaw_1 15 rfl rfl)
theorem dX4_addFlaw_40 : decode cX4_addFlaw 40 = .ok (.iload_n 1, 1) := dk_27 (dk_at dksX4_addFlaw_1 16 rfl rfl)
theorem dX4_addFlaw_41 : decode cX4_addFlaw 41 = .ok (.iload_n 2, 1) := dk_28 (dk_at dksX4_addFlaw_1 17 rfl rfl)
theorem dX4_addFlaw_42 : decode cX4_addFlaw 42 = .ok (.invokevirtual 139, 3) := dk_182 0 139 (dk_at dksX4_addFlaw_1 18 rfl rfl)
theorem dX4_addFlaw_45 : decode cX4_addFlaw 45 = .ok (.ifCond .eq 7, 3) := dk_153 0 7 (dk_at dksX4_addFlaw_1 21 rfl rfl)
theorem dX4_addFlaw_48 : decode cX4_addFlaw 48 = .ok (.iconst 2, 1) := dk_5 (dk_at dksX4_addFlaw_2 0 rfl rfl)
theorem dX4_addFlaw_49 : decode cX4_addFlaw 49 = .ok (.goto 31, 3) := dk_167 0 31 (dk_at dksX4_addFlaw_2 1 rfl rfl)
theorem dX4_addFlaw_52 : decode cX4_addFlaw 52 = .ok (.aload_n 0, 1) := dk_42 (dk_at dksX4_addFlaw_2 4 rfl rfl)
theorem dX4_addFlaw_53 : decode cX4_addFlaw 53 = .ok (.getfield 126, 3) := dk_180 0 126 (dk_at dksX4_addFlaw_2 5 rfl rfl)
theorem dX4_addFlaw_56 : decode cX4_addFlaw 56 = .ok (.bipush 12, 2) := dk_16 12 (dk_at dksX4_addFlaw_2 8 rfl rfl)
theorem dX4_addFlaw_58 : decode cX4_addFlaw 58 = .ok (.if_icmp .ne 21, 3) := dk_160 0 21 (dk_at dksX4_addFlaw_2 10 rfl rfl)
theorem dX4_addFlaw_61 : decode cX4_addFlaw 61 = .ok (.aload_n 0, 1) := dk_42 (dk_at dksX4_addFlaw_2 13 rfl rfl)
theorem dX4_addFlaw_62 : decode cX4_addFlaw 62 = .ok (.getfield 13, 3) := dk_180 0 13 (dk_at dksX4_addFlaw_2 14 rfl rfl)
theorem dX4_addFlaw_65 : decode cX4_addFlaw 65 = .ok (.bipush 12, 2) := dk_16 12 (dk_at dksX4_addFlaw_2 17 rfl rfl)
theorem dX4_addFlaw_67 : decode cX4_addFlaw 67 = .ok (.iload_n 1, 1) := dk_27 (dk_at dksX4_addFlaw_2 19 rfl rfl)
theorem dX4_addFlaw_68 : decode cX4_addFlaw 68 = .ok (.imul, 1) := dk_104 (dk_at dksX4_addFlaw_2 20 rfl rfl)
theorem dX4_addFlaw_69 : decode cX4_addFlaw 69 = .ok (.iload_n 2, 1) := dk_28 (dk_at dksX4_addFlaw_2 21 rfl rfl)
theorem dX4_addFlaw_70 : decode cX4_addFlaw 70 = .ok (.iadd, 1) := dk_96 (dk_at dksX4_addFlaw_2 22 rfl rfl)
theorem dX4_addFlaw_71 : decode cX4_addFlaw 71 = .ok (.baload, 1) := dk_51 (dk_at dksX4_addFlaw_2 23 rfl rfl)
theorem dX4_addFlaw_72 : decode cX4_addFlaw 72 = .ok (.ifCond .ne 7, 3) := dk_154 0 7 (dk_at dksX4_addFlaw_3 0 rfl rfl)
theorem dX4_addFlaw_75 : decode cX4_addFlaw 75 = .ok (.iconst 3, 1) := dk_6 (dk_at dksX4_addFlaw_3 3 rfl rfl)
theorem dX4_addFlaw_76 : decode cX4_addFlaw 76 = .ok (.goto 4, 3) := dk_167 0 4 (dk_at dksX4_addFlaw_3 4 rfl rfl)
theorem dX4_addFlaw_79 : decode cX4_addFlaw 79 = .ok (.iconst 0, 1) := dk_3 (dk_at dksX4_addFlaw_3 7 rfl rfl)
theorem dX4_addFlaw_80 : decode cX4_addFlaw 80 = .ok (.invokevirtual 129, 3) := dk_182 0 129 (dk_at dksX4_addFlaw_3 8 rfl rfl)
theorem dX4_addFlaw_83 : decode cX4_addFlaw 83 = .ok (.ifCond .eq 5, 3) := dk_153 0 5 (dk_at dksX4_addFlaw_3 11 rfl rfl)
theorem dX4_addFlaw_86 : decode cX4_addFlaw 86 = .ok (.iconst 0, 1) := dk_3 (dk_at dksX4_addFlaw_3 14 rfl rfl)
theorem dX4_addFlaw_87 : decode cX4_addFlaw 87 = .ok (.ireturn, 1) := dk_172 (dk_at dksX4_addFlaw_3 15 rfl rfl)
theorem dX4_addFlaw_88 : decode cX4_addFlaw 88 = .ok (.aload_n 0, 1) := dk_42 (dk_at dksX4_addFlaw_3 16 rfl rfl)
theorem dX4_addFlaw_89 : decode cX4_addFlaw 89 = .ok (.dup, 1) := dk_89 (dk_at dksX4_addFlaw_3 17 rfl rfl)
theorem dX4_addFlaw_90 : decode cX4_addFlaw 90 = .ok (.getfield 126, 3) := dk_180 0 126 (dk_at dksX4_addFlaw_3 18 rfl rfl)
theorem dX4_addFlaw_93 : decode cX4_addFlaw 93 = .ok (.aload_n 0, 1) := dk_42 (dk_at dksX4_addFlaw_3 21 rfl rfl)
theorem dX4_addFlaw_94 : decode cX4_addFlaw 94 = .ok (.getfield 13, 3) := dk_180 0 13 (dk_at dksX4_addFlaw_4 0 rfl rfl)
theorem dX4_addFlaw_97 : decode cX4_addFlaw 97 = .ok (.bipush 12, 2) := dk_16 12 (dk_at dksX4_addFlaw_4 3 rfl rfl)
theorem dX4_addFlaw_99 : decode cX4_addFlaw 99 = .ok (.iload_n 1, 1) := dk_27 (dk_at dksX4_addFlaw_4 5 rfl rfl)
theorem dX4_addFlaw_100 : decode cX4_addFlaw 100 = .ok (.imul, 1) := dk_104 (dk_at dksX4_addFlaw_4 6 rfl rfl)
theorem dX4_addFlaw_101 : decode cX4_addFlaw 101 = .ok (.iload_n 2, 1) := dk_28 (dk_at dksX4_addFlaw_4 7 rfl rfl)
theorem dX4_addFlaw_102 : decode cX4_addFlaw 102 = .ok (.iadd, 1) := dk_96 (dk_at dksX4_addFlaw_4 8 rfl rfl)
theorem dX4_addFlaw_103 : decode cX4_addFlaw 103 = .ok (.baload, 1) := dk_51 (dk_at dksX4_addFlaw_4 9 rfl rfl)
theorem dX4_addFlaw_104 : decode cX4_addFlaw 104 = .ok (.ifCond .eq 7, 3) := dk_153 0 7 (dk_at dksX4_addFlaw_4 10 rfl rfl)
theorem dX4_addFlaw_107 : decode cX4_addFlaw 107 = .ok (.iconst 0, 1) := dk_3 (dk_at dksX4_addFlaw_4 13 rfl rfl)
theorem dX4_addFlaw_108 : decode cX4_addFlaw 108 = .ok (.goto 4, 3) := dk_167 0 4 (dk_at dksX4_addFlaw_4 14 rfl rfl)
theorem dX4_addFlaw_111 : decode cX4_addFlaw 111 = .ok (.iconst 1, 1) := dk_4 (dk_at dksX4_addFlaw_4 17 rfl rfl)
theorem dX4_addFlaw_112 : decode cX4_addFlaw 112 = .ok (.iadd, 1) := dk_96 (dk_at dksX4_addFlaw_4 18 rfl rfl)
theorem dX4_addFlaw_113 : decode cX4_addFlaw 113 = .ok (.putfield 126, 3) := dk_181 0 126 (dk_at dksX4_addFlaw_4 19 rfl rfl)
theorem dX4_addFlaw_116 : decode cX4_addFlaw 116 = .ok (.aload_n 0, 1) := dk_42 (dk_at dksX4_addFlaw_4 22 rfl rfl)
theorem dX4_addFlaw_117 : decode cX4_addFlaw 117 = .ok (.getfield 13, 3) := dk_180 0 13 (dk_at dksX4_addFlaw_5 0 rfl rfl)
theorem dX4_addFlaw_120 : decode cX4_addFlaw 120 = .ok (.bipush 12, 2) := dk_16 12 (dk_at dksX4_addFlaw_5 3 rfl rfl)
theorem dX4_addFlaw_122 : decode cX4_addFlaw 122 = .ok (.iload_n 1, 1) := dk_27 (dk_at dksX4_addFlaw_5 5 rfl rfl)
theorem dX4_addFlaw_123 : decode cX4_addFlaw 123 = .ok (.imul, 1) := dk_104 (dk_at dksX4_addFlaw_5 6 rfl rfl)
theorem dX4_addFlaw_124 : decode cX4_addFlaw 124 = .ok (.iload_n 2, 1) := dk_28 (dk_at dksX4_addFlaw_5 7 rfl rfl)
theorem dX4_addFlaw_125 : decode cX4_addFlaw 125 = .ok (.iadd, 1) := dk_96 (dk_at dksX4_addFlaw_5 8 rfl rfl)
theorem dX4_addFlaw_126 : decode cX4_addFlaw 126 = .ok (.iconst 1, 1) := dk_4 (dk_at dksX4_addFlaw_5 9 rfl rfl)
theorem dX4_addFlaw_127 : decode cX4_addFlaw 127 = .ok (.bastore, 1) := dk_84 (dk_at dksX4_addFlaw_5 10 rfl rfl)
theorem dX4_addFlaw_128 : decode cX4_addFlaw 128 = .ok (.aload_n 0, 1) := dk_42 (dk_at dksX4_addFlaw_5 11 rfl rfl)
theorem dX4_addFlaw_129 : decode cX4_addFlaw 129 = .ok (.getfield 126, 3) := dk_180 0 126 (dk_at dksX4_addFlaw_5 12 rfl rfl)
theorem dX4_addFlaw_132 : decode cX4_addFlaw 132 = .ok (.ireturn, 1) := dk_172 (dk_at dksX4_addFlaw_5 15 rfl rfl)
abbrev cX4_isUnderPiece : ByteArray := prog_18_method_10_code
def yX4_isUnderPiece : MethodName := ⟨RX4, "isUnderPiece", "(II)Z"⟩
def dkwX4_isUnderPiece_2 : List UInt8 := [100, 28, 100, 46, 2, 159, 0, 7, 4, 167, 0, 4, 3, 172]
abbrev dktX4_isUnderPiece_2 : List UInt8 := dkwX4_isUnderPiece_2 ++ []
def dkwX4_isUnderPiece_1 : List UInt8 := [154, 0, 32, 42, 180, 0, 118, 153, 0, 29, 42, 180, 0, 64, 16, 12, 27, 104, 42, 180, 0, 7, 96, 4]
abbrev dktX4_isUnderPiece_1 : List UInt8 := dkwX4_isUnderPiece_1 ++ dktX4_isUnderPiece_2
def dkwX4_isUnderPiece_0 : List UInt8 := [42, 180, 0, 64, 16, 12, 27, 104, 28, 96, 46, 2, 159, 0, 7, 4, 167, 0, 4, 3, 62, 29]
abbrev dktX4_isUnderPiece_0 : List UInt8 := dkwX4_isUnderPiece_0 ++ dktX4_isUnderPiece_1
theorem dksX4_isUnderPiece_0 : cX4_isUnderPiece.data.toList.drop 0 = dktX4_isUnderPiece_0 := by decide +kernel
theorem dksX4_isUnderPiece_1 : cX4_isUnderPiece.data.toList.drop 22 = dktX4_isUnderPiece_1 := dk_seg dksX4_isUnderPiece_0 22 rfl rfl
theorem dksX4_isUnderPiece_2 : cX4_isUnderPiece.data.toList.drop 46 = dktX4_isUnderPiece_2 := dk_seg dksX4_isUnderPiece_1 24 rfl rfl
theorem dX4_isUnderPiece_0 : decode cX4_isUnderPiece 0 = .ok (.aload_n 0, 1) := dk_42 (dk_at dksX4_isUnderPiece_0 0 rfl rfl)
theorem dX4_isUnderPiece_1 : decode cX4_isUnderPiece 1 = .ok (.getfield 64, 3) := dk_180 0 64 (dk_at dksX4_isUnderPiece_0 1 rfl rfl)
theorem dX4_isUnderPiece_4 : decode cX4_isUnderPiece 4 = .ok (.bipush 12, 2) := dk_16 12 (dk_at dksX4_isUnderPiece_0 4 rfl rfl)
theorem dX4_isUnderPiece_6 : decode cX4_isUnderPiece 6 = .ok (.iload_n 1, 1) := dk_27 (dk_at dksX4_isUnderPiece_0 6 rfl rfl)
theorem dX4_isUnderPiece_7 : decode cX4_isUnderPiece 7 = .ok (.imul, 1) := dk_104 (dk_at dksX4_isUnderPiece_0 7 rfl rfl)
theorem dX4_isUnderPiece_8 : decode cX4_isUnderPiece 8 = .ok (.iload_n 2, 1) := dk_28 (dk_at dksX4_isUnderPiece_0 8 rfl rfl)
theorem dX4_isUnderPiece_9 : decode cX4_isUnderPiece 9 = .ok (.iadd, 1) := dk_96 (dk_at dksX4_isUnderPiece_0 9 rfl rfl)
theorem dX4_isUnderPiece_10 : decode cX4_isUnderPiece 10 = .ok (.iaload, 1) := dk_46 (dk_at dksX4_isUnderPiece_0 10 rfl rfl)
theorem dX4_isUnderPiece_11 : decode cX4_isUnderPiece 11 = .ok (.iconst (-1), 1) := dk_2 (dk_at dksX4_isUnderPiece_0 11 rfl rfl)
theorem dX4_isUnderPiece_12 : decode cX4_isUnderPiece 12 = .ok (.if_icmp .eq 7, 3) := dk_159 0 7 (dk_at dksX4_isUnderPiece_0 12 rfl rfl)
theorem dX4_isUnderPiece_15 : decode cX4_isUnderPiece 15 = .ok (.iconst 1, 1) := dk_4 (dk_at dksX4_isUnderPiece_0 15 rfl rfl)
theorem dX4_isUnderPiece_16 : decode cX4_isUnderPiece 16 = .ok (.goto 4, 3) := dk_167 0 4 (dk_at dksX4_isUnderPiece_0 16 rfl rfl)
theorem dX4_isUnderPiece_19 : decode cX4_isUnderPiece 19 = .ok (.iconst 0, 1) := dk_3 (dk_at dksX4_isUnderPiece_0 19 rfl rfl)
theorem dX4_isUnderPiece_20 : decode cX4_isUnderPiece 20 = .ok (.istore_n 3, 1) := dk_62 (dk_at dksX4_isUnderPiece_0 20 rfl rfl)
theorem dX4_isUnderPiece_21 : decode cX4_isUnderPiece 21 = .ok (.iload_n 3, 1) := dk_29 (dk_at dksX4_isUnderPiece_0 21 rfl rfl)
theorem dX4_isUnderPiece_22 : decode cX4_isUnderPiece 22 = .ok (.ifCond .ne 32, 3) := dk_154 0 32 (dk_at dksX4_isUnderPiece_1 0 rfl rfl)
theorem dX4_isUnderPiece_25 : decode cX4_isUnderPiece 25 = .ok (.aload_n 0, 1) := dk_42 (dk_at dksX4_isUnderPiece_1 3 rfl rfl)
theorem dX4_isUnderPiece_26 : decode cX4_isUnderPiece 26 = .ok (.getfield 118, 3) := dk_180 0 118 (dk_at dksX4_isUnderPiece_1 4 rfl rfl)
theorem dX4_isUnderPiece_29 : decode cX4_isUnderPiece 29 = .ok (.ifCond .eq 29, 3) := dk_153 0 29 (dk_at dksX4_isUnderPiece_1 7 rfl rfl)
theorem dX4_isUnderPiece_32 : decode cX4_isUnderPiece 32 = .ok (.aload_n 0, 1) := dk_42 (dk_at dksX4_isUnderPiece_1 10 rfl rfl)
theorem dX4_isUnderPiece_33 : decode cX4_isUnderPiece 33 = .ok (.getfield 64, 3) := dk_180 0 64 (dk_at dksX4_isUnderPiece_1 11 rfl rfl)
theorem dX4_isUnderPiece_36 : decode cX4_isUnderPiece 36 = .ok (.bipush 12, 2) := dk_16 12 (dk_at dksX4_isUnderPiece_1 14 rfl rfl)
theorem dX4_isUnderPiece_38 : decode cX4_isUnderPiece 38 = .ok (.iload_n 1, 1) := dk_27 (dk_at dksX4_isUnderPiece_1 16 rfl rfl)
theorem dX4_isUnderPiece_39 : decode cX4_isUnderPiece 39 = .ok (.imul, 1) := dk_104 (dk_at dksX4_isUnderPiece_1 17 rfl rfl)
theorem dX4_isUnderPiece_40 : decode cX4_isUnderPiece 40 = .ok (.aload_n 0, 1) := dk_42 (dk_at dksX4_isUnderPiece_1 18 rfl rfl)
theorem dX4_isUnderPiece_41 : decode cX4_isUnderPiece 41 = .ok (.getfield 7, 3) := dk_180 0 7 (dk_at dksX4_isUnderPiece_1 19 rfl rfl)
theorem dX4_isUnderPiece_44 : decode cX4_isUnderPiece 44 = .ok (.iadd, 1) := dk_96 (dk_at dksX4_isUnderPiece_1 22 rfl rfl)
theorem dX4_isUnderPiece_45 : decode cX4_isUnderPiece 45 = .ok (.iconst 1, 1) := dk_4 (dk_at dksX4_isUnderPiece_1 23 rfl rfl)
theorem dX4_isUnderPiece_46 : decode cX4_isUnderPiece 46 = .ok (.isub, 1) := dk_100 (dk_at dksX4_isUnderPiece_2 0 rfl rfl)
theorem dX4_isUnderPiece_47 : decode cX4_isUnderPiece 47 = .ok (.iload_n 2, 1) := dk_28 (dk_at dksX4_isUnderPiece_2 1 rfl rfl)
theorem dX4_isUnderPiece_48 : decode cX4_isUnderPiece 48 = .ok (.isub, 1) := dk_100 (dk_at dksX4_isUnderPiece_2 2 rfl rfl)
theorem dX4_isUnderPiece_49 : decode cX4_isUnderPiece 49 = .ok (.iaload, 1) := dk_46 (dk_at dksX4_isUnderPiece_2 3 rfl rfl)
theorem dX4_isUnderPiece_50 : decode cX4_isUnderPiece 50 = .ok (.iconst (-1), 1) := dk_2 (dk_at dksX4_isUnderPiece_2 4 rfl rfl)
theorem dX4_isUnderPiece_51 : decode cX4_isUnderPiece 51 = .ok (.if_icmp .eq 7, 3) := dk_159 0 7 (dk_at dksX4_isUnderPiece_2 5 rfl rfl)
theorem dX4_isUnderPiece_54 : decode cX4_isUnderPiece 54 = .ok (.iconst 1, 1) := dk_4 (dk_at dksX4_isUnderPiece_2 8 rfl rfl)
theorem dX4_isUnderPiece_55 : decode cX4_isUnderPiece 55 = .ok (.goto 4, 3) := dk_167 0 4 (dk_at dksX4_isUnderPiece_2 9 rfl rfl)
theorem dX4_isUnderPiece_58 : decode cX4_isUnderPiece 58 = .ok (.iconst 0, 1) := dk_3 (dk_at dksX4_isUnderPiece_2 12 rfl rfl)
theorem dX4_isUnderPiece_59 : decode cX4_isUnderPiece 59 = .ok (.ireturn, 1) := dk_172 (dk_at dksX4_isUnderPiece_2 13 rfl rfl)
abbrev cX4_clearFlaws : ByteArray := prog_18_method_12_code
def yX4_clearFlaws : MethodName := ⟨RX4, "clearFlaws", "()I"⟩
def dkwX4_clearFlaws_1 : List UInt8 := [3, 84, 132, 2, 1, 167, 255, 239, 42, 3, 181, 0, 126, 27, 172]
abbrev dktX4_clearFlaws_1 : List UInt8 := dkwX4_clearFlaws_1 ++ []
def dkwX4_clearFlaws_0 : List UInt8 := [42, 3, 181, 0, 109, 42, 180, 0, 126, 60, 3, 61, 28, 17, 2, 208, 162, 0, 16, 42, 180, 0, 13, 28]
abbrev dktX4_clearFlaws_0 : List UInt8 := dkwX4_clearFlaws_0 ++ dktX4_clearFlaws_1
theorem dksX4_clearFlaws_0 : cX4_clearFlaws.data.toList.drop 0 = dktX4_clearFlaws_0 := by decide +kernel
theorem dksX4_clearFlaws_1 : cX4_clearFlaws.data.toList.drop 24 = dktX4_clearFlaws_1 := dk_seg dksX4_clearFlaws_0 24 rfl rfl
theorem dX4_clearFlaws_0 : decode cX4_clearFlaws 0 = .ok (.aload_n 0, 1) := dk_42 (dk_at dksX4_clearFlaws_0 0 rfl rfl)
theorem dX4_clearFlaws_1 : decode cX4_clearFlaws 1 = .ok (.iconst 0, 1) := dk_3 (dk_at dksX4_clearFlaws_0 1 rfl rfl)
theorem dX4_clearFlaws_2 : decode cX4_clearFlaws 2 = .ok (.putfield 109, 3) := dk_181 0 109 (dk_at dksX4_clearFlaws_0 2 rfl rfl)
theorem dX4_clearFlaws_5 : decode cX4_clearFlaws 5 = .ok (.aload_n 0, 1) := dk_42 (dk_at dksX4_clearFlaws_0 5 rfl rfl)
theorem dX4_clearFlaws_6 : decode cX4_clearFlaws 6 = .ok (.getfield 126, 3) := dk_180 0 126 (dk_at dksX4_clearFlaws_0 6 rfl rfl)
theorem dX4_clearFlaws_9 : decode cX4_clearFlaws 9 = .ok (.istore_n 1, 1) := dk_60 (dk_at dksX4_clearFlaws_0 9 rfl rfl)
theorem dX4_clearFlaws_10 : decode cX4_clearFlaws 10 = .ok (.iconst 0, 1) := dk_3 (dk_at dksX4_clearFlaws_0 10 rfl rfl)
theorem dX4_clearFlaws_11 : decode cX4_clearFlaws 11 = .ok (.istore_n 2, 1) := dk_61 (dk_at dksX4_clearFlaws_0 11 rfl rfl)
theorem dX4_clearFlaws_12 : decode cX4_clearFlaws 12 = .ok (.iload_n 2, 1) := dk_28 (dk_at dksX4_clearFlaws_0 12 rfl rfl)
theorem dX4_clearFlaws_13 : decode cX4_clearFlaws 13 = .ok (.sipush 720, 3) := dk_17 2 208 (dk_at dksX4_clearFlaws_0 13 rfl rfl)
theorem dX4_clearFlaws_16 : decode cX4_clearFlaws 16 = .ok (.if_icmp .ge 16, 3) := dk_162 0 16 (dk_at dksX4_clearFlaws_0 16 rfl rfl)
theorem dX4_clearFlaws_19 : decode cX4_clearFlaws 19 = .ok (.aload_n 0, 1) := dk_42 (dk_at dksX4_clearFlaws_0 19 rfl rfl)
theorem dX4_clearFlaws_20 : decode cX4_clearFlaws 20 = .ok (.getfield 13, 3) := dk_180 0 13 (dk_at dksX4_clearFlaws_0 20 rfl rfl)
theorem dX4_clearFlaws_23 : decode cX4_clearFlaws 23 = .ok (.iload_n 2, 1) := dk_28 (dk_at dksX4_clearFlaws_0 23 rfl rfl)
theorem dX4_clearFlaws_24 : decode cX4_clearFlaws 24 = .ok (.iconst 0, 1) := dk_3 (dk_at dksX4_clearFlaws_1 0 rfl rfl)
theorem dX4_clearFlaws_25 : decode cX4_clearFlaws 25 = .ok (.bastore, 1) := dk_84 (dk_at dksX4_clearFlaws_1 1 rfl rfl)
theorem dX4_clearFlaws_26 : decode cX4_clearFlaws 26 = .ok (.iinc 2 1, 3) := dk_132 2 1 (dk_at dksX4_clearFlaws_1 2 rfl rfl)
theorem dX4_clearFlaws_29 : decode cX4_clearFlaws 29 = .ok (.goto (-17), 3) := dk_167 255 239 (dk_at dksX4_clearFlaws_1 5 rfl rfl)
theorem dX4_clearFlaws_32 : decode cX4_clearFlaws 32 = .ok (.aload_n 0, 1) := dk_42 (dk_at dksX4_clearFlaws_1 8 rfl rfl)
theorem dX4_clearFlaws_33 : decode cX4_clearFlaws 33 = .ok (.iconst 0, 1) := dk_3 (dk_at dksX4_clearFlaws_1 9 rfl rfl)
theorem dX4_clearFlaws_34 : decode cX4_clearFlaws 34 = .ok (.putfield 126, 3) := dk_181 0 126 (dk_at dksX4_clearFlaws_1 10 rfl rfl)
theorem dX4_clearFlaws_37 : decode cX4_clearFlaws 37 = .ok (.iload_n 1, 1) := dk_27 (dk_at dksX4_clearFlaws_1 13 rfl rfl)
theorem dX4_clearFlaws_38 : decode cX4_clearFlaws 38 = .ok (.ireturn, 1) := dk_172 (dk_at dksX4_clearFlaws_1 14 rfl rfl)
abbrev cX4_addShape : ByteArray := prog_18_method_14_code
def yX4_addShape : MethodName := ⟨RX4, "addShape", "(CZ)I"⟩
def dkwX4_addShape_3 : List UInt8 := [180, 0, 143, 28, 84, 42, 89, 180, 0, 143, 4, 96, 181, 0, 143, 42, 180, 0, 143, 4, 100, 172]
abbrev dktX4_addShape_3 : List UInt8 := dkwX4_addShape_3 ++ []
def dkwX4_addShape_2 : List UInt8 := [182, 0, 129, 153, 0, 5, 3, 172, 42, 180, 0, 17, 42, 180, 0, 143, 27, 85, 42, 180, 0, 21, 42]
abbrev dktX4_addShape_2 : List UInt8 := dkwX4_addShape_2 ++ dktX4_addShape_3
def dkwX4_addShape_1 : List UInt8 := [42, 29, 154, 0, 7, 4, 167, 0, 17, 42, 180, 0, 143, 16, 8, 160, 0, 7, 5, 167, 0, 4, 3]
abbrev dktX4_addShape_1 : List UInt8 := dkwX4_addShape_1 ++ dktX4_addShape_2
def dkwX4_addShape_0 : List UInt8 := [27, 16, 110, 159, 0, 15, 27, 16, 104, 159, 0, 9, 27, 16, 113, 160, 0, 7, 4, 167, 0, 4, 3, 62]
abbrev dktX4_addShape_0 : List UInt8 := dkwX4_addShape_0 ++ dktX4_addShape_1
theorem dksX4_addShape_0 : cX4_addShape.data.toList.drop 0 = dktX4_addShape_0 := by decide +kernel
theorem dksX4_addShape_1 : cX4_addShape.data.toList.drop 24 = dktX4_addShape_1 := dk_seg dksX4_addShape_0 24 rfl rfl
theorem dksX4_addShape_2 : cX4_addShape.data.toList.drop 47 = dktX4_addShape_2 := dk_seg dksX4_addShape_1 23 rfl rfl
theorem dksX4_addShape_3 : cX4_addShape.data.toList.drop 70 = dktX4_addShape_3 := dk_seg dksX4_addShape_2 23 rfl rfl
theorem dX4_addShape_0 : decode cX4_addShape 0 = .ok (.iload_n 1, 1) := dk_27 (dk_at dksX4_addShape_0 0 rfl rfl)
theorem dX4_addShape_1 : decode cX4_addShape 1 = .ok (.bipush 110, 2) := dk_16 110 (dk_at dksX4_addShape_0 1 rfl rfl)
theorem dX4_addShape_3 : decode cX4_addShape 3 = .ok (.if_icmp .eq 15, 3) := dk_159 0 15 (dk_at dksX4_addShape_0 3 rfl rfl)
theorem dX4_addShape_6 : decode cX4_addShape 6 = .ok (.iload_n 1, 1) := dk_27 (dk_at dksX4_addShape_0 6 rfl rfl)
theorem dX4_addShape_7 : decode cX4_addShape 7 = .ok (.bipush 104, 2) := dk_16 104 (dk_at dksX4_addShape_0 7 rfl rfl)
theorem dX4_addShape_9 : decode cX4_addShape 9 = .ok (.if_icmp .eq 9, 3) := dk_159 0 9 (dk_at dksX4_addShape_0 9 rfl rfl)
theorem dX4_addShape_12 : decode cX4_addShape 12 = .ok (.iload_n 1, 1) := dk_27 (dk_at dksX4_addShape_0 12 rfl rfl)
theorem dX4_addShape_13 : decode cX4_addShape 13 = .ok (.bipush 113, 2) := dk_16 113 (dk_at dksX4_addShape_0 13 rfl rfl)
theorem dX4_addShape_15 : decode cX4_addShape 15 = .ok (.if_icmp .ne 7, 3) := dk_160 0 7 (dk_at dksX4_addShape_0 15 rfl rfl)
theorem dX4_addShape_18 : decode cX4_addShape 18 = .ok (.iconst 1, 1) := dk_4 (dk_at dksX4_addShape_0 18 rfl rfl)
theorem dX4_addShape_19 : decode cX4_addShape 19 = .ok (.goto 4, 3) := dk_167 0 4 (dk_at dksX4_addShape_0 19 rfl rfl)
theorem dX4_addShape_22 : decode cX4_addShape 22 = .ok (.iconst 0, 1) := dk_3 (dk_at dksX4_addShape_0 22 rfl rfl)
theorem dX4_addShape_23 : decode cX4_addShape 23 = .ok (.istore_n 3, 1) := dk_62 (dk_at dksX4_addShape_0 23 rfl rfl)
theorem dX4_addShape_24 : decode cX4_addShape 24 = .ok (.aload_n 0, 1) := dk_42 (dk_at dksX4_addShape_1 0 rfl rfl)
theorem dX4_addShape_25 : decode cX4_addShape 25 = .ok (.iload_n 3, 1) := dk_29 (dk_at dksX4_addShape_1 1 rfl rfl)
theorem dX4_addShape_26 : decode cX4_addShape 26 = .ok (.ifCond .ne 7, 3) := dk_154 0 7 (dk_at dksX4_addShape_1 2 rfl rfl)
theorem dX4_addShape_29 : decode cX4_addShape 29 = .ok (.iconst 1, 1) := dk_4 (dk_at dksX4_addShape_1 5 rfl rfl)
theorem dX4_addShape_30 : decode cX4_addShape 30 = .ok (.goto 17, 3) := dk_167 0 17 (dk_at dksX4_addShape_1 6 rfl rfl)
theorem dX4_addShape_33 : decode cX4_addShape 33 = .ok (.aload_n 0, 1) := dk_42 (dk_at dksX4_addShape_1 9 rfl rfl)
theorem dX4_addShape_34 : decode cX4_addShape 34 = .ok (.getfield 143, 3) := dk_180 0 143 (dk_at dksX4_addShape_1 10 rfl rfl)
theorem dX4_addShape_37 : decode cX4_addShape 37 = .ok (.bipush 8, 2) := dk_16 8 (dk_at dksX4_addShape_1 13 rfl rfl)
theorem dX4_addShape_39 : decode cX4_addShape 39 = .ok (.if_icmp .ne 7, 3) := dk_160 0 7 (dk_at dksX4_addShape_1 15 rfl rfl)
theorem dX4_addShape_42 : decode cX4_addShape 42 = .ok (.iconst 2, 1) := dk_5 (dk_at dksX4_addShape_1 18 rfl rfl)
theorem dX4_addShape_43 : decode cX4_addShape 43 = .ok (.goto 4, 3) := dk_167 0 4 (dk_at dksX4_addShape_1 19 rfl rfl)
theorem dX4_addShape_46 : decode cX4_addShape 46 = .ok (.iconst 0, 1) := dk_3 (dk_at dksX4_addShape_1 22 rfl rfl)
theorem dX4_addShape_47 : decode cX4_addShape 47 = .ok (.invokevirtual 129, 3) := dk_182 0 129 (dk_at dksX4_addShape_2 0 rfl rfl)
theorem dX4_addShape_50 : decode cX4_addShape 50 = .ok (.ifCond .eq 5, 3) := dk_153 0 5 (dk_at dksX4_addShape_2 3 rfl rfl)
theorem dX4_addShape_53 : decode cX4_addShape 53 = .ok (.iconst 0, 1) := dk_3 (dk_at dksX4_addShape_2 6 rfl rfl)
theorem dX4_addShape_54 : decode cX4_addShape 54 = .ok (.ireturn, 1) := dk_172 (dk_at dksX4_addShape_2 7 rfl rfl)
theorem dX4_addShape_55 : decode cX4_addShape 55 = .ok (.aload_n 0, 1) := dk_42 (dk_at dksX4_addShape_2 8 rfl rfl)
theorem dX4_addShape_56 : decode cX4_addShape 56 = .ok (.getfield 17, 3) := dk_180 0 17 (dk_at dksX4_addShape_2 9 rfl rfl)
theorem dX4_addShape_59 : decode cX4_addShape 59 = .ok (.aload_n 0, 1) := dk_42 (dk_at dksX4_addShape_2 12 rfl rfl)
theorem dX4_addShape_60 : decode cX4_addShape 60 = .ok (.getfield 143, 3) := dk_180 0 143 (dk_at dksX4_addShape_2 13 rfl rfl)
theorem dX4_addShape_63 : decode cX4_addShape 63 = .ok (.iload_n 1, 1) := dk_27 (dk_at dksX4_addShape_2 16 rfl rfl)
theorem dX4_addShape_64 : decode cX4_addShape 64 = .ok (.castore, 1) := dk_85 (dk_at dksX4_addShape_2 17 rfl rfl)
theorem dX4_addShape_65 : decode cX4_addShape 65 = .ok (.aload_n 0, 1) := dk_42 (dk_at dksX4_addShape_2 18 rfl rfl)
theorem dX4_addShape_66 : decode cX4_addShape 66 = .ok (.getfield 21, 3) := dk_180 0 21 (dk_at dksX4_addShape_2 19 rfl rfl)
theorem dX4_addShape_69 : decode cX4_addShape 69 = .ok (.aload_n 0, 1) := dk_42 (dk_at dksX4_addShape_2 22 rfl rfl)
theorem dX4_addShape_70 : decode cX4_addShape 70 = .ok (.getfield 143, 3) := dk_180 0 143 (dk_at dksX4_addShape_3 0 rfl rfl)
theorem dX4_addShape_73 : decode cX4_addShape 73 = .ok (.iload_n 2, 1) := dk_28 (dk_at dksX4_addShape_3 3 rfl rfl)
theorem dX4_addShape_74 : decode cX4_addShape 74 = .ok (.bastore, 1) := dk_84 (dk_at dksX4_addShape_3 4 rfl rfl)
theorem dX4_addShape_75 : decode cX4_addShape 75 = .ok (.aload_n 0, 1) := dk_42 (dk_at dksX4_addShape_3 5 rfl rfl)
theorem dX4_addShape_76 : decode cX4_addShape 76 = .ok (.dup, 1) := dk_89 (dk_at dksX4_addShape_3 6 rfl rfl)
theorem dX4_addShape_77 : decode cX4_addShape 77 = .ok (.getfield 143, 3) := dk_180 0 143 (dk_at dksX4_addShape_3 7 rfl rfl)
theorem dX4_addShape_80 : decode cX4_addShape 80 = .ok (.iconst 1, 1) := dk_4 (dk_at dksX4_addShape_3 10 rfl rfl)
theorem dX4_addShape_81 : decode cX4_addShape 81 = .ok (.iadd, 1) := dk_96 (dk_at dksX4_addShape_3 11 rfl rfl)
theorem dX4_addShape_82 : decode cX4_addShape 82 = .ok (.putfield 143, 3) := dk_181 0 143 (dk_at dksX4_addShape_3 12 rfl rfl)
theorem dX4_addShape_85 : decode cX4_addShape 85 = .ok (.aload_n 0, 1) := dk_42 (dk_at dksX4_addShape_3 15 rfl rfl)
theorem dX4_addShape_86 : decode cX4_addShape 86 = .ok (.getfield 143, 3) := dk_180 0 143 (dk_at dksX4_addShape_3 16 rfl rfl)
theorem dX4_addShape_89 : decode cX4_addShape 89 = .ok (.iconst 1, 1) := dk_4 (dk_at dksX4_addShape_3 19 rfl rfl)
theorem dX4_addShape_90 : decode cX4_addShape 90 = .ok (.isub, 1) := dk_100 (dk_at dksX4_addShape_3 20 rfl rfl)
theorem dX4_addShape_91 : decode cX4_addShape 91 = .ok (.ireturn, 1) := dk_172 (dk_at dksX4_addShape_3 21 rfl rfl)
abbrev cX4_addCell : ByteArray := prog_18_method_16_code
def yX4_addCell : MethodName := ⟨RX4, "addCell", "(III)I"⟩
def dkwX4_addCell_5 : List UInt8 := [4, 96, 79, 42, 180, 0, 27, 27, 46, 172]
abbrev dktX4_addCell_5 : List UInt8 := dkwX4_addCell_5 ++ []
def dkwX4_addCell_4 : List UInt8 := [3, 182, 0, 129, 153, 0, 5, 3, 172, 42, 180, 0, 24, 21, 5, 4, 84, 42, 180, 0, 27, 27, 92, 46]
abbrev dktX4_addCell_4 : List UInt8 := dkwX4_addCell_4 ++ dktX4_addCell_5
def dkwX4_addCell_3 : List UInt8 := [167, 0, 25, 42, 27, 182, 0, 149, 154, 0, 12, 42, 180, 0, 40, 27, 51, 153, 0, 7, 7, 167, 0, 4]
abbrev dktX4_addCell_3 : List UInt8 := dkwX4_addCell_3 ++ dktX4_addCell_4
def dkwX4_addCell_2 : List UInt8 := [167, 0, 48, 21, 4, 154, 0, 7, 5, 167, 0, 39, 42, 180, 0, 24, 21, 5, 51, 153, 0, 7, 6]
abbrev dktX4_addCell_2 : List UInt8 := dkwX4_addCell_2 ++ dktX4_addCell_3
def dkwX4_addCell_1 : List UInt8 := [54, 4, 16, 25, 27, 104, 8, 28, 104, 96, 29, 96, 54, 5, 42, 42, 27, 182, 0, 146, 154, 0, 7, 4]
abbrev dktX4_addCell_1 : List UInt8 := dkwX4_addCell_1 ++ dktX4_addCell_2
def dkwX4_addCell_0 : List UInt8 := [28, 3, 7, 184, 0, 122, 153, 0, 16, 29, 3, 7, 184, 0, 122, 153, 0, 7, 4, 167, 0, 4, 3]
abbrev dktX4_addCell_0 : List UInt8 := dkwX4_addCell_0 ++ dktX4_addCell_1
theorem dksX4_addCell_0 : cX4_addCell.data.toList.drop 0 = dktX4_addCell_0 := by decide +kernel
theorem dksX4_addCell_1 : cX4_addCell.data.toList.drop 23 = dktX4_addCell_1 := dk_seg dksX4_addCell_0 23 rfl rfl
theorem dksX4_addCell_2 : cX4_addCell.data.toList.drop 47 = dktX4_addCell_2 := dk_seg dksX4_addCell_1 24 rfl rfl
theorem dksX4_addCell_3 : cX4_addCell.data.toList.drop 70 = dktX4_addCell_3 := dk_seg dksX4_addCell_2 23 rfl rfl
theorem dksX4_addCell_4 : cX4_addCell.data.toList.drop 94 = dktX4_addCell_4 := dk_seg dksX4_addCell_3 24 rfl rfl
theorem dksX4_addCell_5 : cX4_addCell.data.toList.drop 118 = dktX4_addCell_5 := dk_seg dksX4_addCell_4 24 rfl rfl
theorem dX4_addCell_0 : decode cX4_addCell 0 = .ok (.iload_n 2, 1) := dk_28 (dk_at dksX4_addCell_0 0 rfl rfl)
theorem dX4_addCell_1 : decode cX4_addCell 1 = .ok (.iconst 0, 1) := dk_3 (dk_at dksX4_addCell_0 1 rfl rfl)
theorem dX4_addCell_2 : decode cX4_addCell 2 = .ok (.iconst 4, 1) := dk_7 (dk_at dksX4_addCell_0 2 rfl rfl)
theorem dX4_addCell_3 : decode cX4_addCell 3 = .ok (.invokestatic 122, 3) := dk_184 0 122 (dk_at dksX4_addCell_0 3 rfl rfl)
theorem dX4_addCell_6 : decode cX4_addCell 6 = .ok (.ifCond .eq 16, 3) := dk_153 0 16 (dk_at dksX4_addCell_0 6 rfl rfl)
theorem dX4_addCell_9 : decode cX4_addCell 9 = .ok (.iload_n 3, 1) := dk_29 (dk_at dksX4_addCell_0 9 rfl rfl)
theorem dX4_addCell_10 : decode cX4_addCell 10 = .ok (.iconst 0, 1) := dk_3 (dk_at dksX4_addCell_0 10 rfl rfl)
theorem dX4_addCell_11 : decode cX4_addCell 11 = .ok (.iconst 4, 1) := dk_7 (dk_at dksX4_addCell_0 11 rfl rfl)
theorem dX4_addCell_12 : decode cX4_addCell 12 = .ok (.invokestatic 122, 3) := dk_184 0 122 (dk_at dksX4_addCell_0 12 rfl rfl)
theorem dX4_addCell_15 : decode cX4_addCell 15 = .ok (.ifCond .eq 7, 3) := dk_153 0 7 (dk_at dksX4_addCell_0 15 rfl rfl)
theorem dX4_addCell_18 : decode cX4_addCell 18 = .ok (.iconst 1, 1) := dk_4 (dk_at dksX4_addCell_0 18 rfl rfl)
theorem dX4_addCell_19 : decode cX4_addCell 19 = .ok (.goto 4, 3) := dk_167 0 4 (dk_at dksX4_addCell_0 19 rfl rfl)
theorem dX4_addCell_22 : decode cX4_addCell 22 = .ok (.iconst 0, 1) := dk_3 (dk_at dksX4_addCell_0 22 rfl rfl)
theorem dX4_addCell_23 : decode cX4_addCell 23 = .ok (.istore 4, 2) := dk_54 4 (dk_at dksX4_addCell_1 0 rfl rfl)
theorem dX4_addCell_25 : decode cX4_addCell 25 = .ok (.bipush 25, 2) := dk_16 25 (dk_at dksX4_addCell_1 2 rfl rfl)
theorem dX4_addCell_27 : decode cX4_addCell 27 = .ok (.iload_n 1, 1) := dk_27 (dk_at dksX4_addCell_1 4 rfl rfl)
theorem dX4_addCell_28 : decode cX4_addCell 28 = .ok (.imul, 1) := dk_104 (dk_at dksX4_addCell_1 5 rfl rfl)
theorem dX4_addCell_29 : decode cX4_addCell 29 = .ok (.iconst 5, 1) := dk_8 (dk_at dksX4_addCell_1 6 rfl rfl)
theorem dX4_addCell_30 : decode cX4_addCell 30 = .ok (.iload_n 2, 1) := dk_28 (dk_at dksX4_addCell_1 7 rfl rfl)
theorem dX4_addCell_31 : decode cX4_addCell 31 = .ok (.imul, 1) := dk_104 (dk_at dksX4_addCell_1 8 rfl rfl)
theorem dX4_addCell_32 : decode cX4_addCell 32 = .ok (.iadd, 1) := dk_96 (dk_at dksX4_addCell_1 9 rfl rfl)
theorem dX4_addCell_33 : decode cX4_addCell 33 = .ok (.iload_n 3, 1) := dk_29 (dk_at dksX4_addCell_1 10 rfl rfl)
theorem dX4_addCell_34 : decode cX4_addCell 34 = .ok (.iadd, 1) := dk_96 (dk_at dksX4_addCell_1 11 rfl rfl)
theorem dX4_addCell_35 : decode cX4_addCell 35 = .ok (.istore 5, 2) := dk_54 5 (dk_at dksX4_addCell_1 12 rfl rfl)
theorem dX4_addCell_37 : decode cX4_addCell 37 = .ok (.aload_n 0, 1) := dk_42 (dk_at dksX4_addCell_1 14 rfl rfl)
theorem dX4_addCell_38 : decode cX4_addCell 38 = .ok (.aload_n 0, 1) := dk_42 (dk_at dksX4_addCell_1 15 rfl rfl)
theorem dX4_addCell_39 : decode cX4_addCell 39 = .ok (.iload_n 1, 1) := dk_27 (dk_at dksX4_addCell_1 16 rfl rfl)
theorem dX4_addCell_40 : decode cX4_addCell 40 = .ok (.invokevirtual 146, 3) := dk_182 0 146 (dk_at dksX4_addCell_1 17 rfl rfl)
theorem dX4_addCell_43 : decode cX4_addCell 43 = .ok (.ifCond .ne 7, 3) := dk_154 0 7 (dk_at dksX4_addCell_1 20 rfl rfl)
theorem dX4_addCell_46 : decode cX4_addCell 46 = .ok (.iconst 1, 1) := dk_4 (dk_at dksX4_addCell_1 23 rfl rfl)
theorem dX4_addCell_47 : decode cX4_addCell 47 = .ok (.goto 48, 3) := dk_167 0 48 (dk_at dksX4_addCell_2 0 rfl rfl)
theorem dX4_addCell_50 : decode cX4_addCell 50 = .ok (.iload 4, 2) := dk_21 4 (dk_at dksX4_addCell_2 3 rfl rfl)
theorem dX4_addCell_52 : decode cX4_addCell 52 = .ok (.ifCond .ne 7, 3) := dk_154 0 7 (dk_at dksX4_addCell_2 5 rfl rfl)
theorem dX4_addCell_55 : decode cX4_addCell 55 = .ok (.iconst 2, 1) := dk_5 (dk_at dksX4_addCell_2 8 rfl rfl)
theorem dX4_addCell_56 : decode cX4_addCell 56 = .ok (.goto 39, 3) := dk_167 0 39 (dk_at dksX4_addCell_2 9 rfl rfl)
theorem dX4_addCell_59 : decode cX4_addCell 59 = .ok (.aload_n 0, 1) := dk_42 (dk_at dksX4_addCell_2 12 rfl rfl)
theorem dX4_addCell_60 : decode cX4_addCell 60 = .ok (.getfield 24, 3) := dk_180 0 24 (dk_at dksX4_addCell_2 13 rfl rfl)
theorem dX4_addCell_63 : decode cX4_addCell 63 = .ok (.iload 5, 2) := dk_21 5 (dk_at dksX4_addCell_2 16 rfl rfl)
theorem dX4_addCell_65 : decode cX4_addCell 65 = .ok (.baload, 1) := dk_51 (dk_at dksX4_addCell_2 18 rfl rfl)
theorem dX4_addCell_66 : decode cX4_addCell 66 = .ok (.ifCond .eq 7, 3) := dk_153 0 7 (dk_at dksX4_addCell_2 19 rfl rfl)
theorem dX4_addCell_69 : decode cX4_addCell 69 = .ok (.iconst 3, 1) := dk_6 (dk_at dksX4_addCell_2 22 rfl rfl)
theorem dX4_addCell_70 : decode cX4_addCell 70 = .ok (.goto 25, 3) := dk_167 0 25 (dk_at dksX4_addCell_3 0 rfl rfl)
theorem dX4_addCell_73 : decode cX4_addCell 73 = .ok (.aload_n 0, 1) := dk_42 (dk_at dksX4_addCell_3 3 rfl rfl)
theorem dX4_addCell_74 : decode cX4_addCell 74 = .ok (.iload_n 1, 1) := dk_27 (dk_at dksX4_addCell_3 4 rfl rfl)
theorem dX4_addCell_75 : decode cX4_addCell 75 = .ok (.invokevirtual 149, 3) := dk_182 0 149 (dk_at dksX4_addCell_3 5 rfl rfl)
theorem dX4_addCell_78 : decode cX4_addCell 78 = .ok (.ifCond .ne 12, 3) := dk_154 0 12 (dk_at dksX4_addCell_3 8 rfl rfl)
theorem dX4_addCell_81 : decode cX4_addCell 81 = .ok (.aload_n 0, 1) := dk_42 (dk_at dksX4_addCell_3 11 rfl rfl)
theorem dX4_addCell_82 : decode cX4_addCell 82 = .ok (.getfield 40, 3) := dk_180 0 40 (dk_at dksX4_addCell_3 12 rfl rfl)
theorem dX4_addCell_85 : decode cX4_addCell 85 = .ok (.iload_n 1, 1) := dk_27 (dk_at dksX4_addCell_3 15 rfl rfl)
theorem dX4_addCell_86 : decode cX4_addCell 86 = .ok (.baload, 1) := dk_51 (dk_at dksX4_addCell_3 16 rfl rfl)
theorem dX4_addCell_87 : decode cX4_addCell 87 = .ok (.ifCond .eq 7, 3) := dk_153 0 7 (dk_at dksX4_addCell_3 17 rfl rfl)
theorem dX4_addCell_90 : decode cX4_addCell 90 = .ok (.iconst 4, 1) := dk_7 (dk_at dksX4_addCell_3 20 rfl rfl)
theorem dX4_addCell_91 : decode cX4_addCell 91 = .ok (.goto 4, 3) := dk_167 0 4 (dk_at dksX4_addCell_3 21 rfl rfl)
theorem dX4_addCell_94 : decode cX4_addCell 94 = .ok (.iconst 0, 1) := dk_3 (dk_at dksX4_addCell_4 0 rfl rfl)
theorem dX4_addCell_95 : decode cX4_addCell 95 = .ok (.invokevirtual 129, 3) := dk_182 0 129 (dk_at dksX4_addCell_4 1 rfl rfl)
theorem dX4_addCell_98 : decode cX4_addCell 98 = .ok (.ifCond .eq 5, 3) := dk_153 0 5 (dk_at dksX4_addCell_4 4 rfl rfl)
theorem dX4_addCell_101 : decode cX4_addCell 101 = .ok (.iconst 0, 1) := dk_3 (dk_at dksX4_addCell_4 7 rfl rfl)
theorem dX4_addCell_102 : decode cX4_addCell 102 = .ok (.ireturn, 1) := dk_172 (dk_at dksX4_addCell_4 8 rfl rfl)
theorem dX4_addCell_103 : decode cX4_addCell 103 = .ok (.aload_n 0, 1) := dk_42 (dk_at dksX4_addCell_4 9 rfl rfl)
theorem dX4_addCell_104 : decode cX4_addCell 104 = .ok (.getfield 24, 3) := dk_180 0 24 (dk_at dksX4_addCell_4 10 rfl rfl)
theorem dX4_addCell_107 : decode cX4_addCell 107 = .ok (.iload 5, 2) := dk_21 5 (dk_at dksX4_addCell_4 13 rfl rfl)
theorem dX4_addCell_109 : decode cX4_addCell 109 = .ok (.iconst 1, 1) := dk_4 (dk_at dksX4_addCell_4 15 rfl rfl)
theorem dX4_addCell_110 : decode cX4_addCell 110 = .ok (.bastore, 1) := dk_84 (dk_at dksX4_addCell_4 16 rfl rfl)
theorem dX4_addCell_111 : decode cX4_addCell 111 = .ok (.aload_n 0, 1) := dk_42 (dk_at dksX4_addCell_4 17 rfl rfl)
theorem dX4_addCell_112 : decode cX4_addCell 112 = .ok (.getfield 27, 3) := dk_180 0 27 (dk_at dksX4_addCell_4 18 rfl rfl)
theorem dX4_addCell_115 : decode cX4_addCell 115 = .ok (.iload_n 1, 1) := dk_27 (dk_at dksX4_addCell_4 21 rfl rfl)
theorem dX4_addCell_116 : decode cX4_addCell 116 = .ok (.dup2, 1) := dk_92 (dk_at dksX4_addCell_4 22 rfl rfl)
theorem dX4_addCell_117 : decode cX4_addCell 117 = .ok (.iaload, 1) := dk_46 (dk_at dksX4_addCell_4 23 rfl rfl)
theorem dX4_addCell_118 : decode cX4_addCell 118 = .ok (.iconst 1, 1) := dk_4 (dk_at dksX4_addCell_5 0 rfl rfl)
theorem dX4_addCell_119 : decode cX4_addCell 119 = .ok (.iadd, 1) := dk_96 (dk_at dksX4_addCell_5 1 rfl rfl)
theorem dX4_addCell_120 : decode cX4_addCell 120 = .ok (.iastore, 1) := dk_79 (dk_at dksX4_addCell_5 2 rfl rfl)
theorem dX4_addCell_121 : decode cX4_addCell 121 = .ok (.aload_n 0, 1) := dk_42 (dk_at dksX4_addCell_5 3 rfl rfl)
theorem dX4_addCell_122 : decode cX4_addCell 122 = .ok (.getfield 27, 3) := dk_180 0 27 (dk_at dksX4_addCell_5 4 rfl rfl)
theorem dX4_addCell_125 : decode cX4_addCell 125 = .ok (.iload_n 1, 1) := dk_27 (dk_at dksX4_addCell_5 7 rfl rfl)
theorem dX4_addCell_126 : decode cX4_addCell 126 = .ok (.iaload, 1) := dk_46 (dk_at dksX4_addCell_5 8 rfl rfl)
theorem dX4_addCell_127 : decode cX4_addCell 127 = .ok (.ireturn, 1) := dk_172 (dk_at dksX4_addCell_5 9 rfl rfl)
abbrev cX4_isShape : ByteArray := prog_18_method_13_code
def yX4_isShape : MethodName := ⟨RX4, "isShape", "(I)Z"⟩
def dkwX4_isShape_0 : List UInt8 := [27, 3, 42, 180, 0, 143, 4, 100, 184, 0, 122, 172]
abbrev dktX4_isShape_0 : List UInt8 := dkwX4_isShape_0 ++ []
theorem dksX4_isShape_0 : cX4_isShape.data.toList.drop 0 = dktX4_isShape_0 := by decide +kernel
theorem dX4_isShape_0 : decode cX4_isShape 0 = .ok (.iload_n 1, 1) := dk_27 (dk_at dksX4_isShape_0 0 rfl rfl)
theorem dX4_isShape_1 : decode cX4_isShape 1 = .ok (.iconst 0, 1) := dk_3 (dk_at dksX4_isShape_0 1 rfl rfl)
theorem dX4_isShape_2 : decode cX4_isShape 2 = .ok (.aload_n 0, 1) := dk_42 (dk_at dksX4_isShape_0 2 rfl rfl)
theorem dX4_isShape_3 : decode cX4_isShape 3 = .ok (.getfield 143, 3) := dk_180 0 143 (dk_at dksX4_isShape_0 3 rfl rfl)
theorem dX4_isShape_6 : decode cX4_isShape 6 = .ok (.iconst 1, 1) := dk_4 (dk_at dksX4_isShape_0 6 rfl rfl)
theorem dX4_isShape_7 : decode cX4_isShape 7 = .ok (.isub, 1) := dk_100 (dk_at dksX4_isShape_0 7 rfl rfl)
theorem dX4_isShape_8 : decode cX4_isShape 8 = .ok (.invokestatic 122, 3) := dk_184 0 122 (dk_at dksX4_isShape_0 8 rfl rfl)
theorem dX4_isShape_11 : decode cX4_isShape 11 = .ok (.ireturn, 1) := dk_172 (dk_at dksX4_isShape_0 11 rfl rfl)
abbrev cX4_isLaid : ByteArray := prog_18_method_15_code
def yX4_isLaid : MethodName := ⟨RX4, "isLaid", "(I)Z"⟩
def dkwX4_isLaid_1 : List UInt8 := [160, 0, 7, 4, 167, 0, 4, 3, 61, 132, 3, 1, 167, 255, 225, 28, 172]
abbrev dktX4_isLaid_1 : List UInt8 := dkwX4_isLaid_1 ++ []
def dkwX4_isLaid_0 : List UInt8 := [3, 61, 3, 62, 29, 42, 180, 0, 112, 162, 0, 29, 28, 154, 0, 13, 42, 180, 0, 49, 29, 46, 27]
abbrev dktX4_isLaid_0 : List UInt8 := dkwX4_isLaid_0 ++ dktX4_isLaid_1
theorem dksX4_isLaid_0 : cX4_isLaid.data.toList.drop 0 = dktX4_isLaid_0 := by decide +kernel
theorem dksX4_isLaid_1 : cX4_isLaid.data.toList.drop 23 = dktX4_isLaid_1 := dk_seg dksX4_isLaid_0 23 rfl rfl
theorem dX4_isLaid_0 : decode cX4_isLaid 0 = .ok (.iconst 0, 1) := dk_3 (dk_at dksX4_isLaid_0 0 rfl rfl)
theorem dX4_isLaid_1 : decode cX4_isLaid 1 = .ok (.istore_n 2, 1) := dk_61 (dk_at dksX4_isLaid_0 1 rfl rfl)
theorem dX4_isLaid_2 : decode cX4_isLaid 2 = .ok (.iconst 0, 1) := dk_3 (dk_at dksX4_isLaid_0 2 rfl rfl)
theorem dX4_isLaid_3 : decode cX4_isLaid 3 = .ok (.istore_n 3, 1) := dk_62 (dk_at dksX4_isLaid_0 3 rfl rfl)
theorem dX4_isLaid_4 : decode cX4_isLaid 4 = .ok (.iload_n 3, 1) := dk_29 (dk_at dksX4_isLaid_0 4 rfl rfl)
theorem dX4_isLaid_5 : decode cX4_isLaid 5 = .ok (.aload_n 0, 1) := dk_42 (dk_at dksX4_isLaid_0 5 rfl rfl)
theorem dX4_isLaid_6 : decode cX4_isLaid 6 = .ok (.getfield 112, 3) := dk_180 0 112 (dk_at dksX4_isLaid_0 6 rfl rfl)
theorem dX4_isLaid_9 : decode cX4_isLaid 9 = .ok (.if_icmp .ge 29, 3) := dk_162 0 29 (dk_at dksX4_isLaid_0 9 rfl rfl)
theorem dX4_isLaid_12 : decode cX4_isLaid 12 = .ok (.iload_n 2, 1) := dk_28 (dk_at dksX4_isLaid_0 12 rfl rfl)
theorem dX4_isLaid_13 : decode cX4_isLaid 13 = .ok (.ifCond .ne 13, 3) := dk_154 0 13 (dk_at dksX4_isLaid_0 13 rfl rfl)
theorem dX4_isLaid_16 : decode cX4_isLaid 16 = .ok (.aload_n 0, 1) := dk_42 (dk_at dksX4_isLaid_0 16 rfl rfl)
theorem dX4_isLaid_17 : decode cX4_isLaid 17 = .ok (.getfield 49, 3) := dk_180 0 49 (dk_at dksX4_isLaid_0 17 rfl rfl)
theorem dX4_isLaid_20 : decode cX4_isLaid 20 = .ok (.iload_n 3, 1) := dk_29 (dk_at dksX4_isLaid_0 20 rfl rfl)
theorem dX4_isLaid_21 : decode cX4_isLaid 21 = .ok (.iaload, 1) := dk_46 (dk_at dksX4_isLaid_0 21 rfl rfl)
theorem dX4_isLaid_22 : decode cX4_isLaid 22 = .ok (.iload_n 1, 1) := dk_27 (dk_at dksX4_isLaid_0 22 rfl rfl)
theorem dX4_isLaid_23 : decode cX4_isLaid 23 = .ok (.if_icmp .ne 7, 3) := dk_160 0 7 (dk_at dksX4_isLaid_1 0 rfl rfl)
theorem dX4_isLaid_26 : decode cX4_isLaid 26 = .ok (.iconst 1, 1) := dk_4 (dk_at dksX4_isLaid_1 3 rfl rfl)
theorem dX4_isLaid_27 : decode cX4_isLaid 27 = .ok (.goto 4, 3) := dk_167 0 4 (dk_at dksX4_isLaid_1 4 rfl rfl)
theorem dX4_isLaid_30 : decode cX4_isLaid 30 = .ok (.iconst 0, 1) := dk_3 (dk_at dksX4_isLaid_1 7 rfl rfl)
theorem dX4_isLaid_31 : decode cX4_isLaid 31 = .ok (.istore_n 2, 1) := dk_61 (dk_at dksX4_isLaid_1 8 rfl rfl)
theorem dX4_isLaid_32 : decode cX4_isLaid 32 = .ok (.iinc 3 1, 3) := dk_132 3 1 (dk_at dksX4_isLaid_1 9 rfl rfl)
theorem dX4_isLaid_35 : decode cX4_isLaid 35 = .ok (.goto (-31), 3) := dk_167 255 225 (dk_at dksX4_isLaid_1 12 rfl rfl)
theorem dX4_isLaid_38 : decode cX4_isLaid 38 = .ok (.iload_n 2, 1) := dk_28 (dk_at dksX4_isLaid_1 15 rfl rfl)
theorem dX4_isLaid_39 : decode cX4_isLaid 39 = .ok (.ireturn, 1) := dk_172 (dk_at dksX4_isLaid_1 16 rfl rfl)
abbrev cX4_setMark : ByteArray := prog_18_method_17_code
def yX4_setMark : MethodName := ⟨RX4, "setMark", "(IIII)I"⟩
def dkwX4_setMark_4 : List UInt8 := [42, 180, 0, 34, 27, 29, 79, 42, 180, 0, 37, 27, 21, 4, 79, 21, 6, 172]
abbrev dktX4_setMark_4 : List UInt8 := dkwX4_setMark_4 ++ []
def dkwX4_setMark_3 : List UInt8 := [3, 182, 0, 129, 153, 0, 5, 3, 172, 42, 180, 0, 31, 27, 46, 54, 6, 42, 180, 0, 31, 27, 28, 79]
abbrev dktX4_setMark_3 : List UInt8 := dkwX4_setMark_3 ++ dktX4_setMark_4
def dkwX4_setMark_2 : List UInt8 := [167, 0, 25, 21, 5, 154, 0, 7, 5, 167, 0, 16, 42, 27, 182, 0, 149, 153, 0, 7, 6, 167, 0, 4]
abbrev dktX4_setMark_2 : List UInt8 := dkwX4_setMark_2 ++ dktX4_setMark_3
def dkwX4_setMark_1 : List UInt8 := [184, 0, 122, 153, 0, 7, 4, 167, 0, 4, 3, 54, 5, 42, 42, 27, 182, 0, 146, 154, 0, 7, 4]
abbrev dktX4_setMark_1 : List UInt8 := dkwX4_setMark_1 ++ dktX4_setMark_2
def dkwX4_setMark_0 : List UInt8 := [28, 2, 6, 184, 0, 122, 153, 0, 26, 29, 3, 7, 184, 0, 122, 153, 0, 17, 21, 4, 3, 7]
abbrev dktX4_setMark_0 : List UInt8 := dkwX4_setMark_0 ++ dktX4_setMark_1
theorem dksX4_setMark_0 : cX4_setMark.data.toList.drop 0 = dktX4_setMark_0 := by decide +kernel
theorem dksX4_setMark_1 : cX4_setMark.data.toList.drop 22 = dktX4_setMark_1 := dk_seg dksX4_setMark_0 22 rfl rfl
theorem dksX4_setMark_2 : cX4_setMark.data.toList.drop 45 = dktX4_setMark_2 := dk_seg dksX4_setMark_1 23 rfl rfl
theorem dksX4_setMark_3 : cX4_setMark.data.toList.drop 69 = dktX4_setMark_3 := dk_seg dksX4_setMark_2 24 rfl rfl
theorem dksX4_setMark_4 : cX4_setMark.data.toList.drop 93 = dktX4_setMark_4 := dk_seg dksX4_setMark_3 24 rfl rfl
theorem dX4_setMark_0 : decode cX4_setMark 0 = .ok (.iload_n 2, 1) := dk_28 (dk_at dksX4_setMark_0 0 rfl rfl)
theorem dX4_setMark_1 : decode cX4_setMark 1 = .ok (.iconst (-1), 1) := dk_2 (dk_at dksX4_setMark_0 1 rfl rfl)
theorem dX4_setMark_2 : decode cX4_setMark 2 = .ok (.iconst 3, 1) := dk_6 (dk_at dksX4_setMark_0 2 rfl rfl)
theorem dX4_setMark_3 : decode cX4_setMark 3 = .ok (.invokestatic 122, 3) := dk_184 0 122 (dk_at dksX4_setMark_0 3 rfl rfl)
theorem dX4_setMark_6 : decode cX4_setMark 6 = .ok (.ifCond .eq 26, 3) := dk_153 0 26 (dk_at dksX4_setMark_0 6 rfl rfl)
theorem dX4_setMark_9 : decode cX4_setMark 9 = .ok (.iload_n 3, 1) := dk_29 (dk_at dksX4_setMark_0 9 rfl rfl)
theorem dX4_setMark_10 : decode cX4_setMark 10 = .ok (.iconst 0, 1) := dk_3 (dk_at dksX4_setMark_0 10 rfl rfl)
theorem dX4_setMark_11 : decode cX4_setMark 11 = .ok (.iconst 4, 1) := dk_7 (dk_at dksX4_setMark_0 11 rfl rfl)
theorem dX4_setMark_12 : decode cX4_setMark 12 = .ok (.invokestatic 122, 3) := dk_184 0 122 (dk_at dksX4_setMark_0 12 rfl rfl)
theorem dX4_setMark_15 : decode cX4_setMark 15 = .ok (.ifCond .eq 17, 3) := dk_153 0 17 (dk_at dksX4_setMark_0 15 rfl rfl)
theorem dX4_setMark_18 : decode cX4_setMark 18 = .ok (.iload 4, 2) := dk_21 4 (dk_at dksX4_setMark_0 18 rfl rfl)
theorem dX4_setMark_20 : decode cX4_setMark 20 = .ok (.iconst 0, 1) := dk_3 (dk_at dksX4_setMark_0 20 rfl rfl)
theorem dX4_setMark_21 : decode cX4_setMark 21 = .ok (.iconst 4, 1) := dk_7 (dk_at dksX4_setMark_0 21 rfl rfl)
theorem dX4_setMark_22 : decode cX4_setMark 22 = .ok (.invokestatic 122, 3) := dk_184 0 122 (dk_at dksX4_setMark_1 0 rfl rfl)
theorem dX4_setMark_25 : decode cX4_setMark 25 = .ok (.ifCond .eq 7, 3) := dk_153 0 7 (dk_at dksX4_setMark_1 3 rfl rfl)
theorem dX4_setMark_28 : decode cX4_setMark 28 = .ok (.iconst 1, 1) := dk_4 (dk_at dksX4_setMark_1 6 rfl rfl)
theorem dX4_setMark_29 : decode cX4_setMark 29 = .ok (.goto 4, 3) := dk_167 0 4 (dk_at dksX4_setMark_1 7 rfl rfl)
theorem dX4_setMark_32 : decode cX4_setMark 32 = .ok (.iconst 0, 1) := dk_3 (dk_at dksX4_setMark_1 10 rfl rfl)
theorem dX4_setMark_33 : decode cX4_setMark 33 = .ok (.istore 5, 2) := dk_54 5 (dk_at dksX4_setMark_1 11 rfl rfl)
theorem dX4_setMark_35 : decode cX4_setMark 35 = .ok (.aload_n 0, 1) := dk_42 (dk_at dksX4_setMark_1 13 rfl rfl)
theorem dX4_setMark_36 : decode cX4_setMark 36 = .ok (.aload_n 0, 1) := dk_42 (dk_at dksX4_setMark_1 14 rfl rfl)
theorem dX4_setMark_37 : decode cX4_setMark 37 = .ok (.iload_n 1, 1) := dk_27 (dk_at dksX4_setMark_1 15 rfl rfl)
theorem dX4_setMark_38 : decode cX4_setMark 38 = .ok (.invokevirtual 146, 3) := dk_182 0 146 (dk_at dksX4_setMark_1 16 rfl rfl)
theorem dX4_setMark_41 : decode cX4_setMark 41 = .ok (.ifCond .ne 7, 3) := dk_154 0 7 (dk_at dksX4_setMark_1 19 rfl rfl)
theorem dX4_setMark_44 : decode cX4_setMark 44 = .ok (.iconst 1, 1) := dk_4 (dk_at dksX4_setMark_1 22 rfl rfl)
theorem dX4_setMark_45 : decode cX4_setMark 45 = .ok (.goto 25, 3) := dk_167 0 25 (dk_at dksX4_setMark_2 0 rfl rfl)
theorem dX4_setMark_48 : decode cX4_setMark 48 = .ok (.iload 5, 2) := dk_21 5 (dk_at dksX4_setMark_2 3 rfl rfl)
theorem dX4_setMark_50 : decode cX4_setMark 50 = .ok (.ifCond .ne 7, 3) := dk_154 0 7 (dk_at dksX4_setMark_2 5 rfl rfl)
theorem dX4_setMark_53 : decode cX4_setMark 53 = .ok (.iconst 2, 1) := dk_5 (dk_at dksX4_setMark_2 8 rfl rfl)
theorem dX4_setMark_54 : decode cX4_setMark 54 = .ok (.goto 16, 3) := dk_167 0 16 (dk_at dksX4_setMark_2 9 rfl rfl)
theorem dX4_setMark_57 : decode cX4_setMark 57 = .ok (.aload_n 0, 1) := dk_42 (dk_at dksX4_setMark_2 12 rfl rfl)
theorem dX4_setMark_58 : decode cX4_setMark 58 = .ok (.iload_n 1, 1) := dk_27 (dk_at dksX4_setMark_2 13 rfl rfl)
theorem dX4_setMark_59 : decode cX4_setMark 59 = .ok (.invokevirtual 149, 3) := dk_182 0 149 (dk_at dksX4_setMark_2 14 rfl rfl)
theorem dX4_setMark_62 : decode cX4_setMark 62 = .ok (.ifCond .eq 7, 3) := dk_153 0 7 (dk_at dksX4_setMark_2 17 rfl rfl)
theorem dX4_setMark_65 : decode cX4_setMark 65 = .ok (.iconst 3, 1) := dk_6 (dk_at dksX4_setMark_2 20 rfl rfl)
theorem dX4_setMark_66 : decode cX4_setMark 66 = .ok (.goto 4, 3) := dk_167 0 4 (dk_at dksX4_setMark_2 21 rfl rfl)
theorem dX4_setMark_69 : decode cX4_setMark 69 = .ok (.iconst 0, 1) := dk_3 (dk_at dksX4_setMark_3 0 rfl rfl)
theorem dX4_setMark_70 : decode cX4_setMark 70 = .ok (.invokevirtual 129, 3) := dk_182 0 129 (dk_at dksX4_setMark_3 1 rfl rfl)
theorem dX4_setMark_73 : decode cX4_setMark 73 = .ok (.ifCond .eq 5, 3) := dk_153 0 5 (dk_at dksX4_setMark_3 4 rfl rfl)
theorem dX4_setMark_76 : decode cX4_setMark 76 = .ok (.iconst 0, 1) := dk_3 (dk_at dksX4_setMark_3 7 rfl rfl)
theorem dX4_setMark_77 : decode cX4_setMark 77 = .ok (.ireturn, 1) := dk_172 (dk_at dksX4_setMark_3 8 rfl rfl)
theorem dX4_setMark_78 : decode cX4_setMark 78 = .ok (.aload_n 0, 1) := dk_42 (dk_at dksX4_setMark_3 9 rfl rfl)
theorem dX4_setMark_79 : decode cX4_setMark 79 = .ok (.getfield 31, 3) := dk_180 0 31 (dk_at dksX4_setMark_3 10 rfl rfl)
theorem dX4_setMark_82 : decode cX4_setMark 82 = .ok (.iload_n 1, 1) := dk_27 (dk_at dksX4_setMark_3 13 rfl rfl)
theorem dX4_setMark_83 : decode cX4_setMark 83 = .ok (.iaload, 1) := dk_46 (dk_at dksX4_setMark_3 14 rfl rfl)
theorem dX4_setMark_84 : decode cX4_setMark 84 = .ok (.istore 6, 2) := dk_54 6 (dk_at dksX4_setMark_3 15 rfl rfl)
theorem dX4_setMark_86 : decode cX4_setMark 86 = .ok (.aload_n 0, 1) := dk_42 (dk_at dksX4_setMark_3 17 rfl rfl)
theorem dX4_setMark_87 : decode cX4_setMark 87 = .ok (.getfield 31, 3) := dk_180 0 31 (dk_at dksX4_setMark_3 18 rfl rfl)
theorem dX4_setMark_90 : decode cX4_setMark 90 = .ok (.iload_n 1, 1) := dk_27 (dk_at dksX4_setMark_3 21 rfl rfl)
theorem dX4_setMark_91 : decode cX4_setMark 91 = .ok (.iload_n 2, 1) := dk_28 (dk_at dksX4_setMark_3 22 rfl rfl)
theorem dX4_setMark_92 : decode cX4_setMark 92 = .ok (.iastore, 1) := dk_79 (dk_at dksX4_setMark_3 23 rfl rfl)
theorem dX4_setMark_93 : decode cX4_setMark 93 = .ok (.aload_n 0, 1) := dk_42 (dk_at dksX4_setMark_4 0 rfl rfl)
theorem dX4_setMark_94 : decode cX4_setMark 94 = .ok (.getfield 34, 3) := dk_180 0 34 (dk_at dksX4_setMark_4 1 rfl rfl)
theorem dX4_setMark_97 : decode cX4_setMark 97 = .ok (.iload_n 1, 1) := dk_27 (dk_at dksX4_setMark_4 4 rfl rfl)
theorem dX4_setMark_98 : decode cX4_setMark 98 = .ok (.iload_n 3, 1) := dk_29 (dk_at dksX4_setMark_4 5 rfl rfl)
theorem dX4_setMark_99 : decode cX4_setMark 99 = .ok (.iastore, 1) := dk_79 (dk_at dksX4_setMark_4 6 rfl rfl)
theorem dX4_setMark_100 : decode cX4_setMark 100 = .ok (.aload_n 0, 1) := dk_42 (dk_at dksX4_setMark_4 7 rfl rfl)
theorem dX4_setMark_101 : decode cX4_setMark 101 = .ok (.getfield 37, 3) := dk_180 0 37 (dk_at dksX4_setMark_4 8 rfl rfl)
theorem dX4_setMark_104 : decode cX4_setMark 104 = .ok (.iload_n 1, 1) := dk_27 (dk_at dksX4_setMark_4 11 rfl rfl)
theorem dX4_setMark_105 : decode cX4_setMark 105 = .ok (.iload 4, 2) := dk_21 4 (dk_at dksX4_setMark_4 12 rfl rfl)
theorem dX4_setMark_107 : decode cX4_setMark 107 = .ok (.iastore, 1) := dk_79 (dk_at dksX4_setMark_4 14 rfl rfl)
theorem dX4_setMark_108 : decode cX4_setMark 108 = .ok (.iload 6, 2) := dk_21 6 (dk_at dksX4_setMark_4 15 rfl rfl)
theorem dX4_setMark_110 : decode cX4_setMark 110 = .ok (.ireturn, 1) := dk_172 (dk_at dksX4_setMark_4 17 rfl rfl)
abbrev cX4_cellsOf : ByteArray := prog_18_method_18_code
def yX4_cellsOf : MethodName := ⟨RX4, "cellsOf", "(I)I"⟩
def dkwX4_cellsOf_1 : List UInt8 := [42, 180, 0, 27, 27, 46, 172]
abbrev dktX4_cellsOf_1 : List UInt8 := dkwX4_cellsOf_1 ++ []
def dkwX4_cellsOf_0 : List UInt8 := [42, 42, 27, 182, 0, 146, 153, 0, 7, 3, 167, 0, 4, 4, 182, 0, 129, 153, 0, 7, 3, 167, 0, 9]
abbrev dktX4_cellsOf_0 : List UInt8 := dkwX4_cellsOf_0 ++ dktX4_cellsOf_1
theorem dksX4_cellsOf_0 : cX4_cellsOf.data.toList.drop 0 = dktX4_cellsOf_0 := by decide +kernel
theorem dksX4_cellsOf_1 : cX4_cellsOf.data.toList.drop 24 = dktX4_cellsOf_1 := dk_seg dksX4_cellsOf_0 24 rfl rfl
theorem dX4_cellsOf_0 : decode cX4_cellsOf 0 = .ok (.aload_n 0, 1) := dk_42 (dk_at dksX4_cellsOf_0 0 rfl rfl)
theorem dX4_cellsOf_1 : decode cX4_cellsOf 1 = .ok (.aload_n 0, 1) := dk_42 (dk_at dksX4_cellsOf_0 1 rfl rfl)
theorem dX4_cellsOf_2 : decode cX4_cellsOf 2 = .ok (.iload_n 1, 1) := dk_27 (dk_at dksX4_cellsOf_0 2 rfl rfl)
theorem dX4_cellsOf_3 : decode cX4_cellsOf 3 = .ok (.invokevirtual 146, 3) := dk_182 0 146 (dk_at dksX4_cellsOf_0 3 rfl rfl)
theorem dX4_cellsOf_6 : decode cX4_cellsOf 6 = .ok (.ifCond .eq 7, 3) := dk_153 0 7 (dk_at dksX4_cellsOf_0 6 rfl rfl)
theorem dX4_cellsOf_9 : decode cX4_cellsOf 9 = .ok (.iconst 0, 1) := dk_3 (dk_at dksX4_cellsOf_0 9 rfl rfl)
theorem dX4_cellsOf_10 : decode cX4_cellsOf 10 = .ok (.goto 4, 3) := dk_167 0 4 (dk_at dksX4_cellsOf_0 10 rfl rfl)
theorem dX4_cellsOf_13 : decode cX4_cellsOf 13 = .ok (.iconst 1, 1) := dk_4 (dk_at dksX4_cellsOf_0 13 rfl rfl)
theorem dX4_cellsOf_14 : decode cX4_cellsOf 14 = .ok (.invokevirtual 129, 3) := dk_182 0 129 (dk_at dksX4_cellsOf_0 14 rfl rfl)
theorem dX4_cellsOf_17 : decode cX4_cellsOf 17 = .ok (.ifCond .eq 7, 3) := dk_153 0 7 (dk_at dksX4_cellsOf_0 17 rfl rfl)
theorem dX4_cellsOf_20 : decode cX4_cellsOf 20 = .ok (.iconst 0, 1) := dk_3 (dk_at dksX4_cellsOf_0 20 rfl rfl)
theorem dX4_cellsOf_21 : decode cX4_cellsOf 21 = .ok (.goto 9, 3) := dk_167 0 9 (dk_at dksX4_cellsOf_0 21 rfl rfl)
theorem dX4_cellsOf_24 : decode cX4_cellsOf 24 = .ok (.aload_n 0, 1) := dk_42 (dk_at dksX4_cellsOf_1 0 rfl rfl)
theorem dX4_cellsOf_25 : decode cX4_cellsOf 25 = .ok (.getfield 27, 3) := dk_180 0 27 (dk_at dksX4_cellsOf_1 1 rfl rfl)
theorem dX4_cellsOf_28 : decode cX4_cellsOf 28 = .ok (.iload_n 1, 1) := dk_27 (dk_at dksX4_cellsOf_1 4 rfl rfl)
theorem dX4_cellsOf_29 : decode cX4_cellsOf 29 = .ok (.iaload, 1) := dk_46 (dk_at dksX4_cellsOf_1 5 rfl rfl)
theorem dX4_cellsOf_30 : decode cX4_cellsOf 30 = .ok (.ireturn, 1) := dk_172 (dk_at dksX4_cellsOf_1 6 rfl rfl)
abbrev cX4_lay : ByteArray := prog_18_method_29_code
def yX4_lay : MethodName := ⟨RX4, "lay", "(IIIIZ)I"⟩
def dkwX4_lay_3 : List UInt8 := [29, 21, 4, 21, 5, 182, 0, 194, 172]
abbrev dktX4_lay_3 : List UInt8 := dkwX4_lay_3 ++ []
def dkwX4_lay_2 : List UInt8 := [180, 0, 112, 16, 40, 160, 0, 7, 7, 167, 0, 4, 3, 182, 0, 129, 153, 0, 5, 3, 172, 42, 27, 28]
abbrev dktX4_lay_2 : List UInt8 := dkwX4_lay_2 ++ dktX4_lay_3
def dkwX4_lay_1 : List UInt8 := [167, 0, 37, 42, 27, 28, 29, 21, 4, 21, 5, 182, 0, 190, 16, 45, 159, 0, 7, 6, 167, 0, 17, 42]
abbrev dktX4_lay_1 : List UInt8 := dkwX4_lay_1 ++ dktX4_lay_2
def dkwX4_lay_0 : List UInt8 := [42, 42, 27, 182, 0, 146, 154, 0, 7, 4, 167, 0, 50, 28, 3, 6, 184, 0, 122, 154, 0, 7, 5]
abbrev dktX4_lay_0 : List UInt8 := dkwX4_lay_0 ++ dktX4_lay_1
theorem dksX4_lay_0 : cX4_lay.data.toList.drop 0 = dktX4_lay_0 := by decide +kernel
theorem dksX4_lay_1 : cX4_lay.data.toList.drop 23 = dktX4_lay_1 := dk_seg dksX4_lay_0 23 rfl rfl
theorem dksX4_lay_2 : cX4_lay.data.toList.drop 47 = dktX4_lay_2 := dk_seg dksX4_lay_1 24 rfl rfl
theorem dksX4_lay_3 : cX4_lay.data.toList.drop 71 = dktX4_lay_3 := dk_seg dksX4_lay_2 24 rfl rfl
theorem dX4_lay_0 : decode cX4_lay 0 = .ok (.aload_n 0, 1) := dk_42 (dk_at dksX4_lay_0 0 rfl rfl)
theorem dX4_lay_1 : decode cX4_lay 1 = .ok (.aload_n 0, 1) := dk_42 (dk_at dksX4_lay_0 1 rfl rfl)
theorem dX4_lay_2 : decode cX4_lay 2 = .ok (.iload_n 1, 1) := dk_27 (dk_at dksX4_lay_0 2 rfl rfl)
theorem dX4_lay_3 : decode cX4_lay 3 = .ok (.invokevirtual 146, 3) := dk_182 0 146 (dk_at dksX4_lay_0 3 rfl rfl)
theorem dX4_lay_6 : decode cX4_lay 6 = .ok (.ifCond .ne 7, 3) := dk_154 0 7 (dk_at dksX4_lay_0 6 rfl rfl)
theorem dX4_lay_9 : decode cX4_lay 9 = .ok (.iconst 1, 1) := dk_4 (dk_at dksX4_lay_0 9 rfl rfl)
theorem dX4_lay_10 : decode cX4_lay 10 = .ok (.goto 50, 3) := dk_167 0 50 (dk_at dksX4_lay_0 10 rfl rfl)
theorem dX4_lay_13 : decode cX4_lay 13 = .ok (.iload_n 2, 1) := dk_28 (dk_at dksX4_lay_0 13 rfl rfl)
theorem dX4_lay_14 : decode cX4_lay 14 = .ok (.iconst 0, 1) := dk_3 (dk_at dksX4_lay_0 14 rfl rfl)
theorem dX4_lay_15 : decode cX4_lay 15 = .ok (.iconst 3, 1) := dk_6 (dk_at dksX4_lay_0 15 rfl rfl)
theorem dX4_lay_16 : decode cX4_lay 16 = .ok (.invokestatic 122, 3) := dk_184 0 122 (dk_at dksX4_lay_0 16 rfl rfl)
theorem dX4_lay_19 : decode cX4_lay 19 = .ok (.ifCond .ne 7, 3) := dk_154 0 7 (dk_at dksX4_lay_0 19 rfl rfl)
theorem dX4_lay_22 : decode cX4_lay 22 = .ok (.iconst 2, 1) := dk_5 (dk_at dksX4_lay_0 22 rfl rfl)
theorem dX4_lay_23 : decode cX4_lay 23 = .ok (.goto 37, 3) := dk_167 0 37 (dk_at dksX4_lay_1 0 rfl rfl)
theorem dX4_lay_26 : decode cX4_lay 26 = .ok (.aload_n 0, 1) := dk_42 (dk_at dksX4_lay_1 3 rfl rfl)
theorem dX4_lay_27 : decode cX4_lay 27 = .ok (.iload_n 1, 1) := dk_27 (dk_at dksX4_lay_1 4 rfl rfl)
theorem dX4_lay_28 : decode cX4_lay 28 = .ok (.iload_n 2, 1) := dk_28 (dk_at dksX4_lay_1 5 rfl rfl)
theorem dX4_lay_29 : decode cX4_lay 29 = .ok (.iload_n 3, 1) := dk_29 (dk_at dksX4_lay_1 6 rfl rfl)
theorem dX4_lay_30 : decode cX4_lay 30 = .ok (.iload 4, 2) := dk_21 4 (dk_at dksX4_lay_1 7 rfl rfl)
theorem dX4_lay_32 : decode cX4_lay 32 = .ok (.iload 5, 2) := dk_21 5 (dk_at dksX4_lay_1 9 rfl rfl)
theorem dX4_lay_34 : decode cX4_lay 34 = .ok (.invokevirtual 190, 3) := dk_182 0 190 (dk_at dksX4_lay_1 11 rfl rfl)
theorem dX4_lay_37 : decode cX4_lay 37 = .ok (.bipush 45, 2) := dk_16 45 (dk_at dksX4_lay_1 14 rfl rfl)
theorem dX4_lay_39 : decode cX4_lay 39 = .ok (.if_icmp .eq 7, 3) := dk_159 0 7 (dk_at dksX4_lay_1 16 rfl rfl)
theorem dX4_lay_42 : decode cX4_lay 42 = .ok (.iconst 3, 1) := dk_6 (dk_at dksX4_lay_1 19 rfl rfl)
theorem dX4_lay_43 : decode cX4_lay 43 = .ok (.goto 17, 3) := dk_167 0 17 (dk_at dksX4_lay_1 20 rfl rfl)
theorem dX4_lay_46 : decode cX4_lay 46 = .ok (.aload_n 0, 1) := dk_42 (dk_at dksX4_lay_1 23 rfl rfl)
theorem dX4_lay_47 : decode cX4_lay 47 = .ok (.getfield 112, 3) := dk_180 0 112 (dk_at dksX4_lay_2 0 rfl rfl)
theorem dX4_lay_50 : decode cX4_lay 50 = .ok (.bipush 40, 2) := dk_16 40 (dk_at dksX4_lay_2 3 rfl rfl)
theorem dX4_lay_52 : decode cX4_lay 52 = .ok (.if_icmp .ne 7, 3) := dk_160 0 7 (dk_at dksX4_lay_2 5 rfl rfl)
theorem dX4_lay_55 : decode cX4_lay 55 = .ok (.iconst 4, 1) := dk_7 (dk_at dksX4_lay_2 8 rfl rfl)
theorem dX4_lay_56 : decode cX4_lay 56 = .ok (.goto 4, 3) := dk_167 0 4 (dk_at dksX4_lay_2 9 rfl rfl)
theorem dX4_lay_59 : decode cX4_lay 59 = .ok (.iconst 0, 1) := dk_3 (dk_at dksX4_lay_2 12 rfl rfl)
theorem dX4_lay_60 : decode cX4_lay 60 = .ok (.invokevirtual 129, 3) := dk_182 0 129 (dk_at dksX4_lay_2 13 rfl rfl)
theorem dX4_lay_63 : decode cX4_lay 63 = .ok (.ifCond .eq 5, 3) := dk_153 0 5 (dk_at dksX4_lay_2 16 rfl rfl)
theorem dX4_lay_66 : decode cX4_lay 66 = .ok (.iconst 0, 1) := dk_3 (dk_at dksX4_lay_2 19 rfl rfl)
theorem dX4_lay_67 : decode cX4_lay 67 = .ok (.ireturn, 1) := dk_172 (dk_at dksX4_lay_2 20 rfl rfl)
theorem dX4_lay_68 : decode cX4_lay 68 = .ok (.aload_n 0, 1) := dk_42 (dk_at dksX4_lay_2 21 rfl rfl)
theorem dX4_lay_69 : decode cX4_lay 69 = .ok (.iload_n 1, 1) := dk_27 (dk_at dksX4_lay_2 22 rfl rfl)
theorem dX4_lay_70 : decode cX4_lay 70 = .ok (.iload_n 2, 1) := dk_28 (dk_at dksX4_lay_2 23 rfl rfl)
theorem dX4_lay_71 : decode cX4_lay 71 = .ok (.iload_n 3, 1) := dk_29 (dk_at dksX4_lay_3 0 rfl rfl)
theorem dX4_lay_72 : decode cX4_lay 72 = .ok (.iload 4, 2) := dk_21 4 (dk_at dksX4_lay_3 1 rfl rfl)
theorem dX4_lay_74 : decode cX4_lay 74 = .ok (.iload 5, 2) := dk_21 5 (dk_at dksX4_lay_3 3 rfl rfl)
theorem dX4_lay_76 : decode cX4_lay 76 = .ok (.invokevirtual 194, 3) := dk_182 0 194 (dk_at dksX4_lay_3 5 rfl rfl)
theorem dX4_lay_79 : decode cX4_lay 79 = .ok (.ireturn, 1) := dk_172 (dk_at dksX4_lay_3 8 rfl rfl)
abbrev cX4_reasonFor : ByteArray := prog_18_method_26_code
def yX4_reasonFor : MethodName := ⟨RX4, "reasonFor", "(IIIIZ)C"⟩
def dkwX4_reasonFor_7 : List UInt8 := [167, 0, 5, 16, 115, 172]
abbrev dktX4_reasonFor_7 : List UInt8 := dkwX4_reasonFor_7 ++ []
def dkwX4_reasonFor_6 : List UInt8 := [42, 29, 182, 0, 186, 160, 0, 7, 4, 167, 0, 4, 3, 54, 7, 21, 7, 153, 0, 8, 16, 45]
abbrev dktX4_reasonFor_6 : List UInt8 := dkwX4_reasonFor_6 ++ dktX4_reasonFor_7
def dkwX4_reasonFor_5 : List UInt8 := [180, 0, 70, 42, 180, 0, 31, 27, 46, 46, 153, 0, 22, 42, 180, 0, 67, 42, 180, 0, 31, 27, 46, 46]
abbrev dktX4_reasonFor_5 : List UInt8 := dkwX4_reasonFor_5 ++ dktX4_reasonFor_6
def dkwX4_reasonFor_4 : List UInt8 := [21, 6, 5, 160, 0, 8, 16, 102, 167, 0, 5, 16, 112, 172, 42, 27, 182, 0, 183, 153, 0, 36, 42]
abbrev dktX4_reasonFor_4 : List UInt8 := dkwX4_reasonFor_4 ++ dktX4_reasonFor_5
def dkwX4_reasonFor_3 : List UInt8 := [21, 4, 182, 0, 179, 54, 6, 21, 6, 158, 0, 28, 21, 6, 6, 160, 0, 8, 16, 111, 167, 0, 16]
abbrev dktX4_reasonFor_3 : List UInt8 := dkwX4_reasonFor_3 ++ dktX4_reasonFor_4
def dkwX4_reasonFor_2 : List UInt8 := [153, 0, 10, 42, 180, 0, 118, 153, 0, 6, 16, 109, 172, 42, 27, 28, 21, 5, 182, 0, 175, 42, 29]
abbrev dktX4_reasonFor_2 : List UInt8 := dkwX4_reasonFor_2 ++ dktX4_reasonFor_3
def dkwX4_reasonFor_1 : List UInt8 := [154, 0, 8, 16, 101, 167, 0, 5, 16, 116, 172, 21, 5, 153, 0, 22, 42, 180, 0, 21, 27, 51]
abbrev dktX4_reasonFor_1 : List UInt8 := dkwX4_reasonFor_1 ++ dktX4_reasonFor_2
def dkwX4_reasonFor_0 : List UInt8 := [42, 180, 0, 27, 27, 46, 153, 0, 12, 42, 27, 28, 182, 0, 172, 154, 0, 20, 42, 180, 0, 27, 27, 46]
abbrev dktX4_reasonFor_0 : List UInt8 := dkwX4_reasonFor_0 ++ dktX4_reasonFor_1
theorem dksX4_reasonFor_0 : cX4_reasonFor.data.toList.drop 0 = dktX4_reasonFor_0 := by decide +kernel
theorem dksX4_reasonFor_1 : cX4_reasonFor.data.toList.drop 24 = dktX4_reasonFor_1 := dk_seg dksX4_reasonFor_0 24 rfl rfl
theorem dksX4_reasonFor_2 : cX4_reasonFor.data.toList.drop 46 = dktX4_reasonFor_2 := dk_seg dksX4_reasonFor_1 22 rfl rfl
theorem dksX4_reasonFor_3 : cX4_reasonFor.data.toList.drop 69 = dktX4_reasonFor_3 := dk_seg dksX4_reasonFor_2 23 rfl rfl
theorem dksX4_reasonFor_4 : cX4_reasonFor.data.toList.drop 92 = dktX4_reasonFor_4 := dk_seg dksX4_reasonFor_3 23 rfl rfl
theorem dksX4_reasonFor_5 : cX4_reasonFor.data.toList.drop 115 = dktX4_reasonFor_5 := dk_seg dksX4_reasonFor_4 23 rfl rfl
theorem dksX4_reasonFor_6 : cX4_reasonFor.data.toList.drop 139 = dktX4_reasonFor_6 := dk_seg dksX4_reasonFor_5 24 rfl rfl
theorem dksX4_reasonFor_7 : cX4_reasonFor.data.toList.drop 161 = dktX4_reasonFor_7 := dk_seg dksX4_reasonFor_6 22 rfl rfl
theorem dX4_reasonFor_0 : decode cX4_reasonFor 0 = .ok (.aload_n 0, 1) := dk_42 (dk_at dksX4_reasonFor_0 0 rfl rfl)
theorem dX4_reasonFor_1 : decode cX4_reasonFor 1 = .ok (.getfield 27, 3) := dk_180 0 27 (dk_at dksX4_reasonFor_0 1 rfl rfl)
theorem dX4_reasonFor_4 : decode cX4_reasonFor 4 = .ok (.iload_n 1, 1) := dk_27 (dk_at dksX4_reasonFor_0 4 rfl rfl)
theorem dX4_reasonFor_5 : decode cX4_reasonFor 5 = .ok (.iaload, 1) := dk_46 (dk_at dksX4_reasonFor_0 5 rfl rfl)
theorem dX4_reasonFor_6 : decode cX4_reasonFor 6 = .ok (.ifCond .eq 12, 3) := dk_153 0 12 (dk_at dksX4_reasonFor_0 6 rfl rfl)
theorem dX4_reasonFor_9 : decode cX4_reasonFor 9 = .ok (.aload_n 0, 1) := dk_42 (dk_at dksX4_reasonFor_0 9 rfl rfl)
theorem dX4_reasonFor_10 : decode cX4_reasonFor 10 = .ok (.iload_n 1, 1) := dk_27 (dk_at dksX4_reasonFor_0 10 rfl rfl)
theorem dX4_reasonFor_11 : decode cX4_reasonFor 11 = .ok (.iload_n 2, 1) := dk_28 (dk_at dksX4_reasonFor_0 11 rfl rfl)
theorem dX4_reasonFor_12 : decode cX4_reasonFor 12 = .ok (.invokevirtual 172, 3) := dk_182 0 172 (dk_at dksX4_reasonFor_0 12 rfl rfl)
theorem dX4_reasonFor_15 : decode cX4_reasonFor 15 = .ok (.ifCond .ne 20, 3) := dk_154 0 20 (dk_at dksX4_reasonFor_0 15 rfl rfl)
theorem dX4_reasonFor_18 : decode cX4_reasonFor 18 = .ok (.aload_n 0, 1) := dk_42 (dk_at dksX4_reasonFor_0 18 rfl rfl)
theorem dX4_reasonFor_19 : decode cX4_reasonFor 19 = .ok (.getfield 27, 3) := dk_180 0 27 (dk_at dksX4_reasonFor_0 19 rfl rfl)
theorem dX4_reasonFor_22 : decode cX4_reasonFor 22 = .ok (.iload_n 1, 1) := dk_27 (dk_at dksX4_reasonFor_0 22 rfl rfl)
theorem dX4_reasonFor_23 : decode cX4_reasonFor 23 = .ok (.iaload, 1) := dk_46 (dk_at dksX4_reasonFor_0 23 rfl rfl)
theorem dX4_reasonFor_24 : decode cX4_reasonFor 24 = .ok (.ifCond .ne 8, 3) := dk_154 0 8 (dk_at dksX4_reasonFor_1 0 rfl rfl)
theorem dX4_reasonFor_27 : decode cX4_reasonFor 27 = .ok (.bipush 101, 2) := dk_16 101 (dk_at dksX4_reasonFor_1 3 rfl rfl)
theorem dX4_reasonFor_29 : decode cX4_reasonFor 29 = .ok (.goto 5, 3) := dk_167 0 5 (dk_at dksX4_reasonFor_1 5 rfl rfl)
theorem dX4_reasonFor_32 : decode cX4_reasonFor 32 = .ok (.bipush 116, 2) := dk_16 116 (dk_at dksX4_reasonFor_1 8 rfl rfl)
theorem dX4_reasonFor_34 : decode cX4_reasonFor 34 = .ok (.ireturn, 1) := dk_172 (dk_at dksX4_reasonFor_1 10 rfl rfl)
theorem dX4_reasonFor_35 : decode cX4_reasonFor 35 = .ok (.iload 5, 2) := dk_21 5 (dk_at dksX4_reasonFor_1 11 rfl rfl)
theorem dX4_reasonFor_37 : decode cX4_reasonFor 37 = .ok (.ifCond .eq 22, 3) := dk_153 0 22 (dk_at dksX4_reasonFor_1 13 rfl rfl)
theorem dX4_reasonFor_40 : decode cX4_reasonFor 40 = .ok (.aload_n 0, 1) := dk_42 (dk_at dksX4_reasonFor_1 16 rfl rfl)
theorem dX4_reasonFor_41 : decode cX4_reasonFor 41 = .ok (.getfield 21, 3) := dk_180 0 21 (dk_at dksX4_reasonFor_1 17 rfl rfl)
theorem dX4_reasonFor_44 : decode cX4_reasonFor 44 = .ok (.iload_n 1, 1) := dk_27 (dk_at dksX4_reasonFor_1 20 rfl rfl)
theorem dX4_reasonFor_45 : decode cX4_reasonFor 45 = .ok (.baload, 1) := dk_51 (dk_at dksX4_reasonFor_1 21 rfl rfl)
theorem dX4_reasonFor_46 : decode cX4_reasonFor 46 = .ok (.ifCond .eq 10, 3) := dk_153 0 10 (dk_at dksX4_reasonFor_2 0 rfl rfl)
theorem dX4_reasonFor_49 : decode cX4_reasonFor 49 = .ok (.aload_n 0, 1) := dk_42 (dk_at dksX4_reasonFor_2 3 rfl rfl)
theorem dX4_reasonFor_50 : decode cX4_reasonFor 50 = .ok (.getfield 118, 3) := dk_180 0 118 (dk_at dksX4_reasonFor_2 4 rfl rfl)
theorem dX4_reasonFor_53 : decode cX4_reasonFor 53 = .ok (.ifCond .eq 6, 3) := dk_153 0 6 (dk_at dksX4_reasonFor_2 7 rfl rfl)
theorem dX4_reasonFor_56 : decode cX4_reasonFor 56 = .ok (.bipush 109, 2) := dk_16 109 (dk_at dksX4_reasonFor_2 10 rfl rfl)
theorem dX4_reasonFor_58 : decode cX4_reasonFor 58 = .ok (.ireturn, 1) := dk_172 (dk_at dksX4_reasonFor_2 12 rfl rfl)
theorem dX4_reasonFor_59 : decode cX4_reasonFor 59 = .ok (.aload_n 0, 1) := dk_42 (dk_at dksX4_reasonFor_2 13 rfl rfl)
theorem dX4_reasonFor_60 : decode cX4_reasonFor 60 = .ok (.iload_n 1, 1) := dk_27 (dk_at dksX4_reasonFor_2 14 rfl rfl)
theorem dX4_reasonFor_61 : decode cX4_reasonFor 61 = .ok (.iload_n 2, 1) := dk_28 (dk_at dksX4_reasonFor_2 15 rfl rfl)
theorem dX4_reasonFor_62 : decode cX4_reasonFor 62 = .ok (.iload 5, 2) := dk_21 5 (dk_at dksX4_reasonFor_2 16 rfl rfl)
theorem dX4_reasonFor_64 : decode cX4_reasonFor 64 = .ok (.invokevirtual 175, 3) := dk_182 0 175 (dk_at dksX4_reasonFor_2 18 rfl rfl)
theorem dX4_reasonFor_67 : decode cX4_reasonFor 67 = .ok (.aload_n 0, 1) := dk_42 (dk_at dksX4_reasonFor_2 21 rfl rfl)
theorem dX4_reasonFor_68 : decode cX4_reasonFor 68 = .ok (.iload_n 3, 1) := dk_29 (dk_at dksX4_reasonFor_2 22 rfl rfl)
theorem dX4_reasonFor_69 : decode cX4_reasonFor 69 = .ok (.iload 4, 2) := dk_21 4 (dk_at dksX4_reasonFor_3 0 rfl rfl)
theorem dX4_reasonFor_71 : decode cX4_reasonFor 71 = .ok (.invokevirtual 179, 3) := dk_182 0 179 (dk_at dksX4_reasonFor_3 2 rfl rfl)
theorem dX4_reasonFor_74 : decode cX4_reasonFor 74 = .ok (.istore 6, 2) := dk_54 6 (dk_at dksX4_reasonFor_3 5 rfl rfl)
theorem dX4_reasonFor_76 : decode cX4_reasonFor 76 = .ok (.iload 6, 2) := dk_21 6 (dk_at dksX4_reasonFor_3 7 rfl rfl)
theorem dX4_reasonFor_78 : decode cX4_reasonFor 78 = .ok (.ifCond .le 28, 3) := dk_158 0 28 (dk_at dksX4_reasonFor_3 9 rfl rfl)
theorem dX4_reasonFor_81 : decode cX4_reasonFor 81 = .ok (.iload 6, 2) := dk_21 6 (dk_at dksX4_reasonFor_3 12 rfl rfl)
theorem dX4_reasonFor_83 : decode cX4_reasonFor 83 = .ok (.iconst 3, 1) := dk_6 (dk_at dksX4_reasonFor_3 14 rfl rfl)
theorem dX4_reasonFor_84 : decode cX4_reasonFor 84 = .ok (.if_icmp .ne 8, 3) := dk_160 0 8 (dk_at dksX4_reasonFor_3 15 rfl rfl)
theorem dX4_reasonFor_87 : decode cX4_reasonFor 87 = .ok (.bipush 111, 2) := dk_16 111 (dk_at dksX4_reasonFor_3 18 rfl rfl)
theorem dX4_reasonFor_89 : decode cX4_reasonFor 89 = .ok (.goto 16, 3) := dk_167 0 16 (dk_at dksX4_reasonFor_3 20 rfl rfl)
theorem dX4_reasonFor_92 : decode cX4_reasonFor 92 = .ok (.iload 6, 2) := dk_21 6 (dk_at dksX4_reasonFor_4 0 rfl rfl)
theorem dX4_reasonFor_94 : decode cX4_reasonFor 94 = .ok (.iconst 2, 1) := dk_5 (dk_at dksX4_reasonFor_4 2 rfl rfl)
theorem dX4_reasonFor_95 : decode cX4_reasonFor 95 = .ok (.if_icmp .ne 8, 3) := dk_160 0 8 (dk_at dksX4_reasonFor_4 3 rfl rfl)
theorem dX4_reasonFor_98 : decode cX4_reasonFor 98 = .ok (.bipush 102, 2) := dk_16 102 (dk_at dksX4_reasonFor_4 6 rfl rfl)
theorem dX4_reasonFor_100 : decode cX4_reasonFor 100 = .ok (.goto 5, 3) := dk_167 0 5 (dk_at dksX4_reasonFor_4 8 rfl rfl)
theorem dX4_reasonFor_103 : decode cX4_reasonFor 103 = .ok (.bipush 112, 2) := dk_16 112 (dk_at dksX4_reasonFor_4 11 rfl rfl)
theorem dX4_reasonFor_105 : decode cX4_reasonFor 105 = .ok (.ireturn, 1) := dk_172 (dk_at dksX4_reasonFor_4 13 rfl rfl)
theorem dX4_reasonFor_106 : decode cX4_reasonFor 106 = .ok (.aload_n 0, 1) := dk_42 (dk_at dksX4_reasonFor_4 14 rfl rfl)
theorem dX4_reasonFor_107 : decode cX4_reasonFor 107 = .ok (.iload_n 1, 1) := dk_27 (dk_at dksX4_reasonFor_4 15 rfl rfl)
theorem dX4_reasonFor_108 : decode cX4_reasonFor 108 = .ok (.invokevirtual 183, 3) := dk_182 0 183 (dk_at dksX4_reasonFor_4 16 rfl rfl)
theorem dX4_reasonFor_111 : decode cX4_reasonFor 111 = .ok (.ifCond .eq 36, 3) := dk_153 0 36 (dk_at dksX4_reasonFor_4 19 rfl rfl)
theorem dX4_reasonFor_114 : decode cX4_reasonFor 114 = .ok (.aload_n 0, 1) := dk_42 (dk_at dksX4_reasonFor_4 22 rfl rfl)
theorem dX4_reasonFor_115 : decode cX4_reasonFor 115 = .ok (.getfield 70, 3) := dk_180 0 70 (dk_at dksX4_reasonFor_5 0 rfl rfl)
theorem dX4_reasonFor_118 : decode cX4_reasonFor 118 = .ok (.aload_n 0, 1) := dk_42 (dk_at dksX4_reasonFor_5 3 rfl rfl)
theorem dX4_reasonFor_119 : decode cX4_reasonFor 119 = .ok (.getfield 31, 3) := dk_180 0 31 (dk_at dksX4_reasonFor_5 4 rfl rfl)
theorem dX4_reasonFor_122 : decode cX4_reasonFor 122 = .ok (.iload_n 1, 1) := dk_27 (dk_at dksX4_reasonFor_5 7 rfl rfl)
theorem dX4_reasonFor_123 : decode cX4_reasonFor 123 = .ok (.iaload, 1) := dk_46 (dk_at dksX4_reasonFor_5 8 rfl rfl)
theorem dX4_reasonFor_124 : decode cX4_reasonFor 124 = .ok (.iaload, 1) := dk_46 (dk_at dksX4_reasonFor_5 9 rfl rfl)
theorem dX4_reasonFor_125 : decode cX4_reasonFor 125 = .ok (.ifCond .eq 22, 3) := dk_153 0 22 (dk_at dksX4_reasonFor_5 10 rfl rfl)
theorem dX4_reasonFor_128 : decode cX4_reasonFor 128 = .ok (.aload_n 0, 1) := dk_42 (dk_at dksX4_reasonFor_5 13 rfl rfl)
theorem dX4_reasonFor_129 : decode cX4_reasonFor 129 = .ok (.getfield 67, 3) := dk_180 0 67 (dk_at dksX4_reasonFor_5 14 rfl rfl)
theorem dX4_reasonFor_132 : decode cX4_reasonFor 132 = .ok (.aload_n 0, 1) := dk_42 (dk_at dksX4_reasonFor_5 17 rfl rfl)
theorem dX4_reasonFor_133 : decode cX4_reasonFor 133 = .ok (.getfield 31, 3) := dk_180 0 31 (dk_at dksX4_reasonFor_5 18 rfl rfl)
theorem dX4_reasonFor_136 : decode cX4_reasonFor 136 = .ok (.iload_n 1, 1) := dk_27 (dk_at dksX4_reasonFor_5 21 rfl rfl)
theorem dX4_reasonFor_137 : decode cX4_reasonFor 137 = .ok (.iaload, 1) := dk_46 (dk_at dksX4_reasonFor_5 22 rfl rfl)
theorem dX4_reasonFor_138 : decode cX4_reasonFor 138 = .ok (.iaload, 1) := dk_46 (dk_at dksX4_reasonFor_5 23 rfl rfl)
theorem dX4_reasonFor_139 : decode cX4_reasonFor 139 = .ok (.aload_n 0, 1) := dk_42 (dk_at dksX4_reasonFor_6 0 rfl rfl)
theorem dX4_reasonFor_140 : decode cX4_reasonFor 140 = .ok (.iload_n 3, 1) := dk_29 (dk_at dksX4_reasonFor_6 1 rfl rfl)
theorem dX4_reasonFor_141 : decode cX4_reasonFor 141 = .ok (.invokevirtual 186, 3) := dk_182 0 186 (dk_at dksX4_reasonFor_6 2 rfl rfl)
theorem dX4_reasonFor_144 : decode cX4_reasonFor 144 = .ok (.if_icmp .ne 7, 3) := dk_160 0 7 (dk_at dksX4_reasonFor_6 5 rfl rfl)
theorem dX4_reasonFor_147 : decode cX4_reasonFor 147 = .ok (.iconst 1, 1) := dk_4 (dk_at dksX4_reasonFor_6 8 rfl rfl)
theorem dX4_reasonFor_148 : decode cX4_reasonFor 148 = .ok (.goto 4, 3) := dk_167 0 4 (dk_at dksX4_reasonFor_6 9 rfl rfl)
theorem dX4_reasonFor_151 : decode cX4_reasonFor 151 = .ok (.iconst 0, 1) := dk_3 (dk_at dksX4_reasonFor_6 12 rfl rfl)
theorem dX4_reasonFor_152 : decode cX4_reasonFor 152 = .ok (.istore 7, 2) := dk_54 7 (dk_at dksX4_reasonFor_6 13 rfl rfl)
theorem dX4_reasonFor_154 : decode cX4_reasonFor 154 = .ok (.iload 7, 2) := dk_21 7 (dk_at dksX4_reasonFor_6 15 rfl rfl)
theorem dX4_reasonFor_156 : decode cX4_reasonFor 156 = .ok (.ifCond .eq 8, 3) := dk_153 0 8 (dk_at dksX4_reasonFor_6 17 rfl rfl)
theorem dX4_reasonFor_159 : decode cX4_reasonFor 159 = .ok (.bipush 45, 2) := dk_16 45 (dk_at dksX4_reasonFor_6 20 rfl rfl)
theorem dX4_reasonFor_161 : decode cX4_reasonFor 161 = .ok (.goto 5, 3) := dk_167 0 5 (dk_at dksX4_reasonFor_7 0 rfl rfl)
theorem dX4_reasonFor_164 : decode cX4_reasonFor 164 = .ok (.bipush 115, 2) := dk_16 115 (dk_at dksX4_reasonFor_7 3 rfl rfl)
theorem dX4_reasonFor_166 : decode cX4_reasonFor 166 = .ok (.ireturn, 1) := dk_172 (dk_at dksX4_reasonFor_7 5 rfl rfl)
abbrev cX4_mayTurn : ByteArray := prog_18_method_22_code
def yX4_mayTurn : MethodName := ⟨RX4, "mayTurn", "(II)Z"⟩
def dkwX4_mayTurn_1 : List UInt8 := [180, 0, 17, 27, 52, 16, 104, 160, 0, 12, 28, 5, 160, 0, 7, 4, 167, 0, 4, 3, 172]
abbrev dktX4_mayTurn_1 : List UInt8 := dkwX4_mayTurn_1 ++ []
def dkwX4_mayTurn_0 : List UInt8 := [28, 153, 0, 37, 42, 180, 0, 133, 154, 0, 34, 42, 180, 0, 17, 27, 52, 16, 113, 159, 0, 19, 42]
abbrev dktX4_mayTurn_0 : List UInt8 := dkwX4_mayTurn_0 ++ dktX4_mayTurn_1
theorem dksX4_mayTurn_0 : cX4_mayTurn.data.toList.drop 0 = dktX4_mayTurn_0 := by decide +kernel
theorem dksX4_mayTurn_1 : cX4_mayTurn.data.toList.drop 23 = dktX4_mayTurn_1 := dk_seg dksX4_mayTurn_0 23 rfl rfl
theorem dX4_mayTurn_0 : decode cX4_mayTurn 0 = .ok (.iload_n 2, 1) := dk_28 (dk_at dksX4_mayTurn_0 0 rfl rfl)
theorem dX4_mayTurn_1 : decode cX4_mayTurn 1 = .ok (.ifCond .eq 37, 3) := dk_153 0 37 (dk_at dksX4_mayTurn_0 1 rfl rfl)
theorem dX4_mayTurn_4 : decode cX4_mayTurn 4 = .ok (.aload_n 0, 1) := dk_42 (dk_at dksX4_mayTurn_0 4 rfl rfl)
theorem dX4_mayTurn_5 : decode cX4_mayTurn 5 = .ok (.getfield 133, 3) := dk_180 0 133 (dk_at dksX4_mayTurn_0 5 rfl rfl)
theorem dX4_mayTurn_8 : decode cX4_mayTurn 8 = .ok (.ifCond .ne 34, 3) := dk_154 0 34 (dk_at dksX4_mayTurn_0 8 rfl rfl)
theorem dX4_mayTurn_11 : decode cX4_mayTurn 11 = .ok (.aload_n 0, 1) := dk_42 (dk_at dksX4_mayTurn_0 11 rfl rfl)
theorem dX4_mayTurn_12 : decode cX4_mayTurn 12 = .ok (.getfield 17, 3) := dk_180 0 17 (dk_at dksX4_mayTurn_0 12 rfl rfl)
theorem dX4_mayTurn_15 : decode cX4_mayTurn 15 = .ok (.iload_n 1, 1) := dk_27 (dk_at dksX4_mayTurn_0 15 rfl rfl)
theorem dX4_mayTurn_16 : decode cX4_mayTurn 16 = .ok (.caload, 1) := dk_52 (dk_at dksX4_mayTurn_0 16 rfl rfl)
theorem dX4_mayTurn_17 : decode cX4_mayTurn 17 = .ok (.bipush 113, 2) := dk_16 113 (dk_at dksX4_mayTurn_0 17 rfl rfl)
theorem dX4_mayTurn_19 : decode cX4_mayTurn 19 = .ok (.if_icmp .eq 19, 3) := dk_159 0 19 (dk_at dksX4_mayTurn_0 19 rfl rfl)
theorem dX4_mayTurn_22 : decode cX4_mayTurn 22 = .ok (.aload_n 0, 1) := dk_42 (dk_at dksX4_mayTurn_0 22 rfl rfl)
theorem dX4_mayTurn_23 : decode cX4_mayTurn 23 = .ok (.getfield 17, 3) := dk_180 0 17 (dk_at dksX4_mayTurn_1 0 rfl rfl)
theorem dX4_mayTurn_26 : decode cX4_mayTurn 26 = .ok (.iload_n 1, 1) := dk_27 (dk_at dksX4_mayTurn_1 3 rfl rfl)
theorem dX4_mayTurn_27 : decode cX4_mayTurn 27 = .ok (.caload, 1) := dk_52 (dk_at dksX4_mayTurn_1 4 rfl rfl)
theorem dX4_mayTurn_28 : decode cX4_mayTurn 28 = .ok (.bipush 104, 2) := dk_16 104 (dk_at dksX4_mayTurn_1 5 rfl rfl)
theorem dX4_mayTurn_30 : decode cX4_mayTurn 30 = .ok (.if_icmp .ne 12, 3) := dk_160 0 12 (dk_at dksX4_mayTurn_1 7 rfl rfl)
theorem dX4_mayTurn_33 : decode cX4_mayTurn 33 = .ok (.iload_n 2, 1) := dk_28 (dk_at dksX4_mayTurn_1 10 rfl rfl)
theorem dX4_mayTurn_34 : decode cX4_mayTurn 34 = .ok (.iconst 2, 1) := dk_5 (dk_at dksX4_mayTurn_1 11 rfl rfl)
theorem dX4_mayTurn_35 : decode cX4_mayTurn 35 = .ok (.if_icmp .ne 7, 3) := dk_160 0 7 (dk_at dksX4_mayTurn_1 12 rfl rfl)
theorem dX4_mayTurn_38 : decode cX4_mayTurn 38 = .ok (.iconst 1, 1) := dk_4 (dk_at dksX4_mayTurn_1 15 rfl rfl)
theorem dX4_mayTurn_39 : decode cX4_mayTurn 39 = .ok (.goto 4, 3) := dk_167 0 4 (dk_at dksX4_mayTurn_1 16 rfl rfl)
theorem dX4_mayTurn_42 : decode cX4_mayTurn 42 = .ok (.iconst 0, 1) := dk_3 (dk_at dksX4_mayTurn_1 19 rfl rfl)
theorem dX4_mayTurn_43 : decode cX4_mayTurn 43 = .ok (.ireturn, 1) := dk_172 (dk_at dksX4_mayTurn_1 20 rfl rfl)
abbrev cX4_turns : ByteArray := prog_18_method_21_code
def yX4_turns : MethodName := ⟨RX4, "turns", "(IIZ)V"⟩
def dkwX4_turns_10 : List UInt8 := [100, 167, 0, 9, 42, 180, 0, 37, 27, 46, 28, 184, 0, 155, 21, 4, 100, 181, 0, 162, 177]
abbrev dktX4_turns_10 : List UInt8 := dkwX4_turns_10 ++ []
def dkwX4_turns_9 : List UInt8 := [132, 6, 1, 167, 255, 220, 42, 42, 180, 0, 34, 27, 46, 29, 153, 0, 14, 7, 42, 180, 0, 37, 27, 46]
abbrev dktX4_turns_9 : List UInt8 := dkwX4_turns_9 ++ dktX4_turns_10
def dkwX4_turns_8 : List UInt8 := [180, 0, 79, 21, 6, 92, 46, 21, 4, 100, 79, 42, 180, 0, 82, 21, 6, 92, 46, 21, 5, 100, 79]
abbrev dktX4_turns_8 : List UInt8 := dkwX4_turns_8 ++ dktX4_turns_9
def dkwX4_turns_7 : List UInt8 := [181, 0, 152, 132, 6, 1, 167, 255, 104, 3, 54, 6, 21, 6, 42, 180, 0, 152, 162, 0, 33, 42]
abbrev dktX4_turns_7 : List UInt8 := dkwX4_turns_7 ++ dktX4_turns_8
def dkwX4_turns_6 : List UInt8 := [180, 0, 82, 42, 180, 0, 152, 46, 167, 0, 5, 21, 5, 54, 5, 42, 89, 180, 0, 152, 4, 96]
abbrev dktX4_turns_6 : List UInt8 := dkwX4_turns_6 ++ dktX4_turns_7
def dkwX4_turns_5 : List UInt8 := [167, 0, 5, 21, 4, 54, 4, 42, 180, 0, 82, 42, 180, 0, 152, 46, 21, 5, 162, 0, 15, 42]
abbrev dktX4_turns_5 : List UInt8 := dkwX4_turns_5 ++ dktX4_turns_6
def dkwX4_turns_4 : List UInt8 := [180, 0, 79, 42, 180, 0, 152, 46, 21, 4, 162, 0, 15, 42, 180, 0, 79, 42, 180, 0, 152, 46]
abbrev dktX4_turns_4 : List UInt8 := dkwX4_turns_4 ++ dktX4_turns_5
def dkwX4_turns_3 : List UInt8 := [184, 0, 155, 79, 42, 180, 0, 82, 42, 180, 0, 152, 21, 6, 8, 108, 21, 7, 28, 184, 0, 159, 79, 42]
abbrev dktX4_turns_3 : List UInt8 := dkwX4_turns_3 ++ dktX4_turns_4
def dkwX4_turns_2 : List UInt8 := [167, 0, 7, 21, 6, 8, 112, 54, 7, 42, 180, 0, 79, 42, 180, 0, 152, 21, 6, 8, 108, 21, 7, 28]
abbrev dktX4_turns_2 : List UInt8 := dkwX4_turns_2 ++ dktX4_turns_3
def dkwX4_turns_1 : List UInt8 := [180, 0, 24, 16, 25, 27, 104, 21, 6, 96, 51, 153, 0, 130, 29, 153, 0, 12, 7, 21, 6, 8, 112, 100]
abbrev dktX4_turns_1 : List UInt8 := dkwX4_turns_1 ++ dktX4_turns_2
def dkwX4_turns_0 : List UInt8 := [8, 54, 4, 8, 54, 5, 42, 3, 181, 0, 152, 3, 54, 6, 21, 6, 16, 25, 162, 0, 151, 42]
abbrev dktX4_turns_0 : List UInt8 := dkwX4_turns_0 ++ dktX4_turns_1
theorem dksX4_turns_0 : cX4_turns.data.toList.drop 0 = dktX4_turns_0 := by decide +kernel
theorem dksX4_turns_1 : cX4_turns.data.toList.drop 22 = dktX4_turns_1 := dk_seg dksX4_turns_0 22 rfl rfl
theorem dksX4_turns_2 : cX4_turns.data.toList.drop 46 = dktX4_turns_2 := dk_seg dksX4_turns_1 24 rfl rfl
theorem dksX4_turns_3 : cX4_turns.data.toList.drop 70 = dktX4_turns_3 := dk_seg dksX4_turns_2 24 rfl rfl
theorem dksX4_turns_4 : cX4_turns.data.toList.drop 94 = dktX4_turns_4 := dk_seg dksX4_turns_3 24 rfl rfl
theorem dksX4_turns_5 : cX4_turns.data.toList.drop 116 = dktX4_turns_5 := dk_seg dksX4_turns_4 22 rfl rfl
theorem dksX4_turns_6 : cX4_turns.data.toList.drop 138 = dktX4_turns_6 := dk_seg dksX4_turns_5 22 rfl rfl
theorem dksX4_turns_7 : cX4_turns.data.toList.drop 160 = dktX4_turns_7 := dk_seg dksX4_turns_6 22 rfl rfl
theorem dksX4_turns_8 : cX4_turns.data.toList.drop 182 = dktX4_turns_8 := dk_seg dksX4_turns_7 22 rfl rfl
theorem dksX4_turns_9 : cX4_turns.data.toList.drop 205 = dktX4_turns_9 := dk_seg dksX4_turns_8 23 rfl rfl
theorem dksX4_turns_10 : cX4_turns.data.toList.drop 229 = dktX4_turns_10 := dk_seg dksX4_turns_9 24 rfl rfl
theorem dX4_turns_0 : decode cX4_turns 0 = .ok (.iconst 5, 1) := dk_8 (dk_at dksX4_turns_0 0 rfl rfl)
theorem dX4_turns_1 : decode cX4_turns 1 = .ok (.istore 4, 2) := dk_54 4 (dk_at dksX4_turns_0 1 rfl rfl)
theorem dX4_turns_3 : decode cX4_turns 3 = .ok (.iconst 5, 1) := dk_8 (dk_at dksX4_turns_0 3 rfl rfl)
theorem dX4_turns_4 : decode cX4_turns 4 = .ok (.istore 5, 2) := dk_54 5 (dk_at dksX4_turns_0 4 rfl rfl)
theorem dX4_turns_6 : decode cX4_turns 6 = .ok (.aload_n 0, 1) := dk_42 (dk_at dksX4_turns_0 6 rfl rfl)
theorem dX4_turns_7 : decode cX4_turns 7 = .ok (.iconst 0, 1) := dk_3 (dk_at dksX4_turns_0 7 rfl rfl)
theorem dX4_turns_8 : decode cX4_turns 8 = .ok (.putfield 152, 3) := dk_181 0 152 (dk_at dksX4_turns_0 8 rfl rfl)
theorem dX4_turns_11 : decode cX4_turns 11 = .ok (.iconst 0, 1) := dk_3 (dk_at dksX4_turns_0 11 rfl rfl)
theorem dX4_turns_12 : decode cX4_turns 12 = .ok (.istore 6, 2) := dk_54 6 (dk_at dksX4_turns_0 12 rfl rfl)
theorem dX4_turns_14 : decode cX4_turns 14 = .ok (.iload 6, 2) := dk_21 6 (dk_at dksX4_turns_0 14 rfl rfl)
theorem dX4_turns_16 : decode cX4_turns 16 = .ok (.bipush 25, 2) := dk_16 25 (dk_at dksX4_turns_0 16 rfl rfl)
theorem dX4_turns_18 : decode cX4_turns 18 = .ok (.if_icmp .ge 151, 3) := dk_162 0 151 (dk_at dksX4_turns_0 18 rfl rfl)
theorem dX4_turns_21 : decode cX4_turns 21 = .ok (.aload_n 0, 1) := dk_42 (dk_at dksX4_turns_0 21 rfl rfl)
theorem dX4_turns_22 : decode cX4_turns 22 = .ok (.getfield 24, 3) := dk_180 0 24 (dk_at dksX4_turns_1 0 rfl rfl)
theorem dX4_turns_25 : decode cX4_turns 25 = .ok (.bipush 25, 2) := dk_16 25 (dk_at dksX4_turns_1 3 rfl rfl)
theorem dX4_turns_27 : decode cX4_turns 27 = .ok (.iload_n 1, 1) := dk_27 (dk_at dksX4_turns_1 5 rfl rfl)
theorem dX4_turns_28 : decode cX4_turns 28 = .ok (.imul, 1) := dk_104 (dk_at dksX4_turns_1 6 rfl rfl)
theorem dX4_turns_29 : decode cX4_turns 29 = .ok (.iload 6, 2) := dk_21 6 (dk_at dksX4_turns_1 7 rfl rfl)
theorem dX4_turns_31 : decode cX4_turns 31 = .ok (.iadd, 1) := dk_96 (dk_at dksX4_turns_1 9 rfl rfl)
theorem dX4_turns_32 : decode cX4_turns 32 = .ok (.baload, 1) := dk_51 (dk_at dksX4_turns_1 10 rfl rfl)
theorem dX4_turns_33 : decode cX4_turns 33 = .ok (.ifCond .eq 130, 3) := dk_153 0 130 (dk_at dksX4_turns_1 11 rfl rfl)
theorem dX4_turns_36 : decode cX4_turns 36 = .ok (.iload_n 3, 1) := dk_29 (dk_at dksX4_turns_1 14 rfl rfl)
theorem dX4_turns_37 : decode cX4_turns 37 = .ok (.ifCond .eq 12, 3) := dk_153 0 12 (dk_at dksX4_turns_1 15 rfl rfl)
theorem dX4_turns_40 : decode cX4_turns 40 = .ok (.iconst 4, 1) := dk_7 (dk_at dksX4_turns_1 18 rfl rfl)
theorem dX4_turns_41 : decode cX4_turns 41 = .ok (.iload 6, 2) := dk_21 6 (dk_at dksX4_turns_1 19 rfl rfl)
theorem dX4_turns_43 : decode cX4_turns 43 = .ok (.iconst 5, 1) := dk_8 (dk_at dksX4_turns_1 21 rfl rfl)
theorem dX4_turns_44 : decode cX4_turns 44 = .ok (.irem, 1) := dk_112 (dk_at dksX4_turns_1 22 rfl rfl)
theorem dX4_turns_45 : decode cX4_turns 45 = .ok (.isub, 1) := dk_100 (dk_at dksX4_turns_1 23 rfl rfl)
theorem dX4_turns_46 : decode cX4_turns 46 = .ok (.goto 7, 3) := dk_167 0 7 (dk_at dksX4_turns_2 0 rfl rfl)
theorem dX4_turns_49 : decode cX4_turns 49 = .ok (.iload 6, 2) := dk_21 6 (dk_at dksX4_turns_2 3 rfl rfl)
theorem dX4_turns_51 : decode cX4_turns 51 = .ok (.iconst 5, 1) := dk_8 (dk_at dksX4_turns_2 5 rfl rfl)
theorem dX4_turns_52 : decode cX4_turns 52 = .ok (.irem, 1) := dk_112 (dk_at dksX4_turns_2 6 rfl rfl)
theorem dX4_turns_53 : decode cX4_turns 53 = .ok (.istore 7, 2) := dk_54 7 (dk_at dksX4_turns_2 7 rfl rfl)
theorem dX4_turns_55 : decode cX4_turns 55 = .ok (.aload_n 0, 1) := dk_42 (dk_at dksX4_turns_2 9 rfl rfl)
theorem dX4_turns_56 : decode cX4_turns 56 = .ok (.getfield 79, 3) := dk_180 0 79 (dk_at dksX4_turns_2 10 rfl rfl)
theorem dX4_turns_59 : decode cX4_turns 59 = .ok (.aload_n 0, 1) := dk_42 (dk_at dksX4_turns_2 13 rfl rfl)
theorem dX4_turns_60 : decode cX4_turns 60 = .ok (.getfield 152, 3) := dk_180 0 152 (dk_at dksX4_turns_2 14 rfl rfl)
theorem dX4_turns_63 : decode cX4_turns 63 = .ok (.iload 6, 2) := dk_21 6 (dk_at dksX4_turns_2 17 rfl rfl)
theorem dX4_turns_65 : decode cX4_turns 65 = .ok (.iconst 5, 1) := dk_8 (dk_at dksX4_turns_2 19 rfl rfl)
theorem dX4_turns_66 : decode cX4_turns 66 = .ok (.idiv, 1) := dk_108 (dk_at dksX4_turns_2 20 rfl rfl)
theorem dX4_turns_67 : decode cX4_turns 67 = .ok (.iload 7, 2) := dk_21 7 (dk_at dksX4_turns_2 21 rfl rfl)
theorem dX4_turns_69 : decode cX4_turns 69 = .ok (.iload_n 2, 1) := dk_28 (dk_at dksX4_turns_2 23 rfl rfl)
theorem dX4_turns_70 : decode cX4_turns 70 = .ok (.invokestatic 155, 3) := dk_184 0 155 (dk_at dksX4_turns_3 0 rfl rfl)
theorem dX4_turns_73 : decode cX4_turns 73 = .ok (.iastore, 1) := dk_79 (dk_at dksX4_turns_3 3 rfl rfl)
theorem dX4_turns_74 : decode cX4_turns 74 = .ok (.aload_n 0, 1) := dk_42 (dk_at dksX4_turns_3 4 rfl rfl)
theorem dX4_turns_75 : decode cX4_turns 75 = .ok (.getfield 82, 3) := dk_180 0 82 (dk_at dksX4_turns_3 5 rfl rfl)
theorem dX4_turns_78 : decode cX4_turns 78 = .ok (.aload_n 0, 1) := dk_42 (dk_at dksX4_turns_3 8 rfl rfl)
theorem dX4_turns_79 : decode cX4_turns 79 = .ok (.getfield 152, 3) := dk_180 0 152 (dk_at dksX4_turns_3 9 rfl rfl)
theorem dX4_turns_82 : decode cX4_turns 82 = .ok (.iload 6, 2) := dk_21 6 (dk_at dksX4_turns_3 12 rfl rfl)
theorem dX4_turns_84 : decode cX4_turns 84 = .ok (.iconst 5, 1) := dk_8 (dk_at dksX4_turns_3 14 rfl rfl)
theorem dX4_turns_85 : decode cX4_turns 85 = .ok (.idiv, 1) := dk_108 (dk_at dksX4_turns_3 15 rfl rfl)
theorem dX4_turns_86 : decode cX4_turns 86 = .ok (.iload 7, 2) := dk_21 7 (dk_at dksX4_turns_3 16 rfl rfl)
theorem dX4_turns_88 : decode cX4_turns 88 = .ok (.iload_n 2, 1) := dk_28 (dk_at dksX4_turns_3 18 rfl rfl)
theorem dX4_turns_89 : decode cX4_turns 89 = .ok (.invokestatic 159, 3) := dk_184 0 159 (dk_at dksX4_turns_3 19 rfl rfl)
theorem dX4_turns_92 : decode cX4_turns 92 = .ok (.iastore, 1) := dk_79 (dk_at dksX4_turns_3 22 rfl rfl)
theorem dX4_turns_93 : decode cX4_turns 93 = .ok (.aload_n 0, 1) := dk_42 (dk_at dksX4_turns_3 23 rfl rfl)
theorem dX4_turns_94 : decode cX4_turns 94 = .ok (.getfield 79, 3) := dk_180 0 79 (dk_at dksX4_turns_4 0 rfl rfl)
theorem dX4_turns_97 : decode cX4_turns 97 = .ok (.aload_n 0, 1) := dk_42 (dk_at dksX4_turns_4 3 rfl rfl)
theorem dX4_turns_98 : decode cX4_turns 98 = .ok (.getfield 152, 3) := dk_180 0 152 (dk_at dksX4_turns_4 4 rfl rfl)
theorem dX4_turns_101 : decode cX4_turns 101 = .ok (.iaload, 1) := dk_46 (dk_at dksX4_turns_4 7 rfl rfl)
theorem dX4_turns_102 : decode cX4_turns 102 = .ok (.iload 4, 2) := dk_21 4 (dk_at dksX4_turns_4 8 rfl rfl)
theorem dX4_turns_104 : decode cX4_turns 104 = .ok (.if_icmp .ge 15, 3) := dk_162 0 15 (dk_at dksX4_turns_4 10 rfl rfl)
theorem dX4_turns_107 : decode cX4_turns 107 = .ok (.aload_n 0, 1) := dk_42 (dk_at dksX4_turns_4 13 rfl rfl)
theorem dX4_turns_108 : decode cX4_turns 108 = .ok (.getfield 79, 3) := dk_180 0 79 (dk_at dksX4_turns_4 14 rfl rfl)
theorem dX4_turns_111 : decode cX4_turns 111 = .ok (.aload_n 0, 1) := dk_42 (dk_at dksX4_turns_4 17 rfl rfl)
theorem dX4_turns_112 : decode cX4_turns 112 = .ok (.getfield 152, 3) := dk_180 0 152 (dk_at dksX4_turns_4 18 rfl rfl)
theorem dX4_turns_115 : decode cX4_turns 115 = .ok (.iaload, 1) := dk_46 (dk_at dksX4_turns_4 21 rfl rfl)
theorem dX4_turns_116 : decode cX4_turns 116 = .ok (.goto 5, 3) := dk_167 0 5 (dk_at dksX4_turns_5 0 rfl rfl)
theorem dX4_turns_119 : decode cX4_turns 119 = .ok (.iload 4, 2) := dk_21 4 (dk_at dksX4_turns_5 3 rfl rfl)
theorem dX4_turns_121 : decode cX4_turns 121 = .ok (.istore 4, 2) := dk_54 4 (dk_at dksX4_turns_5 5 rfl rfl)
theorem dX4_turns_123 : decode cX4_turns 123 = .ok (.aload_n 0, 1) := dk_42 (dk_at dksX4_turns_5 7 rfl rfl)
theorem dX4_turns_124 : decode cX4_turns 124 = .ok (.getfield 82, 3) := dk_180 0 82 (dk_at dksX4_turns_5 8 rfl rfl)
theorem dX4_turns_127 : decode cX4_turns 127 = .ok (.aload_n 0, 1) := dk_42 (dk_at dksX4_turns_5 11 rfl rfl)
theorem dX4_turns_128 : decode cX4_turns 128 = .ok (.getfield 152, 3) := dk_180 0 152 (dk_at dksX4_turns_5 12 rfl rfl)
theorem dX4_turns_131 : decode cX4_turns 131 = .ok (.iaload, 1) := dk_46 (dk_at dksX4_turns_5 15 rfl rfl)
theorem dX4_turns_132 : decode cX4_turns 132 = .ok (.iload 5, 2) := dk_21 5 (dk_at dksX4_turns_5 16 rfl rfl)
theorem dX4_turns_134 : decode cX4_turns 134 = .ok (.if_icmp .ge 15, 3) := dk_162 0 15 (dk_at dksX4_turns_5 18 rfl rfl)
theorem dX4_turns_137 : decode cX4_turns 137 = .ok (.aload_n 0, 1) := dk_42 (dk_at dksX4_turns_5 21 rfl rfl)
theorem dX4_turns_138 : decode cX4_turns 138 = .ok (.getfield 82, 3) := dk_180 0 82 (dk_at dksX4_turns_6 0 rfl rfl)
theorem dX4_turns_141 : decode cX4_turns 141 = .ok (.aload_n 0, 1) := dk_42 (dk_at dksX4_turns_6 3 rfl rfl)
theorem dX4_turns_142 : decode cX4_turns 142 = .ok (.getfield 152, 3) := dk_180 0 152 (dk_at dksX4_turns_6 4 rfl rfl)
theorem dX4_turns_145 : decode cX4_turns 145 = .ok (.iaload, 1) := dk_46 (dk_at dksX4_turns_6 7 rfl rfl)
theorem dX4_turns_146 : decode cX4_turns 146 = .ok (.goto 5, 3) := dk_167 0 5 (dk_at dksX4_turns_6 8 rfl rfl)
theorem dX4_turns_149 : decode cX4_turns 149 = .ok (.iload 5, 2) := dk_21 5 (dk_at dksX4_turns_6 11 rfl rfl)
theorem dX4_turns_151 : decode cX4_turns 151 = .ok (.istore 5, 2) := dk_54 5 (dk_at dksX4_turns_6 13 rfl rfl)
theorem dX4_turns_153 : decode cX4_turns 153 = .ok (.aload_n 0, 1) := dk_42 (dk_at dksX4_turns_6 15 rfl rfl)
theorem dX4_turns_154 : decode cX4_turns 154 = .ok (.dup, 1) := dk_89 (dk_at dksX4_turns_6 16 rfl rfl)
theorem dX4_turns_155 : decode cX4_turns 155 = .ok (.getfield 152, 3) := dk_180 0 152 (dk_at dksX4_turns_6 17 rfl rfl)
theorem dX4_turns_158 : decode cX4_turns 158 = .ok (.iconst 1, 1) := dk_4 (dk_at dksX4_turns_6 20 rfl rfl)
theorem dX4_turns_159 : decode cX4_turns 159 = .ok (.iadd, 1) := dk_96 (dk_at dksX4_turns_6 21 rfl rfl)
theorem dX4_turns_160 : decode cX4_turns 160 = .ok (.putfield 152, 3) := dk_181 0 152 (dk_at dksX4_turns_7 0 rfl rfl)
theorem dX4_turns_163 : decode cX4_turns 163 = .ok (.iinc 6 1, 3) := dk_132 6 1 (dk_at dksX4_turns_7 3 rfl rfl)
theorem dX4_turns_166 : decode cX4_turns 166 = .ok (.goto (-152), 3) := dk_167 255 104 (dk_at dksX4_turns_7 6 rfl rfl)
theorem dX4_turns_169 : decode cX4_turns 169 = .ok (.iconst 0, 1) := dk_3 (dk_at dksX4_turns_7 9 rfl rfl)
theorem dX4_turns_170 : decode cX4_turns 170 = .ok (.istore 6, 2) := dk_54 6 (dk_at dksX4_turns_7 10 rfl rfl)
theorem dX4_turns_172 : decode cX4_turns 172 = .ok (.iload 6, 2) := dk_21 6 (dk_at dksX4_turns_7 12 rfl rfl)
theorem dX4_turns_174 : decode cX4_turns 174 = .ok (.aload_n 0, 1) := dk_42 (dk_at dksX4_turns_7 14 rfl rfl)
theorem dX4_turns_175 : decode cX4_turns 175 = .ok (.getfield 152, 3) := dk_180 0 152 (dk_at dksX4_turns_7 15 rfl rfl)
theorem dX4_turns_178 : decode cX4_turns 178 = .ok (.if_icmp .ge 33, 3) := dk_162 0 33 (dk_at dksX4_turns_7 18 rfl rfl)
theorem dX4_turns_181 : decode cX4_turns 181 = .ok (.aload_n 0, 1) := dk_42 (dk_at dksX4_turns_7 21 rfl rfl)
theorem dX4_turns_182 : decode cX4_turns 182 = .ok (.getfield 79, 3) := dk_180 0 79 (dk_at dksX4_turns_8 0 rfl rfl)
theorem dX4_turns_185 : decode cX4_turns 185 = .ok (.iload 6, 2) := dk_21 6 (dk_at dksX4_turns_8 3 rfl rfl)
theorem dX4_turns_187 : decode cX4_turns 187 = .ok (.dup2, 1) := dk_92 (dk_at dksX4_turns_8 5 rfl rfl)
theorem dX4_turns_188 : decode cX4_turns 188 = .ok (.iaload, 1) := dk_46 (dk_at dksX4_turns_8 6 rfl rfl)
theorem dX4_turns_189 : decode cX4_turns 189 = .ok (.iload 4, 2) := dk_21 4 (dk_at dksX4_turns_8 7 rfl rfl)
theorem dX4_turns_191 : decode cX4_turns 191 = .ok (.isub, 1) := dk_100 (dk_at dksX4_turns_8 9 rfl rfl)
theorem dX4_turns_192 : decode cX4_turns 192 = .ok (.iastore, 1) := dk_79 (dk_at dksX4_turns_8 10 rfl rfl)
theorem dX4_turns_193 : decode cX4_turns 193 = .ok (.aload_n 0, 1) := dk_42 (dk_at dksX4_turns_8 11 rfl rfl)
theorem dX4_turns_194 : decode cX4_turns 194 = .ok (.getfield 82, 3) := dk_180 0 82 (dk_at dksX4_turns_8 12 rfl rfl)
theorem dX4_turns_197 : decode cX4_turns 197 = .ok (.iload 6, 2) := dk_21 6 (dk_at dksX4_turns_8 15 rfl rfl)
theorem dX4_turns_199 : decode cX4_turns 199 = .ok (.dup2, 1) := dk_92 (dk_at dksX4_turns_8 17 rfl rfl)
theorem dX4_turns_200 : decode cX4_turns 200 = .ok (.iaload, 1) := dk_46 (dk_at dksX4_turns_8 18 rfl rfl)
theorem dX4_turns_201 : decode cX4_turns 201 = .ok (.iload 5, 2) := dk_21 5 (dk_at dksX4_turns_8 19 rfl rfl)
theorem dX4_turns_203 : decode cX4_turns 203 = .ok (.isub, 1) := dk_100 (dk_at dksX4_turns_8 21 rfl rfl)
theorem dX4_turns_204 : decode cX4_turns 204 = .ok (.iastore, 1) := dk_79 (dk_at dksX4_turns_8 22 rfl rfl)
theorem dX4_turns_205 : decode cX4_turns 205 = .ok (.iinc 6 1, 3) := dk_132 6 1 (dk_at dksX4_turns_9 0 rfl rfl)
theorem dX4_turns_208 : decode cX4_turns 208 = .ok (.goto (-36), 3) := dk_167 255 220 (dk_at dksX4_turns_9 3 rfl rfl)
theorem dX4_turns_211 : decode cX4_turns 211 = .ok (.aload_n 0, 1) := dk_42 (dk_at dksX4_turns_9 6 rfl rfl)
theorem dX4_turns_212 : decode cX4_turns 212 = .ok (.aload_n 0, 1) := dk_42 (dk_at dksX4_turns_9 7 rfl rfl)
theorem dX4_turns_213 : decode cX4_turns 213 = .ok (.getfield 34, 3) := dk_180 0 34 (dk_at dksX4_turns_9 8 rfl rfl)
theorem dX4_turns_216 : decode cX4_turns 216 = .ok (.iload_n 1, 1) := dk_27 (dk_at dksX4_turns_9 11 rfl rfl)
theorem dX4_turns_217 : decode cX4_turns 217 = .ok (.iaload, 1) := dk_46 (dk_at dksX4_turns_9 12 rfl rfl)
theorem dX4_turns_218 : decode cX4_turns 218 = .ok (.iload_n 3, 1) := dk_29 (dk_at dksX4_turns_9 13 rfl rfl)
theorem dX4_turns_219 : decode cX4_turns 219 = .ok (.ifCond .eq 14, 3) := dk_153 0 14 (dk_at dksX4_turns_9 14 rfl rfl)
theorem dX4_turns_222 : decode cX4_turns 222 = .ok (.iconst 4, 1) := dk_7 (dk_at dksX4_turns_9 17 rfl rfl)
theorem dX4_turns_223 : decode cX4_turns 223 = .ok (.aload_n 0, 1) := dk_42 (dk_at dksX4_turns_9 18 rfl rfl)
theorem dX4_turns_224 : decode cX4_turns 224 = .ok (.getfield 37, 3) := dk_180 0 37 (dk_at dksX4_turns_9 19 rfl rfl)
theorem dX4_turns_227 : decode cX4_turns 227 = .ok (.iload_n 1, 1) := dk_27 (dk_at dksX4_turns_9 22 rfl rfl)
theorem dX4_turns_228 : decode cX4_turns 228 = .ok (.iaload, 1) := dk_46 (dk_at dksX4_turns_9 23 rfl rfl)
theorem dX4_turns_229 : decode cX4_turns 229 = .ok (.isub, 1) := dk_100 (dk_at dksX4_turns_10 0 rfl rfl)
theorem dX4_turns_230 : decode cX4_turns 230 = .ok (.goto 9, 3) := dk_167 0 9 (dk_at dksX4_turns_10 1 rfl rfl)
theorem dX4_turns_233 : decode cX4_turns 233 = .ok (.aload_n 0, 1) := dk_42 (dk_at dksX4_turns_10 4 rfl rfl)
theorem dX4_turns_234 : decode cX4_turns 234 = .ok (.getfield 37, 3) := dk_180 0 37 (dk_at dksX4_turns_10 5 rfl rfl)
theorem dX4_turns_237 : decode cX4_turns 237 = .ok (.iload_n 1, 1) := dk_27 (dk_at dksX4_turns_10 8 rfl rfl)
theorem dX4_turns_238 : decode cX4_turns 238 = .ok (.iaload, 1) := dk_46 (dk_at dksX4_turns_10 9 rfl rfl)
theorem dX4_turns_239 : decode cX4_turns 239 = .ok (.iload_n 2, 1) := dk_28 (dk_at dksX4_turns_10 10 rfl rfl)
theorem dX4_turns_240 : decode cX4_turns 240 = .ok (.invokestatic 155, 3) := dk_184 0 155 (dk_at dksX4_turns_10 11 rfl rfl)
theorem dX4_turns_243 : decode cX4_turns 243 = .ok (.iload 4, 2) := dk_21 4 (dk_at dksX4_turns_10 14 rfl rfl)
theorem dX4_turns_245 : decode cX4_turns 245 = .ok (.isub, 1) := dk_100 (dk_at dksX4_turns_10 16 rfl rfl)
theorem dX4_turns_246 : decode cX4_turns 246 = .ok (.putfield 162, 3) := dk_181 0 162 (dk_at dksX4_turns_10 17 rfl rfl)
theorem dX4_turns_249 : decode cX4_turns 249 = .ok (.return_, 1) := dk_177 (dk_at dksX4_turns_10 20 rfl rfl)
abbrev cX4_turnedRow : ByteArray := prog_18_method_19_code
def yX4_turnedRow : MethodName := ⟨RX4, "turnedRow", "(III)I"⟩
def dkwX4_turnedRow_1 : List UInt8 := [100, 167, 0, 6, 7, 27, 100, 172]
abbrev dktX4_turnedRow_1 : List UInt8 := dkwX4_turnedRow_1 ++ []
def dkwX4_turnedRow_0 : List UInt8 := [28, 154, 0, 7, 26, 167, 0, 26, 28, 4, 160, 0, 7, 27, 167, 0, 17, 28, 5, 160, 0, 9, 7, 26]
abbrev dktX4_turnedRow_0 : List UInt8 := dkwX4_turnedRow_0 ++ dktX4_turnedRow_1
theorem dksX4_turnedRow_0 : cX4_turnedRow.data.toList.drop 0 = dktX4_turnedRow_0 := by decide +kernel
theorem dksX4_turnedRow_1 : cX4_turnedRow.data.toList.drop 24 = dktX4_turnedRow_1 := dk_seg dksX4_turnedRow_0 24 rfl rfl
theorem dX4_turnedRow_0 : decode cX4_turnedRow 0 = .ok (.iload_n 2, 1) := dk_28 (dk_at dksX4_turnedRow_0 0 rfl rfl)
theorem dX4_turnedRow_1 : decode cX4_turnedRow 1 = .ok (.ifCond .ne 7, 3) := dk_154 0 7 (dk_at dksX4_turnedRow_0 1 rfl rfl)
theorem dX4_turnedRow_4 : decode cX4_turnedRow 4 = .ok (.iload_n 0, 1) := dk_26 (dk_at dksX4_turnedRow_0 4 rfl rfl)
theorem dX4_turnedRow_5 : decode cX4_turnedRow 5 = .ok (.goto 26, 3) := dk_167 0 26 (dk_at dksX4_turnedRow_0 5 rfl rfl)
theorem dX4_turnedRow_8 : decode cX4_turnedRow 8 = .ok (.iload_n 2, 1) := dk_28 (dk_at dksX4_turnedRow_0 8 rfl rfl)
theorem dX4_turnedRow_9 : decode cX4_turnedRow 9 = .ok (.iconst 1, 1) := dk_4 (dk_at dksX4_turnedRow_0 9 rfl rfl)
theorem dX4_turnedRow_10 : decode cX4_turnedRow 10 = .ok (.if_icmp .ne 7, 3) := dk_160 0 7 (dk_at dksX4_turnedRow_0 10 rfl rfl)
theorem dX4_turnedRow_13 : decode cX4_turnedRow 13 = .ok (.iload_n 1, 1) := dk_27 (dk_at dksX4_turnedRow_0 13 rfl rfl)
theorem dX4_turnedRow_14 : decode cX4_turnedRow 14 = .ok (.goto 17, 3) := dk_167 0 17 (dk_at dksX4_turnedRow_0 14 rfl rfl)
theorem dX4_turnedRow_17 : decode cX4_turnedRow 17 = .ok (.iload_n 2, 1) := dk_28 (dk_at dksX4_turnedRow_0 17 rfl rfl)
theorem dX4_turnedRow_18 : decode cX4_turnedRow 18 = .ok (.iconst 2, 1) := dk_5 (dk_at dksX4_turnedRow_0 18 rfl rfl)
theorem dX4_turnedRow_19 : decode cX4_turnedRow 19 = .ok (.if_icmp .ne 9, 3) := dk_160 0 9 (dk_at dksX4_turnedRow_0 19 rfl rfl)
theorem dX4_turnedRow_22 : decode cX4_turnedRow 22 = .ok (.iconst 4, 1) := dk_7 (dk_at dksX4_turnedRow_0 22 rfl rfl)
theorem dX4_turnedRow_23 : decode cX4_turnedRow 23 = .ok (.iload_n 0, 1) := dk_26 (dk_at dksX4_turnedRow_0 23 rfl rfl)
theorem dX4_turnedRow_24 : decode cX4_turnedRow 24 = .ok (.isub, 1) := dk_100 (dk_at dksX4_turnedRow_1 0 rfl rfl)
theorem dX4_turnedRow_25 : decode cX4_turnedRow 25 = .ok (.goto 6, 3) := dk_167 0 6 (dk_at dksX4_turnedRow_1 1 rfl rfl)
theorem dX4_turnedRow_28 : decode cX4_turnedRow 28 = .ok (.iconst 4, 1) := dk_7 (dk_at dksX4_turnedRow_1 4 rfl rfl)
theorem dX4_turnedRow_29 : decode cX4_turnedRow 29 = .ok (.iload_n 1, 1) := dk_27 (dk_at dksX4_turnedRow_1 5 rfl rfl)
theorem dX4_turnedRow_30 : decode cX4_turnedRow 30 = .ok (.isub, 1) := dk_100 (dk_at dksX4_turnedRow_1 6 rfl rfl)
theorem dX4_turnedRow_31 : decode cX4_turnedRow 31 = .ok (.ireturn, 1) := dk_172 (dk_at dksX4_turnedRow_1 7 rfl rfl)
abbrev cX4_turnedColumn : ByteArray := prog_18_method_20_code
def yX4_turnedColumn : MethodName := ⟨RX4, "turnedColumn", "(III)I"⟩
def dkwX4_turnedColumn_1 : List UInt8 := [7, 27, 100, 167, 0, 4, 26, 172]
abbrev dktX4_turnedColumn_1 : List UInt8 := dkwX4_turnedColumn_1 ++ []
def dkwX4_turnedColumn_0 : List UInt8 := [28, 154, 0, 7, 27, 167, 0, 26, 28, 4, 160, 0, 9, 7, 26, 100, 167, 0, 15, 28, 5, 160, 0, 9]
abbrev dktX4_turnedColumn_0 : List UInt8 := dkwX4_turnedColumn_0 ++ dktX4_turnedColumn_1
theorem dksX4_turnedColumn_0 : cX4_turnedColumn.data.toList.drop 0 = dktX4_turnedColumn_0 := by decide +kernel
theorem dksX4_turnedColumn_1 : cX4_turnedColumn.data.toList.drop 24 = dktX4_turnedColumn_1 := dk_seg dksX4_turnedColumn_0 24 rfl rfl
theorem dX4_turnedColumn_0 : decode cX4_turnedColumn 0 = .ok (.iload_n 2, 1) := dk_28 (dk_at dksX4_turnedColumn_0 0 rfl rfl)
theorem dX4_turnedColumn_1 : decode cX4_turnedColumn 1 = .ok (.ifCond .ne 7, 3) := dk_154 0 7 (dk_at dksX4_turnedColumn_0 1 rfl rfl)
theorem dX4_turnedColumn_4 : decode cX4_turnedColumn 4 = .ok (.iload_n 1, 1) := dk_27 (dk_at dksX4_turnedColumn_0 4 rfl rfl)
theorem dX4_turnedColumn_5 : decode cX4_turnedColumn 5 = .ok (.goto 26, 3) := dk_167 0 26 (dk_at dksX4_turnedColumn_0 5 rfl rfl)
theorem dX4_turnedColumn_8 : decode cX4_turnedColumn 8 = .ok (.iload_n 2, 1) := dk_28 (dk_at dksX4_turnedColumn_0 8 rfl rfl)
theorem dX4_turnedColumn_9 : decode cX4_turnedColumn 9 = .ok (.iconst 1, 1) := dk_4 (dk_at dksX4_turnedColumn_0 9 rfl rfl)
theorem dX4_turnedColumn_10 : decode cX4_turnedColumn 10 = .ok (.if_icmp .ne 9, 3) := dk_160 0 9 (dk_at dksX4_turnedColumn_0 10 rfl rfl)
theorem dX4_turnedColumn_13 : decode cX4_turnedColumn 13 = .ok (.iconst 4, 1) := dk_7 (dk_at dksX4_turnedColumn_0 13 rfl rfl)
theorem dX4_turnedColumn_14 : decode cX4_turnedColumn 14 = .ok (.iload_n 0, 1) := dk_26 (dk_at dksX4_turnedColumn_0 14 rfl rfl)
theorem dX4_turnedColumn_15 : decode cX4_turnedColumn 15 = .ok (.isub, 1) := dk_100 (dk_at dksX4_turnedColumn_0 15 rfl rfl)
theorem dX4_turnedColumn_16 : decode cX4_turnedColumn 16 = .ok (.goto 15, 3) := dk_167 0 15 (dk_at dksX4_turnedColumn_0 16 rfl rfl)
theorem dX4_turnedColumn_19 : decode cX4_turnedColumn 19 = .ok (.iload_n 2, 1) := dk_28 (dk_at dksX4_turnedColumn_0 19 rfl rfl)
theorem dX4_turnedColumn_20 : decode cX4_turnedColumn 20 = .ok (.iconst 2, 1) := dk_5 (dk_at dksX4_turnedColumn_0 20 rfl rfl)
theorem dX4_turnedColumn_21 : decode cX4_turnedColumn 21 = .ok (.if_icmp .ne 9, 3) := dk_160 0 9 (dk_at dksX4_turnedColumn_0 21 rfl rfl)
theorem dX4_turnedColumn_24 : decode cX4_turnedColumn 24 = .ok (.iconst 4, 1) := dk_7 (dk_at dksX4_turnedColumn_1 0 rfl rfl)
theorem dX4_turnedColumn_25 : decode cX4_turnedColumn 25 = .ok (.iload_n 1, 1) := dk_27 (dk_at dksX4_turnedColumn_1 1 rfl rfl)
theorem dX4_turnedColumn_26 : decode cX4_turnedColumn 26 = .ok (.isub, 1) := dk_100 (dk_at dksX4_turnedColumn_1 2 rfl rfl)
theorem dX4_turnedColumn_27 : decode cX4_turnedColumn 27 = .ok (.goto 4, 3) := dk_167 0 4 (dk_at dksX4_turnedColumn_1 3 rfl rfl)
theorem dX4_turnedColumn_30 : decode cX4_turnedColumn 30 = .ok (.iload_n 0, 1) := dk_26 (dk_at dksX4_turnedColumn_1 6 rfl rfl)
theorem dX4_turnedColumn_31 : decode cX4_turnedColumn 31 = .ok (.ireturn, 1) := dk_172 (dk_at dksX4_turnedColumn_1 7 rfl rfl)
abbrev cX4_worst : ByteArray := prog_18_method_25_code
def yX4_worst : MethodName := ⟨RX4, "worst", "(II)I"⟩
def dkwX4_worst_5 : List UInt8 := [3, 54, 7, 21, 7, 29, 164, 0, 8, 21, 7, 167, 0, 4, 29, 62, 132, 4, 1, 167, 255, 150, 29, 172]
abbrev dktX4_worst_5 : List UInt8 := dkwX4_worst_5 ++ []
def dkwX4_worst_4 : List UInt8 := [167, 0, 25, 42, 180, 0, 64, 16, 12, 21, 5, 104, 21, 6, 96, 46, 2, 159, 0, 7, 4, 167, 0, 4]
abbrev dktX4_worst_4 : List UInt8 := dkwX4_worst_4 ++ dktX4_worst_5
def dkwX4_worst_3 : List UInt8 := [182, 0, 165, 161, 0, 7, 6, 167, 0, 40, 42, 21, 5, 21, 6, 182, 0, 169, 153, 0, 7, 5]
abbrev dktX4_worst_3 : List UInt8 := dkwX4_worst_3 ++ dktX4_worst_4
def dkwX4_worst_2 : List UInt8 := [96, 54, 5, 28, 42, 180, 0, 82, 21, 4, 46, 96, 54, 6, 21, 5, 16, 60, 162, 0, 12, 21, 6, 42]
abbrev dktX4_worst_2 : List UInt8 := dkwX4_worst_2 ++ dktX4_worst_3
def dkwX4_worst_1 : List UInt8 := [6, 172, 3, 62, 3, 54, 4, 21, 4, 42, 180, 0, 152, 162, 0, 103, 27, 42, 180, 0, 79, 21, 4, 46]
abbrev dktX4_worst_1 : List UInt8 := dkwX4_worst_1 ++ dktX4_worst_2
def dkwX4_worst_0 : List UInt8 := [27, 3, 16, 59, 184, 0, 122, 153, 0, 17, 28, 3, 42, 182, 0, 165, 4, 100, 184, 0, 122, 154, 0, 5]
abbrev dktX4_worst_0 : List UInt8 := dkwX4_worst_0 ++ dktX4_worst_1
theorem dksX4_worst_0 : cX4_worst.data.toList.drop 0 = dktX4_worst_0 := by decide +kernel
theorem dksX4_worst_1 : cX4_worst.data.toList.drop 24 = dktX4_worst_1 := dk_seg dksX4_worst_0 24 rfl rfl
theorem dksX4_worst_2 : cX4_worst.data.toList.drop 48 = dktX4_worst_2 := dk_seg dksX4_worst_1 24 rfl rfl
theorem dksX4_worst_3 : cX4_worst.data.toList.drop 72 = dktX4_worst_3 := dk_seg dksX4_worst_2 24 rfl rfl
theorem dksX4_worst_4 : cX4_worst.data.toList.drop 94 = dktX4_worst_4 := dk_seg dksX4_worst_3 22 rfl rfl
theorem dksX4_worst_5 : cX4_worst.data.toList.drop 118 = dktX4_worst_5 := dk_seg dksX4_worst_4 24 rfl rfl
theorem dX4_worst_0 : decode cX4_worst 0 = .ok (.iload_n 1, 1) := dk_27 (dk_at dksX4_worst_0 0 rfl rfl)
theorem dX4_worst_1 : decode cX4_worst 1 = .ok (.iconst 0, 1) := dk_3 (dk_at dksX4_worst_0 1 rfl rfl)
theorem dX4_worst_2 : decode cX4_worst 2 = .ok (.bipush 59, 2) := dk_16 59 (dk_at dksX4_worst_0 2 rfl rfl)
theorem dX4_worst_4 : decode cX4_worst 4 = .ok (.invokestatic 122, 3) := dk_184 0 122 (dk_at dksX4_worst_0 4 rfl rfl)
theorem dX4_worst_7 : decode cX4_worst 7 = .ok (.ifCond .eq 17, 3) := dk_153 0 17 (dk_at dksX4_worst_0 7 rfl rfl)
theorem dX4_worst_10 : decode cX4_worst 10 = .ok (.iload_n 2, 1) := dk_28 (dk_at dksX4_worst_0 10 rfl rfl)
theorem dX4_worst_11 : decode cX4_worst 11 = .ok (.iconst 0, 1) := dk_3 (dk_at dksX4_worst_0 11 rfl rfl)
theorem dX4_worst_12 : decode cX4_worst 12 = .ok (.aload_n 0, 1) := dk_42 (dk_at dksX4_worst_0 12 rfl rfl)
theorem dX4_worst_13 : decode cX4_worst 13 = .ok (.invokevirtual 165, 3) := dk_182 0 165 (dk_at dksX4_worst_0 13 rfl rfl)
theorem dX4_worst_16 : decode cX4_worst 16 = .ok (.iconst 1, 1) := dk_4 (dk_at dksX4_worst_0 16 rfl rfl)
theorem dX4_worst_17 : decode cX4_worst 17 = .ok (.isub, 1) := dk_100 (dk_at dksX4_worst_0 17 rfl rfl)
theorem dX4_worst_18 : decode cX4_worst 18 = .ok (.invokestatic 122, 3) := dk_184 0 122 (dk_at dksX4_worst_0 18 rfl rfl)
theorem dX4_worst_21 : decode cX4_worst 21 = .ok (.ifCond .ne 5, 3) := dk_154 0 5 (dk_at dksX4_worst_0 21 rfl rfl)
theorem dX4_worst_24 : decode cX4_worst 24 = .ok (.iconst 3, 1) := dk_6 (dk_at dksX4_worst_1 0 rfl rfl)
theorem dX4_worst_25 : decode cX4_worst 25 = .ok (.ireturn, 1) := dk_172 (dk_at dksX4_worst_1 1 rfl rfl)
theorem dX4_worst_26 : decode cX4_worst 26 = .ok (.iconst 0, 1) := dk_3 (dk_at dksX4_worst_1 2 rfl rfl)
theorem dX4_worst_27 : decode cX4_worst 27 = .ok (.istore_n 3, 1) := dk_62 (dk_at dksX4_worst_1 3 rfl rfl)
theorem dX4_worst_28 : decode cX4_worst 28 = .ok (.iconst 0, 1) := dk_3 (dk_at dksX4_worst_1 4 rfl rfl)
theorem dX4_worst_29 : decode cX4_worst 29 = .ok (.istore 4, 2) := dk_54 4 (dk_at dksX4_worst_1 5 rfl rfl)
theorem dX4_worst_31 : decode cX4_worst 31 = .ok (.iload 4, 2) := dk_21 4 (dk_at dksX4_worst_1 7 rfl rfl)
theorem dX4_worst_33 : decode cX4_worst 33 = .ok (.aload_n 0, 1) := dk_42 (dk_at dksX4_worst_1 9 rfl rfl)
theorem dX4_worst_34 : decode cX4_worst 34 = .ok (.getfield 152, 3) := dk_180 0 152 (dk_at dksX4_worst_1 10 rfl rfl)
theorem dX4_worst_37 : decode cX4_worst 37 = .ok (.if_icmp .ge 103, 3) := dk_162 0 103 (dk_at dksX4_worst_1 13 rfl rfl)
theorem dX4_worst_40 : decode cX4_worst 40 = .ok (.iload_n 1, 1) := dk_27 (dk_at dksX4_worst_1 16 rfl rfl)
theorem dX4_worst_41 : decode cX4_worst 41 = .ok (.aload_n 0, 1) := dk_42 (dk_at dksX4_worst_1 17 rfl rfl)
theorem dX4_worst_42 : decode cX4_worst 42 = .ok (.getfield 79, 3) := dk_180 0 79 (dk_at dksX4_worst_1 18 rfl rfl)
theorem dX4_worst_45 : decode cX4_worst 45 = .ok (.iload 4, 2) := dk_21 4 (dk_at dksX4_worst_1 21 rfl rfl)
theorem dX4_worst_47 : decode cX4_worst 47 = .ok (.iaload, 1) := dk_46 (dk_at dksX4_worst_1 23 rfl rfl)
theorem dX4_worst_48 : decode cX4_worst 48 = .ok (.iadd, 1) := dk_96 (dk_at dksX4_worst_2 0 rfl rfl)
theorem dX4_worst_49 : decode cX4_worst 49 = .ok (.istore 5, 2) := dk_54 5 (dk_at dksX4_worst_2 1 rfl rfl)
theorem dX4_worst_51 : decode cX4_worst 51 = .ok (.iload_n 2, 1) := dk_28 (dk_at dksX4_worst_2 3 rfl rfl)
theorem dX4_worst_52 : decode cX4_worst 52 = .ok (.aload_n 0, 1) := dk_42 (dk_at dksX4_worst_2 4 rfl rfl)
theorem dX4_worst_53 : decode cX4_worst 53 = .ok (.getfield 82, 3) := dk_180 0 82 (dk_at dksX4_worst_2 5 rfl rfl)
theorem dX4_worst_56 : decode cX4_worst 56 = .ok (.iload 4, 2) := dk_21 4 (dk_at dksX4_worst_2 8 rfl rfl)
theorem dX4_worst_58 : decode cX4_worst 58 = .ok (.iaload, 1) := dk_46 (dk_at dksX4_worst_2 10 rfl rfl)
theorem dX4_worst_59 : decode cX4_worst 59 = .ok (.iadd, 1) := dk_96 (dk_at dksX4_worst_2 11 rfl rfl)
theorem dX4_worst_60 : decode cX4_worst 60 = .ok (.istore 6, 2) := dk_54 6 (dk_at dksX4_worst_2 12 rfl rfl)
theorem dX4_worst_62 : decode cX4_worst 62 = .ok (.iload 5, 2) := dk_21 5 (dk_at dksX4_worst_2 14 rfl rfl)
theorem dX4_worst_64 : decode cX4_worst 64 = .ok (.bipush 60, 2) := dk_16 60 (dk_at dksX4_worst_2 16 rfl rfl)
theorem dX4_worst_66 : decode cX4_worst 66 = .ok (.if_icmp .ge 12, 3) := dk_162 0 12 (dk_at dksX4_worst_2 18 rfl rfl)
theorem dX4_worst_69 : decode cX4_worst 69 = .ok (.iload 6, 2) := dk_21 6 (dk_at dksX4_worst_2 21 rfl rfl)
theorem dX4_worst_71 : decode cX4_worst 71 = .ok (.aload_n 0, 1) := dk_42 (dk_at dksX4_worst_2 23 rfl rfl)
theorem dX4_worst_72 : decode cX4_worst 72 = .ok (.invokevirtual 165, 3) := dk_182 0 165 (dk_at dksX4_worst_3 0 rfl rfl)
theorem dX4_worst_75 : decode cX4_worst 75 = .ok (.if_icmp .lt 7, 3) := dk_161 0 7 (dk_at dksX4_worst_3 3 rfl rfl)
theorem dX4_worst_78 : decode cX4_worst 78 = .ok (.iconst 3, 1) := dk_6 (dk_at dksX4_worst_3 6 rfl rfl)
theorem dX4_worst_79 : decode cX4_worst 79 = .ok (.goto 40, 3) := dk_167 0 40 (dk_at dksX4_worst_3 7 rfl rfl)
theorem dX4_worst_82 : decode cX4_worst 82 = .ok (.aload_n 0, 1) := dk_42 (dk_at dksX4_worst_3 10 rfl rfl)
theorem dX4_worst_83 : decode cX4_worst 83 = .ok (.iload 5, 2) := dk_21 5 (dk_at dksX4_worst_3 11 rfl rfl)
theorem dX4_worst_85 : decode cX4_worst 85 = .ok (.iload 6, 2) := dk_21 6 (dk_at dksX4_worst_3 13 rfl rfl)
theorem dX4_worst_87 : decode cX4_worst 87 = .ok (.invokevirtual 169, 3) := dk_182 0 169 (dk_at dksX4_worst_3 15 rfl rfl)
theorem dX4_worst_90 : decode cX4_worst 90 = .ok (.ifCond .eq 7, 3) := dk_153 0 7 (dk_at dksX4_worst_3 18 rfl rfl)
theorem dX4_worst_93 : decode cX4_worst 93 = .ok (.iconst 2, 1) := dk_5 (dk_at dksX4_worst_3 21 rfl rfl)
theorem dX4_worst_94 : decode cX4_worst 94 = .ok (.goto 25, 3) := dk_167 0 25 (dk_at dksX4_worst_4 0 rfl rfl)
theorem dX4_worst_97 : decode cX4_worst 97 = .ok (.aload_n 0, 1) := dk_42 (dk_at dksX4_worst_4 3 rfl rfl)
theorem dX4_worst_98 : decode cX4_worst 98 = .ok (.getfield 64, 3) := dk_180 0 64 (dk_at dksX4_worst_4 4 rfl rfl)
theorem dX4_worst_101 : decode cX4_worst 101 = .ok (.bipush 12, 2) := dk_16 12 (dk_at dksX4_worst_4 7 rfl rfl)
theorem dX4_worst_103 : decode cX4_worst 103 = .ok (.iload 5, 2) := dk_21 5 (dk_at dksX4_worst_4 9 rfl rfl)
theorem dX4_worst_105 : decode cX4_worst 105 = .ok (.imul, 1) := dk_104 (dk_at dksX4_worst_4 11 rfl rfl)
theorem dX4_worst_106 : decode cX4_worst 106 = .ok (.iload 6, 2) := dk_21 6 (dk_at dksX4_worst_4 12 rfl rfl)
theorem dX4_worst_108 : decode cX4_worst 108 = .ok (.iadd, 1) := dk_96 (dk_at dksX4_worst_4 14 rfl rfl)
theorem dX4_worst_109 : decode cX4_worst 109 = .ok (.iaload, 1) := dk_46 (dk_at dksX4_worst_4 15 rfl rfl)
theorem dX4_worst_110 : decode cX4_worst 110 = .ok (.iconst (-1), 1) := dk_2 (dk_at dksX4_worst_4 16 rfl rfl)
theorem dX4_worst_111 : decode cX4_worst 111 = .ok (.if_icmp .eq 7, 3) := dk_159 0 7 (dk_at dksX4_worst_4 17 rfl rfl)
theorem dX4_worst_114 : decode cX4_worst 114 = .ok (.iconst 1, 1) := dk_4 (dk_at dksX4_worst_4 20 rfl rfl)
theorem dX4_worst_115 : decode cX4_worst 115 = .ok (.goto 4, 3) := dk_167 0 4 (dk_at dksX4_worst_4 21 rfl rfl)
theorem dX4_worst_118 : decode cX4_worst 118 = .ok (.iconst 0, 1) := dk_3 (dk_at dksX4_worst_5 0 rfl rfl)
theorem dX4_worst_119 : decode cX4_worst 119 = .ok (.istore 7, 2) := dk_54 7 (dk_at dksX4_worst_5 1 rfl rfl)
theorem dX4_worst_121 : decode cX4_worst 121 = .ok (.iload 7, 2) := dk_21 7 (dk_at dksX4_worst_5 3 rfl rfl)
theorem dX4_worst_123 : decode cX4_worst 123 = .ok (.iload_n 3, 1) := dk_29 (dk_at dksX4_worst_5 5 rfl rfl)
theorem dX4_worst_124 : decode cX4_worst 124 = .ok (.if_icmp .le 8, 3) := dk_164 0 8 (dk_at dksX4_worst_5 6 rfl rfl)
theorem dX4_worst_127 : decode cX4_worst 127 = .ok (.iload 7, 2) := dk_21 7 (dk_at dksX4_worst_5 9 rfl rfl)
theorem dX4_worst_129 : decode cX4_worst 129 = .ok (.goto 4, 3) := dk_167 0 4 (dk_at dksX4_worst_5 11 rfl rfl)
theorem dX4_worst_132 : decode cX4_worst 132 = .ok (.iload_n 3, 1) := dk_29 (dk_at dksX4_worst_5 14 rfl rfl)
theorem dX4_worst_133 : decode cX4_worst 133 = .ok (.istore_n 3, 1) := dk_62 (dk_at dksX4_worst_5 15 rfl rfl)
theorem dX4_worst_134 : decode cX4_worst 134 = .ok (.iinc 4 1, 3) := dk_132 4 1 (dk_at dksX4_worst_5 16 rfl rfl)
theorem dX4_worst_137 : decode cX4_worst 137 = .ok (.goto (-106), 3) := dk_167 255 150 (dk_at dksX4_worst_5 19 rfl rfl)
theorem dX4_worst_140 : decode cX4_worst 140 = .ok (.iload_n 3, 1) := dk_29 (dk_at dksX4_worst_5 22 rfl rfl)
theorem dX4_worst_141 : decode cX4_worst 141 = .ok (.ireturn, 1) := dk_172 (dk_at dksX4_worst_5 23 rfl rfl)
abbrev cX4_columns : ByteArray := prog_18_method_6_code
def yX4_columns : MethodName := ⟨RX4, "columns", "()I"⟩
def dkwX4_columns_0 : List UInt8 := [42, 180, 0, 118, 153, 0, 12, 42, 180, 0, 7, 5, 108, 167, 0, 7, 42, 180, 0, 7, 172]
abbrev dktX4_columns_0 : List UInt8 := dkwX4_columns_0 ++ []
theorem dksX4_columns_0 : cX4_columns.data.toList.drop 0 = dktX4_columns_0 := by decide +kernel
theorem dX4_columns_0 : decode cX4_columns 0 = .ok (.aload_n 0, 1) := dk_42 (dk_at dksX4_columns_0 0 rfl rfl)
theorem dX4_columns_1 : decode cX4_columns 1 = .ok (.getfield 118, 3) := dk_180 0 118 (dk_at dksX4_columns_0 1 rfl rfl)
theorem dX4_columns_4 : decode cX4_columns 4 = .ok (.ifCond .eq 12, 3) := dk_153 0 12 (dk_at dksX4_columns_0 4 rfl rfl)
theorem dX4_columns_7 : decode cX4_columns 7 = .ok (.aload_n 0, 1) := dk_42 (dk_at dksX4_columns_0 7 rfl rfl)
theorem dX4_columns_8 : decode cX4_columns 8 = .ok (.getfield 7, 3) := dk_180 0 7 (dk_at dksX4_columns_0 8 rfl rfl)
theorem dX4_columns_11 : decode cX4_columns 11 = .ok (.iconst 2, 1) := dk_5 (dk_at dksX4_columns_0 11 rfl rfl)
theorem dX4_columns_12 : decode cX4_columns 12 = .ok (.idiv, 1) := dk_108 (dk_at dksX4_columns_0 12 rfl rfl)
theorem dX4_columns_13 : decode cX4_columns 13 = .ok (.goto 7, 3) := dk_167 0 7 (dk_at dksX4_columns_0 13 rfl rfl)
theorem dX4_columns_16 : decode cX4_columns 16 = .ok (.aload_n 0, 1) := dk_42 (dk_at dksX4_columns_0 16 rfl rfl)
theorem dX4_columns_17 : decode cX4_columns 17 = .ok (.getfield 7, 3) := dk_180 0 7 (dk_at dksX4_columns_0 17 rfl rfl)
theorem dX4_columns_20 : decode cX4_columns 20 = .ok (.ireturn, 1) := dk_172 (dk_at dksX4_columns_0 20 rfl rfl)
abbrev cX4_isBad : ByteArray := prog_18_method_7_code
def yX4_isBad : MethodName := ⟨RX4, "isBad", "(II)Z"⟩
def dkwX4_isBad_2 : List UInt8 := [3, 172]
abbrev dktX4_isBad_2 : List UInt8 := dkwX4_isBad_2 ++ []
def dkwX4_isBad_1 : List UInt8 := [180, 0, 13, 16, 12, 27, 104, 42, 180, 0, 7, 96, 4, 100, 28, 100, 51, 153, 0, 7, 4, 167, 0, 4]
abbrev dktX4_isBad_1 : List UInt8 := dkwX4_isBad_1 ++ dktX4_isBad_2
def dkwX4_isBad_0 : List UInt8 := [42, 180, 0, 13, 16, 12, 27, 104, 28, 96, 51, 154, 0, 31, 42, 180, 0, 118, 153, 0, 28, 42]
abbrev dktX4_isBad_0 : List UInt8 := dkwX4_isBad_0 ++ dktX4_isBad_1
theorem dksX4_isBad_0 : cX4_isBad.data.toList.drop 0 = dktX4_isBad_0 := by decide +kernel
theorem dksX4_isBad_1 : cX4_isBad.data.toList.drop 22 = dktX4_isBad_1 := dk_seg dksX4_isBad_0 22 rfl rfl
theorem dksX4_isBad_2 : cX4_isBad.data.toList.drop 46 = dktX4_isBad_2 := dk_seg dksX4_isBad_1 24 rfl rfl
theorem dX4_isBad_0 : decode cX4_isBad 0 = .ok (.aload_n 0, 1) := dk_42 (dk_at dksX4_isBad_0 0 rfl rfl)
theorem dX4_isBad_1 : decode cX4_isBad 1 = .ok (.getfield 13, 3) := dk_180 0 13 (dk_at dksX4_isBad_0 1 rfl rfl)
theorem dX4_isBad_4 : decode cX4_isBad 4 = .ok (.bipush 12, 2) := dk_16 12 (dk_at dksX4_isBad_0 4 rfl rfl)
theorem dX4_isBad_6 : decode cX4_isBad 6 = .ok (.iload_n 1, 1) := dk_27 (dk_at dksX4_isBad_0 6 rfl rfl)
theorem dX4_isBad_7 : decode cX4_isBad 7 = .ok (.imul, 1) := dk_104 (dk_at dksX4_isBad_0 7 rfl rfl)
theorem dX4_isBad_8 : decode cX4_isBad 8 = .ok (.iload_n 2, 1) := dk_28 (dk_at dksX4_isBad_0 8 rfl rfl)
theorem dX4_isBad_9 : decode cX4_isBad 9 = .ok (.iadd, 1) := dk_96 (dk_at dksX4_isBad_0 9 rfl rfl)
theorem dX4_isBad_10 : decode cX4_isBad 10 = .ok (.baload, 1) := dk_51 (dk_at dksX4_isBad_0 10 rfl rfl)
theorem dX4_isBad_11 : decode cX4_isBad 11 = .ok (.ifCond .ne 31, 3) := dk_154 0 31 (dk_at dksX4_isBad_0 11 rfl rfl)
theorem dX4_isBad_14 : decode cX4_isBad 14 = .ok (.aload_n 0, 1) := dk_42 (dk_at dksX4_isBad_0 14 rfl rfl)
theorem dX4_isBad_15 : decode cX4_isBad 15 = .ok (.getfield 118, 3) := dk_180 0 118 (dk_at dksX4_isBad_0 15 rfl rfl)
theorem dX4_isBad_18 : decode cX4_isBad 18 = .ok (.ifCond .eq 28, 3) := dk_153 0 28 (dk_at dksX4_isBad_0 18 rfl rfl)
theorem dX4_isBad_21 : decode cX4_isBad 21 = .ok (.aload_n 0, 1) := dk_42 (dk_at dksX4_isBad_0 21 rfl rfl)
theorem dX4_isBad_22 : decode cX4_isBad 22 = .ok (.getfield 13, 3) := dk_180 0 13 (dk_at dksX4_isBad_1 0 rfl rfl)
theorem dX4_isBad_25 : decode cX4_isBad 25 = .ok (.bipush 12, 2) := dk_16 12 (dk_at dksX4_isBad_1 3 rfl rfl)
theorem dX4_isBad_27 : decode cX4_isBad 27 = .ok (.iload_n 1, 1) := dk_27 (dk_at dksX4_isBad_1 5 rfl rfl)
theorem dX4_isBad_28 : decode cX4_isBad 28 = .ok (.imul, 1) := dk_104 (dk_at dksX4_isBad_1 6 rfl rfl)
theorem dX4_isBad_29 : decode cX4_isBad 29 = .ok (.aload_n 0, 1) := dk_42 (dk_at dksX4_isBad_1 7 rfl rfl)
theorem dX4_isBad_30 : decode cX4_isBad 30 = .ok (.getfield 7, 3) := dk_180 0 7 (dk_at dksX4_isBad_1 8 rfl rfl)
theorem dX4_isBad_33 : decode cX4_isBad 33 = .ok (.iadd, 1) := dk_96 (dk_at dksX4_isBad_1 11 rfl rfl)
theorem dX4_isBad_34 : decode cX4_isBad 34 = .ok (.iconst 1, 1) := dk_4 (dk_at dksX4_isBad_1 12 rfl rfl)
theorem dX4_isBad_35 : decode cX4_isBad 35 = .ok (.isub, 1) := dk_100 (dk_at dksX4_isBad_1 13 rfl rfl)
theorem dX4_isBad_36 : decode cX4_isBad 36 = .ok (.iload_n 2, 1) := dk_28 (dk_at dksX4_isBad_1 14 rfl rfl)
theorem dX4_isBad_37 : decode cX4_isBad 37 = .ok (.isub, 1) := dk_100 (dk_at dksX4_isBad_1 15 rfl rfl)
theorem dX4_isBad_38 : decode cX4_isBad 38 = .ok (.baload, 1) := dk_51 (dk_at dksX4_isBad_1 16 rfl rfl)
theorem dX4_isBad_39 : decode cX4_isBad 39 = .ok (.ifCond .eq 7, 3) := dk_153 0 7 (dk_at dksX4_isBad_1 17 rfl rfl)
theorem dX4_isBad_42 : decode cX4_isBad 42 = .ok (.iconst 1, 1) := dk_4 (dk_at dksX4_isBad_1 20 rfl rfl)
theorem dX4_isBad_43 : decode cX4_isBad 43 = .ok (.goto 4, 3) := dk_167 0 4 (dk_at dksX4_isBad_1 21 rfl rfl)
theorem dX4_isBad_46 : decode cX4_isBad 46 = .ok (.iconst 0, 1) := dk_3 (dk_at dksX4_isBad_2 0 rfl rfl)
theorem dX4_isBad_47 : decode cX4_isBad 47 = .ok (.ireturn, 1) := dk_172 (dk_at dksX4_isBad_2 1 rfl rfl)
abbrev cX4_isMarked : ByteArray := prog_18_method_23_code
def yX4_isMarked : MethodName := ⟨RX4, "isMarked", "(I)Z"⟩
def dkwX4_isMarked_0 : List UInt8 := [42, 180, 0, 31, 27, 46, 2, 159, 0, 15, 42, 180, 0, 136, 4, 164, 0, 7, 4, 167, 0, 4, 3, 172]
abbrev dktX4_isMarked_0 : List UInt8 := dkwX4_isMarked_0 ++ []
theorem dksX4_isMarked_0 : cX4_isMarked.data.toList.drop 0 = dktX4_isMarked_0 := by decide +kernel
theorem dX4_isMarked_0 : decode cX4_isMarked 0 = .ok (.aload_n 0, 1) := dk_42 (dk_at dksX4_isMarked_0 0 rfl rfl)
theorem dX4_isMarked_1 : decode cX4_isMarked 1 = .ok (.getfield 31, 3) := dk_180 0 31 (dk_at dksX4_isMarked_0 1 rfl rfl)
theorem dX4_isMarked_4 : decode cX4_isMarked 4 = .ok (.iload_n 1, 1) := dk_27 (dk_at dksX4_isMarked_0 4 rfl rfl)
theorem dX4_isMarked_5 : decode cX4_isMarked 5 = .ok (.iaload, 1) := dk_46 (dk_at dksX4_isMarked_0 5 rfl rfl)
theorem dX4_isMarked_6 : decode cX4_isMarked 6 = .ok (.iconst (-1), 1) := dk_2 (dk_at dksX4_isMarked_0 6 rfl rfl)
theorem dX4_isMarked_7 : decode cX4_isMarked 7 = .ok (.if_icmp .eq 15, 3) := dk_159 0 15 (dk_at dksX4_isMarked_0 7 rfl rfl)
theorem dX4_isMarked_10 : decode cX4_isMarked 10 = .ok (.aload_n 0, 1) := dk_42 (dk_at dksX4_isMarked_0 10 rfl rfl)
theorem dX4_isMarked_11 : decode cX4_isMarked 11 = .ok (.getfield 136, 3) := dk_180 0 136 (dk_at dksX4_isMarked_0 11 rfl rfl)
theorem dX4_isMarked_14 : decode cX4_isMarked 14 = .ok (.iconst 1, 1) := dk_4 (dk_at dksX4_isMarked_0 14 rfl rfl)
theorem dX4_isMarked_15 : decode cX4_isMarked 15 = .ok (.if_icmp .le 7, 3) := dk_164 0 7 (dk_at dksX4_isMarked_0 15 rfl rfl)
theorem dX4_isMarked_18 : decode cX4_isMarked 18 = .ok (.iconst 1, 1) := dk_4 (dk_at dksX4_isMarked_0 18 rfl rfl)
theorem dX4_isMarked_19 : decode cX4_isMarked 19 = .ok (.goto 4, 3) := dk_167 0 4 (dk_at dksX4_isMarked_0 19 rfl rfl)
theorem dX4_isMarked_22 : decode cX4_isMarked 22 = .ok (.iconst 0, 1) := dk_3 (dk_at dksX4_isMarked_0 22 rfl rfl)
theorem dX4_isMarked_23 : decode cX4_isMarked 23 = .ok (.ireturn, 1) := dk_172 (dk_at dksX4_isMarked_0 23 rfl rfl)
abbrev cX4_remainder : ByteArray := prog_18_method_24_code
def yX4_remainder : MethodName := ⟨RX4, "remainder", "(I)I"⟩
def dkwX4_remainder_1 : List UInt8 := [167, 0, 4, 28, 172]
abbrev dktX4_remainder_1 : List UInt8 := dkwX4_remainder_1 ++ []
def dkwX4_remainder_0 : List UInt8 := [27, 42, 180, 0, 162, 96, 42, 180, 0, 136, 112, 61, 28, 156, 0, 12, 28, 42, 180, 0, 136, 96]
abbrev dktX4_remainder_0 : List UInt8 := dkwX4_remainder_0 ++ dktX4_remainder_1
theorem dksX4_remainder_0 : cX4_remainder.data.toList.drop 0 = dktX4_remainder_0 := by decide +kernel
theorem dksX4_remainder_1 : cX4_remainder.data.toList.drop 22 = dktX4_remainder_1 := dk_seg dksX4_remainder_0 22 rfl rfl
theorem dX4_remainder_0 : decode cX4_remainder 0 = .ok (.iload_n 1, 1) := dk_27 (dk_at dksX4_remainder_0 0 rfl rfl)
theorem dX4_remainder_1 : decode cX4_remainder 1 = .ok (.aload_n 0, 1) := dk_42 (dk_at dksX4_remainder_0 1 rfl rfl)
theorem dX4_remainder_2 : decode cX4_remainder 2 = .ok (.getfield 162, 3) := dk_180 0 162 (dk_at dksX4_remainder_0 2 rfl rfl)
theorem dX4_remainder_5 : decode cX4_remainder 5 = .ok (.iadd, 1) := dk_96 (dk_at dksX4_remainder_0 5 rfl rfl)
theorem dX4_remainder_6 : decode cX4_remainder 6 = .ok (.aload_n 0, 1) := dk_42 (dk_at dksX4_remainder_0 6 rfl rfl)
theorem dX4_remainder_7 : decode cX4_remainder 7 = .ok (.getfield 136, 3) := dk_180 0 136 (dk_at dksX4_remainder_0 7 rfl rfl)
theorem dX4_remainder_10 : decode cX4_remainder 10 = .ok (.irem, 1) := dk_112 (dk_at dksX4_remainder_0 10 rfl rfl)
theorem dX4_remainder_11 : decode cX4_remainder 11 = .ok (.istore_n 2, 1) := dk_61 (dk_at dksX4_remainder_0 11 rfl rfl)
theorem dX4_remainder_12 : decode cX4_remainder 12 = .ok (.iload_n 2, 1) := dk_28 (dk_at dksX4_remainder_0 12 rfl rfl)
theorem dX4_remainder_13 : decode cX4_remainder 13 = .ok (.ifCond .ge 12, 3) := dk_156 0 12 (dk_at dksX4_remainder_0 13 rfl rfl)
theorem dX4_remainder_16 : decode cX4_remainder 16 = .ok (.iload_n 2, 1) := dk_28 (dk_at dksX4_remainder_0 16 rfl rfl)
theorem dX4_remainder_17 : decode cX4_remainder 17 = .ok (.aload_n 0, 1) := dk_42 (dk_at dksX4_remainder_0 17 rfl rfl)
theorem dX4_remainder_18 : decode cX4_remainder 18 = .ok (.getfield 136, 3) := dk_180 0 136 (dk_at dksX4_remainder_0 18 rfl rfl)
theorem dX4_remainder_21 : decode cX4_remainder 21 = .ok (.iadd, 1) := dk_96 (dk_at dksX4_remainder_0 21 rfl rfl)
theorem dX4_remainder_22 : decode cX4_remainder 22 = .ok (.goto 4, 3) := dk_167 0 4 (dk_at dksX4_remainder_1 0 rfl rfl)
theorem dX4_remainder_25 : decode cX4_remainder 25 = .ok (.iload_n 2, 1) := dk_28 (dk_at dksX4_remainder_1 3 rfl rfl)
theorem dX4_remainder_26 : decode cX4_remainder 26 = .ok (.ireturn, 1) := dk_172 (dk_at dksX4_remainder_1 4 rfl rfl)
abbrev cX4_puts : ByteArray := prog_18_method_27_code
def yX4_puts : MethodName := ⟨RX4, "puts", "(IIIIZ)I"⟩
def dkwX4_puts_7 : List UInt8 := [89, 180, 0, 115, 4, 96, 181, 0, 115, 42, 180, 0, 115, 4, 100, 172]
abbrev dktX4_puts_7 : List UInt8 := dkwX4_puts_7 ++ []
def dkwX4_puts_6 : List UInt8 := [28, 79, 42, 180, 0, 61, 42, 180, 0, 112, 21, 5, 84, 42, 89, 180, 0, 112, 4, 96, 181, 0, 112, 42]
abbrev dktX4_puts_6 : List UInt8 := dkwX4_puts_6 ++ dktX4_puts_7
def dkwX4_puts_5 : List UInt8 := [180, 0, 112, 29, 79, 42, 180, 0, 55, 42, 180, 0, 112, 21, 4, 79, 42, 180, 0, 58, 42, 180, 0, 112]
abbrev dktX4_puts_5 : List UInt8 := dkwX4_puts_5 ++ dktX4_puts_6
def dkwX4_puts_4 : List UInt8 := [180, 0, 112, 42, 180, 0, 115, 79, 42, 180, 0, 49, 42, 180, 0, 112, 27, 79, 42, 180, 0, 52, 42]
abbrev dktX4_puts_4 : List UInt8 := dkwX4_puts_4 ++ dktX4_puts_5
def dkwX4_puts_3 : List UInt8 := [182, 0, 186, 79, 42, 180, 0, 70, 42, 180, 0, 31, 27, 46, 92, 46, 4, 96, 79, 42, 180, 0, 46, 42]
abbrev dktX4_puts_3 : List UInt8 := dkwX4_puts_3 ++ dktX4_puts_4
def dkwX4_puts_2 : List UInt8 := [167, 255, 212, 42, 27, 182, 0, 183, 153, 0, 34, 42, 180, 0, 67, 42, 180, 0, 31, 27, 46, 42, 29]
abbrev dktX4_puts_2 : List UInt8 := dkwX4_puts_2 ++ dktX4_puts_3
def dkwX4_puts_1 : List UInt8 := [21, 6, 46, 96, 104, 21, 4, 96, 42, 180, 0, 82, 21, 6, 46, 96, 42, 180, 0, 115, 79, 132, 6, 1]
abbrev dktX4_puts_1 : List UInt8 := dkwX4_puts_1 ++ dktX4_puts_2
def dkwX4_puts_0 : List UInt8 := [3, 54, 6, 21, 6, 42, 180, 0, 152, 162, 0, 41, 42, 180, 0, 64, 16, 12, 29, 42, 180, 0, 79]
abbrev dktX4_puts_0 : List UInt8 := dkwX4_puts_0 ++ dktX4_puts_1
theorem dksX4_puts_0 : cX4_puts.data.toList.drop 0 = dktX4_puts_0 := by decide +kernel
theorem dksX4_puts_1 : cX4_puts.data.toList.drop 23 = dktX4_puts_1 := dk_seg dksX4_puts_0 23 rfl rfl
theorem dksX4_puts_2 : cX4_puts.data.toList.drop 47 = dktX4_puts_2 := dk_seg dksX4_puts_1 24 rfl rfl
theorem dksX4_puts_3 : cX4_puts.data.toList.drop 70 = dktX4_puts_3 := dk_seg dksX4_puts_2 23 rfl rfl
theorem dksX4_puts_4 : cX4_puts.data.toList.drop 94 = dktX4_puts_4 := dk_seg dksX4_puts_3 24 rfl rfl
theorem dksX4_puts_5 : cX4_puts.data.toList.drop 117 = dktX4_puts_5 := dk_seg dksX4_puts_4 23 rfl rfl
theorem dksX4_puts_6 : cX4_puts.data.toList.drop 141 = dktX4_puts_6 := dk_seg dksX4_puts_5 24 rfl rfl
theorem dksX4_puts_7 : cX4_puts.data.toList.drop 165 = dktX4_puts_7 := dk_seg dksX4_puts_6 24 rfl rfl
theorem dX4_puts_0 : decode cX4_puts 0 = .ok (.iconst 0, 1) := dk_3 (dk_at dksX4_puts_0 0 rfl rfl)
theorem dX4_puts_1 : decode cX4_puts 1 = .ok (.istore 6, 2) := dk_54 6 (dk_at dksX4_puts_0 1 rfl rfl)
theorem dX4_puts_3 : decode cX4_puts 3 = .ok (.iload 6, 2) := dk_21 6 (dk_at dksX4_puts_0 3 rfl rfl)
theorem dX4_puts_5 : decode cX4_puts 5 = .ok (.aload_n 0, 1) := dk_42 (dk_at dksX4_puts_0 5 rfl rfl)
theorem dX4_puts_6 : decode cX4_puts 6 = .ok (.getfield 152, 3) := dk_180 0 152 (dk_at dksX4_puts_0 6 rfl rfl)
theorem dX4_puts_9 : decode cX4_puts 9 = .ok (.if_icmp .ge 41, 3) := dk_162 0 41 (dk_at dksX4_puts_0 9 rfl rfl)
theorem dX4_puts_12 : decode cX4_puts 12 = .ok (.aload_n 0, 1) := dk_42 (dk_at dksX4_puts_0 12 rfl rfl)
theorem dX4_puts_13 : decode cX4_puts 13 = .ok (.getfield 64, 3) := dk_180 0 64 (dk_at dksX4_puts_0 13 rfl rfl)
theorem dX4_puts_16 : decode cX4_puts 16 = .ok (.bipush 12, 2) := dk_16 12 (dk_at dksX4_puts_0 16 rfl rfl)
theorem dX4_puts_18 : decode cX4_puts 18 = .ok (.iload_n 3, 1) := dk_29 (dk_at dksX4_puts_0 18 rfl rfl)
theorem dX4_puts_19 : decode cX4_puts 19 = .ok (.aload_n 0, 1) := dk_42 (dk_at dksX4_puts_0 19 rfl rfl)
theorem dX4_puts_20 : decode cX4_puts 20 = .ok (.getfield 79, 3) := dk_180 0 79 (dk_at dksX4_puts_0 20 rfl rfl)
theorem dX4_puts_23 : decode cX4_puts 23 = .ok (.iload 6, 2) := dk_21 6 (dk_at dksX4_puts_1 0 rfl rfl)
theorem dX4_puts_25 : decode cX4_puts 25 = .ok (.iaload, 1) := dk_46 (dk_at dksX4_puts_1 2 rfl rfl)
theorem dX4_puts_26 : decode cX4_puts 26 = .ok (.iadd, 1) := dk_96 (dk_at dksX4_puts_1 3 rfl rfl)
theorem dX4_puts_27 : decode cX4_puts 27 = .ok (.imul, 1) := dk_104 (dk_at dksX4_puts_1 4 rfl rfl)
theorem dX4_puts_28 : decode cX4_puts 28 = .ok (.iload 4, 2) := dk_21 4 (dk_at dksX4_puts_1 5 rfl rfl)
theorem dX4_puts_30 : decode cX4_puts 30 = .ok (.iadd, 1) := dk_96 (dk_at dksX4_puts_1 7 rfl rfl)
theorem dX4_puts_31 : decode cX4_puts 31 = .ok (.aload_n 0, 1) := dk_42 (dk_at dksX4_puts_1 8 rfl rfl)
theorem dX4_puts_32 : decode cX4_puts 32 = .ok (.getfield 82, 3) := dk_180 0 82 (dk_at dksX4_puts_1 9 rfl rfl)
theorem dX4_puts_35 : decode cX4_puts 35 = .ok (.iload 6, 2) := dk_21 6 (dk_at dksX4_puts_1 12 rfl rfl)
theorem dX4_puts_37 : decode cX4_puts 37 = .ok (.iaload, 1) := dk_46 (dk_at dksX4_puts_1 14 rfl rfl)
theorem dX4_puts_38 : decode cX4_puts 38 = .ok (.iadd, 1) := dk_96 (dk_at dksX4_puts_1 15 rfl rfl)
theorem dX4_puts_39 : decode cX4_puts 39 = .ok (.aload_n 0, 1) := dk_42 (dk_at dksX4_puts_1 16 rfl rfl)
theorem dX4_puts_40 : decode cX4_puts 40 = .ok (.getfield 115, 3) := dk_180 0 115 (dk_at dksX4_puts_1 17 rfl rfl)
theorem dX4_puts_43 : decode cX4_puts 43 = .ok (.iastore, 1) := dk_79 (dk_at dksX4_puts_1 20 rfl rfl)
theorem dX4_puts_44 : decode cX4_puts 44 = .ok (.iinc 6 1, 3) := dk_132 6 1 (dk_at dksX4_puts_1 21 rfl rfl)
theorem dX4_puts_47 : decode cX4_puts 47 = .ok (.goto (-44), 3) := dk_167 255 212 (dk_at dksX4_puts_2 0 rfl rfl)
theorem dX4_puts_50 : decode cX4_puts 50 = .ok (.aload_n 0, 1) := dk_42 (dk_at dksX4_puts_2 3 rfl rfl)
theorem dX4_puts_51 : decode cX4_puts 51 = .ok (.iload_n 1, 1) := dk_27 (dk_at dksX4_puts_2 4 rfl rfl)
theorem dX4_puts_52 : decode cX4_puts 52 = .ok (.invokevirtual 183, 3) := dk_182 0 183 (dk_at dksX4_puts_2 5 rfl rfl)
theorem dX4_puts_55 : decode cX4_puts 55 = .ok (.ifCond .eq 34, 3) := dk_153 0 34 (dk_at dksX4_puts_2 8 rfl rfl)
theorem dX4_puts_58 : decode cX4_puts 58 = .ok (.aload_n 0, 1) := dk_42 (dk_at dksX4_puts_2 11 rfl rfl)
theorem dX4_puts_59 : decode cX4_puts 59 = .ok (.getfield 67, 3) := dk_180 0 67 (dk_at dksX4_puts_2 12 rfl rfl)
theorem dX4_puts_62 : decode cX4_puts 62 = .ok (.aload_n 0, 1) := dk_42 (dk_at dksX4_puts_2 15 rfl rfl)
theorem dX4_puts_63 : decode cX4_puts 63 = .ok (.getfield 31, 3) := dk_180 0 31 (dk_at dksX4_puts_2 16 rfl rfl)
theorem dX4_puts_66 : decode cX4_puts 66 = .ok (.iload_n 1, 1) := dk_27 (dk_at dksX4_puts_2 19 rfl rfl)
theorem dX4_puts_67 : decode cX4_puts 67 = .ok (.iaload, 1) := dk_46 (dk_at dksX4_puts_2 20 rfl rfl)
theorem dX4_puts_68 : decode cX4_puts 68 = .ok (.aload_n 0, 1) := dk_42 (dk_at dksX4_puts_2 21 rfl rfl)
theorem dX4_puts_69 : decode cX4_puts 69 = .ok (.iload_n 3, 1) := dk_29 (dk_at dksX4_puts_2 22 rfl rfl)
theorem dX4_puts_70 : decode cX4_puts 70 = .ok (.invokevirtual 186, 3) := dk_182 0 186 (dk_at dksX4_puts_3 0 rfl rfl)
theorem dX4_puts_73 : decode cX4_puts 73 = .ok (.iastore, 1) := dk_79 (dk_at dksX4_puts_3 3 rfl rfl)
theorem dX4_puts_74 : decode cX4_puts 74 = .ok (.aload_n 0, 1) := dk_42 (dk_at dksX4_puts_3 4 rfl rfl)
theorem dX4_puts_75 : decode cX4_puts 75 = .ok (.getfield 70, 3) := dk_180 0 70 (dk_at dksX4_puts_3 5 rfl rfl)
theorem dX4_puts_78 : decode cX4_puts 78 = .ok (.aload_n 0, 1) := dk_42 (dk_at dksX4_puts_3 8 rfl rfl)
theorem dX4_puts_79 : decode cX4_puts 79 = .ok (.getfield 31, 3) := dk_180 0 31 (dk_at dksX4_puts_3 9 rfl rfl)
theorem dX4_puts_82 : decode cX4_puts 82 = .ok (.iload_n 1, 1) := dk_27 (dk_at dksX4_puts_3 12 rfl rfl)
theorem dX4_puts_83 : decode cX4_puts 83 = .ok (.iaload, 1) := dk_46 (dk_at dksX4_puts_3 13 rfl rfl)
theorem dX4_puts_84 : decode cX4_puts 84 = .ok (.dup2, 1) := dk_92 (dk_at dksX4_puts_3 14 rfl rfl)
theorem dX4_puts_85 : decode cX4_puts 85 = .ok (.iaload, 1) := dk_46 (dk_at dksX4_puts_3 15 rfl rfl)
theorem dX4_puts_86 : decode cX4_puts 86 = .ok (.iconst 1, 1) := dk_4 (dk_at dksX4_puts_3 16 rfl rfl)
theorem dX4_puts_87 : decode cX4_puts 87 = .ok (.iadd, 1) := dk_96 (dk_at dksX4_puts_3 17 rfl rfl)
theorem dX4_puts_88 : decode cX4_puts 88 = .ok (.iastore, 1) := dk_79 (dk_at dksX4_puts_3 18 rfl rfl)
theorem dX4_puts_89 : decode cX4_puts 89 = .ok (.aload_n 0, 1) := dk_42 (dk_at dksX4_puts_3 19 rfl rfl)
theorem dX4_puts_90 : decode cX4_puts 90 = .ok (.getfield 46, 3) := dk_180 0 46 (dk_at dksX4_puts_3 20 rfl rfl)
theorem dX4_puts_93 : decode cX4_puts 93 = .ok (.aload_n 0, 1) := dk_42 (dk_at dksX4_puts_3 23 rfl rfl)
theorem dX4_puts_94 : decode cX4_puts 94 = .ok (.getfield 112, 3) := dk_180 0 112 (dk_at dksX4_puts_4 0 rfl rfl)
theorem dX4_puts_97 : decode cX4_puts 97 = .ok (.aload_n 0, 1) := dk_42 (dk_at dksX4_puts_4 3 rfl rfl)
theorem dX4_puts_98 : decode cX4_puts 98 = .ok (.getfield 115, 3) := dk_180 0 115 (dk_at dksX4_puts_4 4 rfl rfl)
theorem dX4_puts_101 : decode cX4_puts 101 = .ok (.iastore, 1) := dk_79 (dk_at dksX4_puts_4 7 rfl rfl)
theorem dX4_puts_102 : decode cX4_puts 102 = .ok (.aload_n 0, 1) := dk_42 (dk_at dksX4_puts_4 8 rfl rfl)
theorem dX4_puts_103 : decode cX4_puts 103 = .ok (.getfield 49, 3) := dk_180 0 49 (dk_at dksX4_puts_4 9 rfl rfl)
theorem dX4_puts_106 : decode cX4_puts 106 = .ok (.aload_n 0, 1) := dk_42 (dk_at dksX4_puts_4 12 rfl rfl)
theorem dX4_puts_107 : decode cX4_puts 107 = .ok (.getfield 112, 3) := dk_180 0 112 (dk_at dksX4_puts_4 13 rfl rfl)
theorem dX4_puts_110 : decode cX4_puts 110 = .ok (.iload_n 1, 1) := dk_27 (dk_at dksX4_puts_4 16 rfl rfl)
theorem dX4_puts_111 : decode cX4_puts 111 = .ok (.iastore, 1) := dk_79 (dk_at dksX4_puts_4 17 rfl rfl)
theorem dX4_puts_112 : decode cX4_puts 112 = .ok (.aload_n 0, 1) := dk_42 (dk_at dksX4_puts_4 18 rfl rfl)
theorem dX4_puts_113 : decode cX4_puts 113 = .ok (.getfield 52, 3) := dk_180 0 52 (dk_at dksX4_puts_4 19 rfl rfl)
theorem dX4_puts_116 : decode cX4_puts 116 = .ok (.aload_n 0, 1) := dk_42 (dk_at dksX4_puts_4 22 rfl rfl)
theorem dX4_puts_117 : decode cX4_puts 117 = .ok (.getfield 112, 3) := dk_180 0 112 (dk_at dksX4_puts_5 0 rfl rfl)
theorem dX4_puts_120 : decode cX4_puts 120 = .ok (.iload_n 3, 1) := dk_29 (dk_at dksX4_puts_5 3 rfl rfl)
theorem dX4_puts_121 : decode cX4_puts 121 = .ok (.iastore, 1) := dk_79 (dk_at dksX4_puts_5 4 rfl rfl)
theorem dX4_puts_122 : decode cX4_puts 122 = .ok (.aload_n 0, 1) := dk_42 (dk_at dksX4_puts_5 5 rfl rfl)
theorem dX4_puts_123 : decode cX4_puts 123 = .ok (.getfield 55, 3) := dk_180 0 55 (dk_at dksX4_puts_5 6 rfl rfl)
theorem dX4_puts_126 : decode cX4_puts 126 = .ok (.aload_n 0, 1) := dk_42 (dk_at dksX4_puts_5 9 rfl rfl)
theorem dX4_puts_127 : decode cX4_puts 127 = .ok (.getfield 112, 3) := dk_180 0 112 (dk_at dksX4_puts_5 10 rfl rfl)
theorem dX4_puts_130 : decode cX4_puts 130 = .ok (.iload 4, 2) := dk_21 4 (dk_at dksX4_puts_5 13 rfl rfl)
theorem dX4_puts_132 : decode cX4_puts 132 = .ok (.iastore, 1) := dk_79 (dk_at dksX4_puts_5 15 rfl rfl)
theorem dX4_puts_133 : decode cX4_puts 133 = .ok (.aload_n 0, 1) := dk_42 (dk_at dksX4_puts_5 16 rfl rfl)
theorem dX4_puts_134 : decode cX4_puts 134 = .ok (.getfield 58, 3) := dk_180 0 58 (dk_at dksX4_puts_5 17 rfl rfl)
theorem dX4_puts_137 : decode cX4_puts 137 = .ok (.aload_n 0, 1) := dk_42 (dk_at dksX4_puts_5 20 rfl rfl)
theorem dX4_puts_138 : decode cX4_puts 138 = .ok (.getfield 112, 3) := dk_180 0 112 (dk_at dksX4_puts_5 21 rfl rfl)
theorem dX4_puts_141 : decode cX4_puts 141 = .ok (.iload_n 2, 1) := dk_28 (dk_at dksX4_puts_6 0 rfl rfl)
theorem dX4_puts_142 : decode cX4_puts 142 = .ok (.iastore, 1) := dk_79 (dk_at dksX4_puts_6 1 rfl rfl)
theorem dX4_puts_143 : decode cX4_puts 143 = .ok (.aload_n 0, 1) := dk_42 (dk_at dksX4_puts_6 2 rfl rfl)
theorem dX4_puts_144 : decode cX4_puts 144 = .ok (.getfield 61, 3) := dk_180 0 61 (dk_at dksX4_puts_6 3 rfl rfl)
theorem dX4_puts_147 : decode cX4_puts 147 = .ok (.aload_n 0, 1) := dk_42 (dk_at dksX4_puts_6 6 rfl rfl)
theorem dX4_puts_148 : decode cX4_puts 148 = .ok (.getfield 112, 3) := dk_180 0 112 (dk_at dksX4_puts_6 7 rfl rfl)
theorem dX4_puts_151 : decode cX4_puts 151 = .ok (.iload 5, 2) := dk_21 5 (dk_at dksX4_puts_6 10 rfl rfl)
theorem dX4_puts_153 : decode cX4_puts 153 = .ok (.bastore, 1) := dk_84 (dk_at dksX4_puts_6 12 rfl rfl)
theorem dX4_puts_154 : decode cX4_puts 154 = .ok (.aload_n 0, 1) := dk_42 (dk_at dksX4_puts_6 13 rfl rfl)
theorem dX4_puts_155 : decode cX4_puts 155 = .ok (.dup, 1) := dk_89 (dk_at dksX4_puts_6 14 rfl rfl)
theorem dX4_puts_156 : decode cX4_puts 156 = .ok (.getfield 112, 3) := dk_180 0 112 (dk_at dksX4_puts_6 15 rfl rfl)
theorem dX4_puts_159 : decode cX4_puts 159 = .ok (.iconst 1, 1) := dk_4 (dk_at dksX4_puts_6 18 rfl rfl)
theorem dX4_puts_160 : decode cX4_puts 160 = .ok (.iadd, 1) := dk_96 (dk_at dksX4_puts_6 19 rfl rfl)
theorem dX4_puts_161 : decode cX4_puts 161 = .ok (.putfield 112, 3) := dk_181 0 112 (dk_at dksX4_puts_6 20 rfl rfl)
theorem dX4_puts_164 : decode cX4_puts 164 = .ok (.aload_n 0, 1) := dk_42 (dk_at dksX4_puts_6 23 rfl rfl)
theorem dX4_puts_165 : decode cX4_puts 165 = .ok (.dup, 1) := dk_89 (dk_at dksX4_puts_7 0 rfl rfl)
theorem dX4_puts_166 : decode cX4_puts 166 = .ok (.getfield 115, 3) := dk_180 0 115 (dk_at dksX4_puts_7 1 rfl rfl)
theorem dX4_puts_169 : decode cX4_puts 169 = .ok (.iconst 1, 1) := dk_4 (dk_at dksX4_puts_7 4 rfl rfl)
theorem dX4_puts_170 : decode cX4_puts 170 = .ok (.iadd, 1) := dk_96 (dk_at dksX4_puts_7 5 rfl rfl)
theorem dX4_puts_171 : decode cX4_puts 171 = .ok (.putfield 115, 3) := dk_181 0 115 (dk_at dksX4_puts_7 6 rfl rfl)
theorem dX4_puts_174 : decode cX4_puts 174 = .ok (.aload_n 0, 1) := dk_42 (dk_at dksX4_puts_7 9 rfl rfl)
theorem dX4_puts_175 : decode cX4_puts 175 = .ok (.getfield 115, 3) := dk_180 0 115 (dk_at dksX4_puts_7 10 rfl rfl)
theorem dX4_puts_178 : decode cX4_puts 178 = .ok (.iconst 1, 1) := dk_4 (dk_at dksX4_puts_7 13 rfl rfl)
theorem dX4_puts_179 : decode cX4_puts 179 = .ok (.isub, 1) := dk_100 (dk_at dksX4_puts_7 14 rfl rfl)
theorem dX4_puts_180 : decode cX4_puts 180 = .ok (.ireturn, 1) := dk_172 (dk_at dksX4_puts_7 15 rfl rfl)
abbrev cX4_reason : ByteArray := prog_18_method_30_code
def yX4_reason : MethodName := ⟨RX4, "reason", "(IIIIZ)C"⟩
def dkwX4_reason_2 : List UInt8 := [182, 0, 190, 172]
abbrev dktX4_reason_2 : List UInt8 := dkwX4_reason_2 ++ []
def dkwX4_reason_1 : List UInt8 := [167, 0, 4, 5, 182, 0, 129, 153, 0, 7, 3, 167, 0, 14, 42, 27, 28, 29, 21, 4, 21, 5]
abbrev dktX4_reason_1 : List UInt8 := dkwX4_reason_1 ++ dktX4_reason_2
def dkwX4_reason_0 : List UInt8 := [42, 42, 27, 182, 0, 146, 154, 0, 7, 4, 167, 0, 17, 28, 3, 6, 184, 0, 122, 153, 0, 7, 3]
abbrev dktX4_reason_0 : List UInt8 := dkwX4_reason_0 ++ dktX4_reason_1
theorem dksX4_reason_0 : cX4_reason.data.toList.drop 0 = dktX4_reason_0 := by decide +kernel
theorem dksX4_reason_1 : cX4_reason.data.toList.drop 23 = dktX4_reason_1 := dk_seg dksX4_reason_0 23 rfl rfl
theorem dksX4_reason_2 : cX4_reason.data.toList.drop 45 = dktX4_reason_2 := dk_seg dksX4_reason_1 22 rfl rfl
theorem dX4_reason_0 : decode cX4_reason 0 = .ok (.aload_n 0, 1) := dk_42 (dk_at dksX4_reason_0 0 rfl rfl)
theorem dX4_reason_1 : decode cX4_reason 1 = .ok (.aload_n 0, 1) := dk_42 (dk_at dksX4_reason_0 1 rfl rfl)
theorem dX4_reason_2 : decode cX4_reason 2 = .ok (.iload_n 1, 1) := dk_27 (dk_at dksX4_reason_0 2 rfl rfl)
theorem dX4_reason_3 : decode cX4_reason 3 = .ok (.invokevirtual 146, 3) := dk_182 0 146 (dk_at dksX4_reason_0 3 rfl rfl)
theorem dX4_reason_6 : decode cX4_reason 6 = .ok (.ifCond .ne 7, 3) := dk_154 0 7 (dk_at dksX4_reason_0 6 rfl rfl)
theorem dX4_reason_9 : decode cX4_reason 9 = .ok (.iconst 1, 1) := dk_4 (dk_at dksX4_reason_0 9 rfl rfl)
theorem dX4_reason_10 : decode cX4_reason 10 = .ok (.goto 17, 3) := dk_167 0 17 (dk_at dksX4_reason_0 10 rfl rfl)
theorem dX4_reason_13 : decode cX4_reason 13 = .ok (.iload_n 2, 1) := dk_28 (dk_at dksX4_reason_0 13 rfl rfl)
theorem dX4_reason_14 : decode cX4_reason 14 = .ok (.iconst 0, 1) := dk_3 (dk_at dksX4_reason_0 14 rfl rfl)
theorem dX4_reason_15 : decode cX4_reason 15 = .ok (.iconst 3, 1) := dk_6 (dk_at dksX4_reason_0 15 rfl rfl)
theorem dX4_reason_16 : decode cX4_reason 16 = .ok (.invokestatic 122, 3) := dk_184 0 122 (dk_at dksX4_reason_0 16 rfl rfl)
theorem dX4_reason_19 : decode cX4_reason 19 = .ok (.ifCond .eq 7, 3) := dk_153 0 7 (dk_at dksX4_reason_0 19 rfl rfl)
theorem dX4_reason_22 : decode cX4_reason 22 = .ok (.iconst 0, 1) := dk_3 (dk_at dksX4_reason_0 22 rfl rfl)
theorem dX4_reason_23 : decode cX4_reason 23 = .ok (.goto 4, 3) := dk_167 0 4 (dk_at dksX4_reason_1 0 rfl rfl)
theorem dX4_reason_26 : decode cX4_reason 26 = .ok (.iconst 2, 1) := dk_5 (dk_at dksX4_reason_1 3 rfl rfl)
theorem dX4_reason_27 : decode cX4_reason 27 = .ok (.invokevirtual 129, 3) := dk_182 0 129 (dk_at dksX4_reason_1 4 rfl rfl)
theorem dX4_reason_30 : decode cX4_reason 30 = .ok (.ifCond .eq 7, 3) := dk_153 0 7 (dk_at dksX4_reason_1 7 rfl rfl)
theorem dX4_reason_33 : decode cX4_reason 33 = .ok (.iconst 0, 1) := dk_3 (dk_at dksX4_reason_1 10 rfl rfl)
theorem dX4_reason_34 : decode cX4_reason 34 = .ok (.goto 14, 3) := dk_167 0 14 (dk_at dksX4_reason_1 11 rfl rfl)
theorem dX4_reason_37 : decode cX4_reason 37 = .ok (.aload_n 0, 1) := dk_42 (dk_at dksX4_reason_1 14 rfl rfl)
theorem dX4_reason_38 : decode cX4_reason 38 = .ok (.iload_n 1, 1) := dk_27 (dk_at dksX4_reason_1 15 rfl rfl)
theorem dX4_reason_39 : decode cX4_reason 39 = .ok (.iload_n 2, 1) := dk_28 (dk_at dksX4_reason_1 16 rfl rfl)
theorem dX4_reason_40 : decode cX4_reason 40 = .ok (.iload_n 3, 1) := dk_29 (dk_at dksX4_reason_1 17 rfl rfl)
theorem dX4_reason_41 : decode cX4_reason 41 = .ok (.iload 4, 2) := dk_21 4 (dk_at dksX4_reason_1 18 rfl rfl)
theorem dX4_reason_43 : decode cX4_reason 43 = .ok (.iload 5, 2) := dk_21 5 (dk_at dksX4_reason_1 20 rfl rfl)
theorem dX4_reason_45 : decode cX4_reason 45 = .ok (.invokevirtual 190, 3) := dk_182 0 190 (dk_at dksX4_reason_2 0 rfl rfl)
theorem dX4_reason_48 : decode cX4_reason 48 = .ok (.ireturn, 1) := dk_172 (dk_at dksX4_reason_2 3 rfl rfl)
abbrev cX4_nest : ByteArray := prog_18_method_32_code
def yX4_nest : MethodName := ⟨RX4, "nest", "(IZ)I"⟩
def dkwX4_nest_2 : List UInt8 := [172, 42, 27, 42, 180, 0, 204, 42, 180, 0, 198, 42, 180, 0, 201, 28, 182, 0, 194, 172]
abbrev dktX4_nest_2 : List UInt8 := dkwX4_nest_2 ++ []
def dkwX4_nest_1 : List UInt8 := [167, 0, 17, 42, 180, 0, 112, 16, 40, 160, 0, 7, 6, 167, 0, 4, 3, 182, 0, 129, 153, 0, 5, 3]
abbrev dktX4_nest_1 : List UInt8 := dkwX4_nest_1 ++ dktX4_nest_2
def dkwX4_nest_0 : List UInt8 := [42, 42, 27, 182, 0, 146, 154, 0, 7, 4, 167, 0, 30, 42, 27, 28, 182, 0, 207, 154, 0, 7, 5]
abbrev dktX4_nest_0 : List UInt8 := dkwX4_nest_0 ++ dktX4_nest_1
theorem dksX4_nest_0 : cX4_nest.data.toList.drop 0 = dktX4_nest_0 := by decide +kernel
theorem dksX4_nest_1 : cX4_nest.data.toList.drop 23 = dktX4_nest_1 := dk_seg dksX4_nest_0 23 rfl rfl
theorem dksX4_nest_2 : cX4_nest.data.toList.drop 47 = dktX4_nest_2 := dk_seg dksX4_nest_1 24 rfl rfl
theorem dX4_nest_0 : decode cX4_nest 0 = .ok (.aload_n 0, 1) := dk_42 (dk_at dksX4_nest_0 0 rfl rfl)
theorem dX4_nest_1 : decode cX4_nest 1 = .ok (.aload_n 0, 1) := dk_42 (dk_at dksX4_nest_0 1 rfl rfl)
theorem dX4_nest_2 : decode cX4_nest 2 = .ok (.iload_n 1, 1) := dk_27 (dk_at dksX4_nest_0 2 rfl rfl)
theorem dX4_nest_3 : decode cX4_nest 3 = .ok (.invokevirtual 146, 3) := dk_182 0 146 (dk_at dksX4_nest_0 3 rfl rfl)
theorem dX4_nest_6 : decode cX4_nest 6 = .ok (.ifCond .ne 7, 3) := dk_154 0 7 (dk_at dksX4_nest_0 6 rfl rfl)
theorem dX4_nest_9 : decode cX4_nest 9 = .ok (.iconst 1, 1) := dk_4 (dk_at dksX4_nest_0 9 rfl rfl)
theorem dX4_nest_10 : decode cX4_nest 10 = .ok (.goto 30, 3) := dk_167 0 30 (dk_at dksX4_nest_0 10 rfl rfl)
theorem dX4_nest_13 : decode cX4_nest 13 = .ok (.aload_n 0, 1) := dk_42 (dk_at dksX4_nest_0 13 rfl rfl)
theorem dX4_nest_14 : decode cX4_nest 14 = .ok (.iload_n 1, 1) := dk_27 (dk_at dksX4_nest_0 14 rfl rfl)
theorem dX4_nest_15 : decode cX4_nest 15 = .ok (.iload_n 2, 1) := dk_28 (dk_at dksX4_nest_0 15 rfl rfl)
theorem dX4_nest_16 : decode cX4_nest 16 = .ok (.invokevirtual 207, 3) := dk_182 0 207 (dk_at dksX4_nest_0 16 rfl rfl)
theorem dX4_nest_19 : decode cX4_nest 19 = .ok (.ifCond .ne 7, 3) := dk_154 0 7 (dk_at dksX4_nest_0 19 rfl rfl)
theorem dX4_nest_22 : decode cX4_nest 22 = .ok (.iconst 2, 1) := dk_5 (dk_at dksX4_nest_0 22 rfl rfl)
theorem dX4_nest_23 : decode cX4_nest 23 = .ok (.goto 17, 3) := dk_167 0 17 (dk_at dksX4_nest_1 0 rfl rfl)
theorem dX4_nest_26 : decode cX4_nest 26 = .ok (.aload_n 0, 1) := dk_42 (dk_at dksX4_nest_1 3 rfl rfl)
theorem dX4_nest_27 : decode cX4_nest 27 = .ok (.getfield 112, 3) := dk_180 0 112 (dk_at dksX4_nest_1 4 rfl rfl)
theorem dX4_nest_30 : decode cX4_nest 30 = .ok (.bipush 40, 2) := dk_16 40 (dk_at dksX4_nest_1 7 rfl rfl)
theorem dX4_nest_32 : decode cX4_nest 32 = .ok (.if_icmp .ne 7, 3) := dk_160 0 7 (dk_at dksX4_nest_1 9 rfl rfl)
theorem dX4_nest_35 : decode cX4_nest 35 = .ok (.iconst 3, 1) := dk_6 (dk_at dksX4_nest_1 12 rfl rfl)
theorem dX4_nest_36 : decode cX4_nest 36 = .ok (.goto 4, 3) := dk_167 0 4 (dk_at dksX4_nest_1 13 rfl rfl)
theorem dX4_nest_39 : decode cX4_nest 39 = .ok (.iconst 0, 1) := dk_3 (dk_at dksX4_nest_1 16 rfl rfl)
theorem dX4_nest_40 : decode cX4_nest 40 = .ok (.invokevirtual 129, 3) := dk_182 0 129 (dk_at dksX4_nest_1 17 rfl rfl)
theorem dX4_nest_43 : decode cX4_nest 43 = .ok (.ifCond .eq 5, 3) := dk_153 0 5 (dk_at dksX4_nest_1 20 rfl rfl)
theorem dX4_nest_46 : decode cX4_nest 46 = .ok (.iconst 0, 1) := dk_3 (dk_at dksX4_nest_1 23 rfl rfl)
theorem dX4_nest_47 : decode cX4_nest 47 = .ok (.ireturn, 1) := dk_172 (dk_at dksX4_nest_2 0 rfl rfl)
theorem dX4_nest_48 : decode cX4_nest 48 = .ok (.aload_n 0, 1) := dk_42 (dk_at dksX4_nest_2 1 rfl rfl)
theorem dX4_nest_49 : decode cX4_nest 49 = .ok (.iload_n 1, 1) := dk_27 (dk_at dksX4_nest_2 2 rfl rfl)
theorem dX4_nest_50 : decode cX4_nest 50 = .ok (.aload_n 0, 1) := dk_42 (dk_at dksX4_nest_2 3 rfl rfl)
theorem dX4_nest_51 : decode cX4_nest 51 = .ok (.getfield 204, 3) := dk_180 0 204 (dk_at dksX4_nest_2 4 rfl rfl)
theorem dX4_nest_54 : decode cX4_nest 54 = .ok (.aload_n 0, 1) := dk_42 (dk_at dksX4_nest_2 7 rfl rfl)
theorem dX4_nest_55 : decode cX4_nest 55 = .ok (.getfield 198, 3) := dk_180 0 198 (dk_at dksX4_nest_2 8 rfl rfl)
theorem dX4_nest_58 : decode cX4_nest 58 = .ok (.aload_n 0, 1) := dk_42 (dk_at dksX4_nest_2 11 rfl rfl)
theorem dX4_nest_59 : decode cX4_nest 59 = .ok (.getfield 201, 3) := dk_180 0 201 (dk_at dksX4_nest_2 12 rfl rfl)
theorem dX4_nest_62 : decode cX4_nest 62 = .ok (.iload_n 2, 1) := dk_28 (dk_at dksX4_nest_2 15 rfl rfl)
theorem dX4_nest_63 : decode cX4_nest 63 = .ok (.invokevirtual 194, 3) := dk_182 0 194 (dk_at dksX4_nest_2 16 rfl rfl)
theorem dX4_nest_66 : decode cX4_nest 66 = .ok (.ireturn, 1) := dk_172 (dk_at dksX4_nest_2 19 rfl rfl)
abbrev cX4_isNested : ByteArray := prog_18_method_31_code
def yX4_isNested : MethodName := ⟨RX4, "isNested", "(IZ)Z"⟩
def dkwX4_isNested_2 : List UInt8 := [28, 182, 0, 190, 16, 45, 160, 0, 5, 4, 172, 132, 3, 1, 167, 255, 196, 3, 172]
abbrev dktX4_isNested_2 : List UInt8 := dkwX4_isNested_2 ++ []
def dkwX4_isNested_1 : List UInt8 := [181, 0, 201, 42, 29, 7, 112, 181, 0, 204, 42, 27, 42, 180, 0, 204, 42, 180, 0, 198, 42, 180, 0, 201]
abbrev dktX4_isNested_1 : List UInt8 := dkwX4_isNested_1 ++ dktX4_isNested_2
def dkwX4_isNested_0 : List UInt8 := [3, 62, 29, 17, 11, 64, 162, 0, 59, 42, 29, 16, 48, 108, 181, 0, 198, 42, 29, 7, 108, 16, 12, 112]
abbrev dktX4_isNested_0 : List UInt8 := dkwX4_isNested_0 ++ dktX4_isNested_1
theorem dksX4_isNested_0 : cX4_isNested.data.toList.drop 0 = dktX4_isNested_0 := by decide +kernel
theorem dksX4_isNested_1 : cX4_isNested.data.toList.drop 24 = dktX4_isNested_1 := dk_seg dksX4_isNested_0 24 rfl rfl
theorem dksX4_isNested_2 : cX4_isNested.data.toList.drop 48 = dktX4_isNested_2 := dk_seg dksX4_isNested_1 24 rfl rfl
theorem dX4_isNested_0 : decode cX4_isNested 0 = .ok (.iconst 0, 1) := dk_3 (dk_at dksX4_isNested_0 0 rfl rfl)
theorem dX4_isNested_1 : decode cX4_isNested 1 = .ok (.istore_n 3, 1) := dk_62 (dk_at dksX4_isNested_0 1 rfl rfl)
theorem dX4_isNested_2 : decode cX4_isNested 2 = .ok (.iload_n 3, 1) := dk_29 (dk_at dksX4_isNested_0 2 rfl rfl)
theorem dX4_isNested_3 : decode cX4_isNested 3 = .ok (.sipush 2880, 3) := dk_17 11 64 (dk_at dksX4_isNested_0 3 rfl rfl)
theorem dX4_isNested_6 : decode cX4_isNested 6 = .ok (.if_icmp .ge 59, 3) := dk_162 0 59 (dk_at dksX4_isNested_0 6 rfl rfl)
theorem dX4_isNested_9 : decode cX4_isNested 9 = .ok (.aload_n 0, 1) := dk_42 (dk_at dksX4_isNested_0 9 rfl rfl)
theorem dX4_isNested_10 : decode cX4_isNested 10 = .ok (.iload_n 3, 1) := dk_29 (dk_at dksX4_isNested_0 10 rfl rfl)
theorem dX4_isNested_11 : decode cX4_isNested 11 = .ok (.bipush 48, 2) := dk_16 48 (dk_at dksX4_isNested_0 11 rfl rfl)
theorem dX4_isNested_13 : decode cX4_isNested 13 = .ok (.idiv, 1) := dk_108 (dk_at dksX4_isNested_0 13 rfl rfl)
theorem dX4_isNested_14 : decode cX4_isNested 14 = .ok (.putfield 198, 3) := dk_181 0 198 (dk_at dksX4_isNested_0 14 rfl rfl)
theorem dX4_isNested_17 : decode cX4_isNested 17 = .ok (.aload_n 0, 1) := dk_42 (dk_at dksX4_isNested_0 17 rfl rfl)
theorem dX4_isNested_18 : decode cX4_isNested 18 = .ok (.iload_n 3, 1) := dk_29 (dk_at dksX4_isNested_0 18 rfl rfl)
theorem dX4_isNested_19 : decode cX4_isNested 19 = .ok (.iconst 4, 1) := dk_7 (dk_at dksX4_isNested_0 19 rfl rfl)
theorem dX4_isNested_20 : decode cX4_isNested 20 = .ok (.idiv, 1) := dk_108 (dk_at dksX4_isNested_0 20 rfl rfl)
theorem dX4_isNested_21 : decode cX4_isNested 21 = .ok (.bipush 12, 2) := dk_16 12 (dk_at dksX4_isNested_0 21 rfl rfl)
theorem dX4_isNested_23 : decode cX4_isNested 23 = .ok (.irem, 1) := dk_112 (dk_at dksX4_isNested_0 23 rfl rfl)
theorem dX4_isNested_24 : decode cX4_isNested 24 = .ok (.putfield 201, 3) := dk_181 0 201 (dk_at dksX4_isNested_1 0 rfl rfl)
theorem dX4_isNested_27 : decode cX4_isNested 27 = .ok (.aload_n 0, 1) := dk_42 (dk_at dksX4_isNested_1 3 rfl rfl)
theorem dX4_isNested_28 : decode cX4_isNested 28 = .ok (.iload_n 3, 1) := dk_29 (dk_at dksX4_isNested_1 4 rfl rfl)
theorem dX4_isNested_29 : decode cX4_isNested 29 = .ok (.iconst 4, 1) := dk_7 (dk_at dksX4_isNested_1 5 rfl rfl)
theorem dX4_isNested_30 : decode cX4_isNested 30 = .ok (.irem, 1) := dk_112 (dk_at dksX4_isNested_1 6 rfl rfl)
theorem dX4_isNested_31 : decode cX4_isNested 31 = .ok (.putfield 204, 3) := dk_181 0 204 (dk_at dksX4_isNested_1 7 rfl rfl)
theorem dX4_isNested_34 : decode cX4_isNested 34 = .ok (.aload_n 0, 1) := dk_42 (dk_at dksX4_isNested_1 10 rfl rfl)
theorem dX4_isNested_35 : decode cX4_isNested 35 = .ok (.iload_n 1, 1) := dk_27 (dk_at dksX4_isNested_1 11 rfl rfl)
theorem dX4_isNested_36 : decode cX4_isNested 36 = .ok (.aload_n 0, 1) := dk_42 (dk_at dksX4_isNested_1 12 rfl rfl)
theorem dX4_isNested_37 : decode cX4_isNested 37 = .ok (.getfield 204, 3) := dk_180 0 204 (dk_at dksX4_isNested_1 13 rfl rfl)
theorem dX4_isNested_40 : decode cX4_isNested 40 = .ok (.aload_n 0, 1) := dk_42 (dk_at dksX4_isNested_1 16 rfl rfl)
theorem dX4_isNested_41 : decode cX4_isNested 41 = .ok (.getfield 198, 3) := dk_180 0 198 (dk_at dksX4_isNested_1 17 rfl rfl)
theorem dX4_isNested_44 : decode cX4_isNested 44 = .ok (.aload_n 0, 1) := dk_42 (dk_at dksX4_isNested_1 20 rfl rfl)
theorem dX4_isNested_45 : decode cX4_isNested 45 = .ok (.getfield 201, 3) := dk_180 0 201 (dk_at dksX4_isNested_1 21 rfl rfl)
theorem dX4_isNested_48 : decode cX4_isNested 48 = .ok (.iload_n 2, 1) := dk_28 (dk_at dksX4_isNested_2 0 rfl rfl)
theorem dX4_isNested_49 : decode cX4_isNested 49 = .ok (.invokevirtual 190, 3) := dk_182 0 190 (dk_at dksX4_isNested_2 1 rfl rfl)
theorem dX4_isNested_52 : decode cX4_isNested 52 = .ok (.bipush 45, 2) := dk_16 45 (dk_at dksX4_isNested_2 4 rfl rfl)
theorem dX4_isNested_54 : decode cX4_isNested 54 = .ok (.if_icmp .ne 5, 3) := dk_160 0 5 (dk_at dksX4_isNested_2 6 rfl rfl)
theorem dX4_isNested_57 : decode cX4_isNested 57 = .ok (.iconst 1, 1) := dk_4 (dk_at dksX4_isNested_2 9 rfl rfl)
theorem dX4_isNested_58 : decode cX4_isNested 58 = .ok (.ireturn, 1) := dk_172 (dk_at dksX4_isNested_2 10 rfl rfl)
theorem dX4_isNested_59 : decode cX4_isNested 59 = .ok (.iinc 3 1, 3) := dk_132 3 1 (dk_at dksX4_isNested_2 11 rfl rfl)
theorem dX4_isNested_62 : decode cX4_isNested 62 = .ok (.goto (-60), 3) := dk_167 255 196 (dk_at dksX4_isNested_2 14 rfl rfl)
theorem dX4_isNested_65 : decode cX4_isNested 65 = .ok (.iconst 0, 1) := dk_3 (dk_at dksX4_isNested_2 17 rfl rfl)
theorem dX4_isNested_66 : decode cX4_isNested 66 = .ok (.ireturn, 1) := dk_172 (dk_at dksX4_isNested_2 18 rfl rfl)
abbrev cX4_takeOff : ByteArray := prog_18_method_35_code
def yX4_takeOff : MethodName := ⟨RX4, "takeOff", "(I)I"⟩
def dkwX4_takeOff_1 : List UInt8 := [42, 27, 182, 0, 211, 182, 0, 214, 42, 182, 0, 218, 172]
abbrev dktX4_takeOff_1 : List UInt8 := dkwX4_takeOff_1 ++ []
def dkwX4_takeOff_0 : List UInt8 := [42, 42, 27, 182, 0, 211, 2, 160, 0, 7, 4, 167, 0, 4, 3, 182, 0, 129, 153, 0, 5, 3, 172, 42]
abbrev dktX4_takeOff_0 : List UInt8 := dkwX4_takeOff_0 ++ dktX4_takeOff_1
theorem dksX4_takeOff_0 : cX4_takeOff.data.toList.drop 0 = dktX4_takeOff_0 := by decide +kernel
theorem dksX4_takeOff_1 : cX4_takeOff.data.toList.drop 24 = dktX4_takeOff_1 := dk_seg dksX4_takeOff_0 24 rfl rfl
theorem dX4_takeOff_0 : decode cX4_takeOff 0 = .ok (.aload_n 0, 1) := dk_42 (dk_at dksX4_takeOff_0 0 rfl rfl)
theorem dX4_takeOff_1 : decode cX4_takeOff 1 = .ok (.aload_n 0, 1) := dk_42 (dk_at dksX4_takeOff_0 1 rfl rfl)
theorem dX4_takeOff_2 : decode cX4_takeOff 2 = .ok (.iload_n 1, 1) := dk_27 (dk_at dksX4_takeOff_0 2 rfl rfl)
theorem dX4_takeOff_3 : decode cX4_takeOff 3 = .ok (.invokevirtual 211, 3) := dk_182 0 211 (dk_at dksX4_takeOff_0 3 rfl rfl)
theorem dX4_takeOff_6 : decode cX4_takeOff 6 = .ok (.iconst (-1), 1) := dk_2 (dk_at dksX4_takeOff_0 6 rfl rfl)
theorem dX4_takeOff_7 : decode cX4_takeOff 7 = .ok (.if_icmp .ne 7, 3) := dk_160 0 7 (dk_at dksX4_takeOff_0 7 rfl rfl)
theorem dX4_takeOff_10 : decode cX4_takeOff 10 = .ok (.iconst 1, 1) := dk_4 (dk_at dksX4_takeOff_0 10 rfl rfl)
theorem dX4_takeOff_11 : decode cX4_takeOff 11 = .ok (.goto 4, 3) := dk_167 0 4 (dk_at dksX4_takeOff_0 11 rfl rfl)
theorem dX4_takeOff_14 : decode cX4_takeOff 14 = .ok (.iconst 0, 1) := dk_3 (dk_at dksX4_takeOff_0 14 rfl rfl)
theorem dX4_takeOff_15 : decode cX4_takeOff 15 = .ok (.invokevirtual 129, 3) := dk_182 0 129 (dk_at dksX4_takeOff_0 15 rfl rfl)
theorem dX4_takeOff_18 : decode cX4_takeOff 18 = .ok (.ifCond .eq 5, 3) := dk_153 0 5 (dk_at dksX4_takeOff_0 18 rfl rfl)
theorem dX4_takeOff_21 : decode cX4_takeOff 21 = .ok (.iconst 0, 1) := dk_3 (dk_at dksX4_takeOff_0 21 rfl rfl)
theorem dX4_takeOff_22 : decode cX4_takeOff 22 = .ok (.ireturn, 1) := dk_172 (dk_at dksX4_takeOff_0 22 rfl rfl)
theorem dX4_takeOff_23 : decode cX4_takeOff 23 = .ok (.aload_n 0, 1) := dk_42 (dk_at dksX4_takeOff_0 23 rfl rfl)
theorem dX4_takeOff_24 : decode cX4_takeOff 24 = .ok (.aload_n 0, 1) := dk_42 (dk_at dksX4_takeOff_1 0 rfl rfl)
theorem dX4_takeOff_25 : decode cX4_takeOff 25 = .ok (.iload_n 1, 1) := dk_27 (dk_at dksX4_takeOff_1 1 rfl rfl)
theorem dX4_takeOff_26 : decode cX4_takeOff 26 = .ok (.invokevirtual 211, 3) := dk_182 0 211 (dk_at dksX4_takeOff_1 2 rfl rfl)
theorem dX4_takeOff_29 : decode cX4_takeOff 29 = .ok (.invokevirtual 214, 3) := dk_182 0 214 (dk_at dksX4_takeOff_1 5 rfl rfl)
theorem dX4_takeOff_32 : decode cX4_takeOff 32 = .ok (.aload_n 0, 1) := dk_42 (dk_at dksX4_takeOff_1 8 rfl rfl)
theorem dX4_takeOff_33 : decode cX4_takeOff 33 = .ok (.invokevirtual 218, 3) := dk_182 0 218 (dk_at dksX4_takeOff_1 9 rfl rfl)
theorem dX4_takeOff_36 : decode cX4_takeOff 36 = .ok (.ireturn, 1) := dk_172 (dk_at dksX4_takeOff_1 12 rfl rfl)
abbrev cX4_placeOf : ByteArray := prog_18_method_33_code
def yX4_placeOf : MethodName := ⟨RX4, "placeOf", "(I)I"⟩
def dkwX4_placeOf_1 : List UInt8 := [167, 0, 4, 28, 61, 132, 3, 1, 167, 255, 229, 28, 172]
abbrev dktX4_placeOf_1 : List UInt8 := dkwX4_placeOf_1 ++ []
def dkwX4_placeOf_0 : List UInt8 := [2, 61, 3, 62, 29, 42, 180, 0, 112, 162, 0, 25, 42, 180, 0, 46, 29, 46, 27, 160, 0, 7, 29]
abbrev dktX4_placeOf_0 : List UInt8 := dkwX4_placeOf_0 ++ dktX4_placeOf_1
theorem dksX4_placeOf_0 : cX4_placeOf.data.toList.drop 0 = dktX4_placeOf_0 := by decide +kernel
theorem dksX4_placeOf_1 : cX4_placeOf.data.toList.drop 23 = dktX4_placeOf_1 := dk_seg dksX4_placeOf_0 23 rfl rfl
theorem dX4_placeOf_0 : decode cX4_placeOf 0 = .ok (.iconst (-1), 1) := dk_2 (dk_at dksX4_placeOf_0 0 rfl rfl)
theorem dX4_placeOf_1 : decode cX4_placeOf 1 = .ok (.istore_n 2, 1) := dk_61 (dk_at dksX4_placeOf_0 1 rfl rfl)
theorem dX4_placeOf_2 : decode cX4_placeOf 2 = .ok (.iconst 0, 1) := dk_3 (dk_at dksX4_placeOf_0 2 rfl rfl)
theorem dX4_placeOf_3 : decode cX4_placeOf 3 = .ok (.istore_n 3, 1) := dk_62 (dk_at dksX4_placeOf_0 3 rfl rfl)
theorem dX4_placeOf_4 : decode cX4_placeOf 4 = .ok (.iload_n 3, 1) := dk_29 (dk_at dksX4_placeOf_0 4 rfl rfl)
theorem dX4_placeOf_5 : decode cX4_placeOf 5 = .ok (.aload_n 0, 1) := dk_42 (dk_at dksX4_placeOf_0 5 rfl rfl)
theorem dX4_placeOf_6 : decode cX4_placeOf 6 = .ok (.getfield 112, 3) := dk_180 0 112 (dk_at dksX4_placeOf_0 6 rfl rfl)
theorem dX4_placeOf_9 : decode cX4_placeOf 9 = .ok (.if_icmp .ge 25, 3) := dk_162 0 25 (dk_at dksX4_placeOf_0 9 rfl rfl)
theorem dX4_placeOf_12 : decode cX4_placeOf 12 = .ok (.aload_n 0, 1) := dk_42 (dk_at dksX4_placeOf_0 12 rfl rfl)
theorem dX4_placeOf_13 : decode cX4_placeOf 13 = .ok (.getfield 46, 3) := dk_180 0 46 (dk_at dksX4_placeOf_0 13 rfl rfl)
theorem dX4_placeOf_16 : decode cX4_placeOf 16 = .ok (.iload_n 3, 1) := dk_29 (dk_at dksX4_placeOf_0 16 rfl rfl)
theorem dX4_placeOf_17 : decode cX4_placeOf 17 = .ok (.iaload, 1) := dk_46 (dk_at dksX4_placeOf_0 17 rfl rfl)
theorem dX4_placeOf_18 : decode cX4_placeOf 18 = .ok (.iload_n 1, 1) := dk_27 (dk_at dksX4_placeOf_0 18 rfl rfl)
theorem dX4_placeOf_19 : decode cX4_placeOf 19 = .ok (.if_icmp .ne 7, 3) := dk_160 0 7 (dk_at dksX4_placeOf_0 19 rfl rfl)
theorem dX4_placeOf_22 : decode cX4_placeOf 22 = .ok (.iload_n 3, 1) := dk_29 (dk_at dksX4_placeOf_0 22 rfl rfl)
theorem dX4_placeOf_23 : decode cX4_placeOf 23 = .ok (.goto 4, 3) := dk_167 0 4 (dk_at dksX4_placeOf_1 0 rfl rfl)
theorem dX4_placeOf_26 : decode cX4_placeOf 26 = .ok (.iload_n 2, 1) := dk_28 (dk_at dksX4_placeOf_1 3 rfl rfl)
theorem dX4_placeOf_27 : decode cX4_placeOf 27 = .ok (.istore_n 2, 1) := dk_61 (dk_at dksX4_placeOf_1 4 rfl rfl)
theorem dX4_placeOf_28 : decode cX4_placeOf 28 = .ok (.iinc 3 1, 3) := dk_132 3 1 (dk_at dksX4_placeOf_1 5 rfl rfl)
theorem dX4_placeOf_31 : decode cX4_placeOf 31 = .ok (.goto (-27), 3) := dk_167 255 229 (dk_at dksX4_placeOf_1 8 rfl rfl)
theorem dX4_placeOf_34 : decode cX4_placeOf 34 = .ok (.iload_n 2, 1) := dk_28 (dk_at dksX4_placeOf_1 11 rfl rfl)
theorem dX4_placeOf_35 : decode cX4_placeOf 35 = .ok (.ireturn, 1) := dk_172 (dk_at dksX4_placeOf_1 12 rfl rfl)
abbrev cX4_takes : ByteArray := prog_18_method_28_code
def yX4_takes : MethodName := ⟨RX4, "takes", "(I)V"⟩
def dkwX4_takes_7 : List UInt8 := [96, 46, 79, 42, 180, 0, 61, 29, 42, 180, 0, 61, 29, 4, 96, 51, 84, 132, 3, 1, 167, 255, 161, 177]
abbrev dktX4_takes_7 : List UInt8 := dkwX4_takes_7 ++ []
def dkwX4_takes_6 : List UInt8 := [180, 0, 55, 29, 42, 180, 0, 55, 29, 4, 96, 46, 79, 42, 180, 0, 58, 29, 42, 180, 0, 58, 29, 4]
abbrev dktX4_takes_6 : List UInt8 := dkwX4_takes_6 ++ dktX4_takes_7
def dkwX4_takes_5 : List UInt8 := [180, 0, 49, 29, 4, 96, 46, 79, 42, 180, 0, 52, 29, 42, 180, 0, 52, 29, 4, 96, 46, 79, 42]
abbrev dktX4_takes_5 : List UInt8 := dkwX4_takes_5 ++ dktX4_takes_6
def dkwX4_takes_4 : List UInt8 := [162, 0, 93, 42, 180, 0, 46, 29, 42, 180, 0, 46, 29, 4, 96, 46, 79, 42, 180, 0, 49, 29, 42]
abbrev dktX4_takes_4 : List UInt8 := dkwX4_takes_4 ++ dktX4_takes_5
def dkwX4_takes_3 : List UInt8 := [92, 46, 4, 100, 79, 42, 89, 180, 0, 112, 4, 100, 181, 0, 112, 27, 62, 29, 42, 180, 0, 112]
abbrev dktX4_takes_3 : List UInt8 := dkwX4_takes_3 ++ dktX4_takes_4
def dkwX4_takes_2 : List UInt8 := [180, 0, 49, 27, 46, 61, 42, 28, 182, 0, 183, 153, 0, 18, 42, 180, 0, 70, 42, 180, 0, 31, 28, 46]
abbrev dktX4_takes_2 : List UInt8 := dkwX4_takes_2 ++ dktX4_takes_3
def dkwX4_takes_1 : List UInt8 := [27, 46, 160, 0, 7, 2, 167, 0, 9, 42, 180, 0, 64, 28, 46, 79, 132, 2, 1, 167, 255, 215, 42]
abbrev dktX4_takes_1 : List UInt8 := dkwX4_takes_1 ++ dktX4_takes_2
def dkwX4_takes_0 : List UInt8 := [3, 61, 28, 17, 2, 208, 162, 0, 40, 42, 180, 0, 64, 28, 42, 180, 0, 64, 28, 46, 42, 180, 0, 46]
abbrev dktX4_takes_0 : List UInt8 := dkwX4_takes_0 ++ dktX4_takes_1
theorem dksX4_takes_0 : cX4_takes.data.toList.drop 0 = dktX4_takes_0 := by decide +kernel
theorem dksX4_takes_1 : cX4_takes.data.toList.drop 24 = dktX4_takes_1 := dk_seg dksX4_takes_0 24 rfl rfl
theorem dksX4_takes_2 : cX4_takes.data.toList.drop 47 = dktX4_takes_2 := dk_seg dksX4_takes_1 23 rfl rfl
theorem dksX4_takes_3 : cX4_takes.data.toList.drop 71 = dktX4_takes_3 := dk_seg dksX4_takes_2 24 rfl rfl
theorem dksX4_takes_4 : cX4_takes.data.toList.drop 93 = dktX4_takes_4 := dk_seg dksX4_takes_3 22 rfl rfl
theorem dksX4_takes_5 : cX4_takes.data.toList.drop 116 = dktX4_takes_5 := dk_seg dksX4_takes_4 23 rfl rfl
theorem dksX4_takes_6 : cX4_takes.data.toList.drop 139 = dktX4_takes_6 := dk_seg dksX4_takes_5 23 rfl rfl
theorem dksX4_takes_7 : cX4_takes.data.toList.drop 163 = dktX4_takes_7 := dk_seg dksX4_takes_6 24 rfl rfl
theorem dX4_takes_0 : decode cX4_takes 0 = .ok (.iconst 0, 1) := dk_3 (dk_at dksX4_takes_0 0 rfl rfl)
theorem dX4_takes_1 : decode cX4_takes 1 = .ok (.istore_n 2, 1) := dk_61 (dk_at dksX4_takes_0 1 rfl rfl)
theorem dX4_takes_2 : decode cX4_takes 2 = .ok (.iload_n 2, 1) := dk_28 (dk_at dksX4_takes_0 2 rfl rfl)
theorem dX4_takes_3 : decode cX4_takes 3 = .ok (.sipush 720, 3) := dk_17 2 208 (dk_at dksX4_takes_0 3 rfl rfl)
theorem dX4_takes_6 : decode cX4_takes 6 = .ok (.if_icmp .ge 40, 3) := dk_162 0 40 (dk_at dksX4_takes_0 6 rfl rfl)
theorem dX4_takes_9 : decode cX4_takes 9 = .ok (.aload_n 0, 1) := dk_42 (dk_at dksX4_takes_0 9 rfl rfl)
theorem dX4_takes_10 : decode cX4_takes 10 = .ok (.getfield 64, 3) := dk_180 0 64 (dk_at dksX4_takes_0 10 rfl rfl)
theorem dX4_takes_13 : decode cX4_takes 13 = .ok (.iload_n 2, 1) := dk_28 (dk_at dksX4_takes_0 13 rfl rfl)
theorem dX4_takes_14 : decode cX4_takes 14 = .ok (.aload_n 0, 1) := dk_42 (dk_at dksX4_takes_0 14 rfl rfl)
theorem dX4_takes_15 : decode cX4_takes 15 = .ok (.getfield 64, 3) := dk_180 0 64 (dk_at dksX4_takes_0 15 rfl rfl)
theorem dX4_takes_18 : decode cX4_takes 18 = .ok (.iload_n 2, 1) := dk_28 (dk_at dksX4_takes_0 18 rfl rfl)
theorem dX4_takes_19 : decode cX4_takes 19 = .ok (.iaload, 1) := dk_46 (dk_at dksX4_takes_0 19 rfl rfl)
theorem dX4_takes_20 : decode cX4_takes 20 = .ok (.aload_n 0, 1) := dk_42 (dk_at dksX4_takes_0 20 rfl rfl)
theorem dX4_takes_21 : decode cX4_takes 21 = .ok (.getfield 46, 3) := dk_180 0 46 (dk_at dksX4_takes_0 21 rfl rfl)
theorem dX4_takes_24 : decode cX4_takes 24 = .ok (.iload_n 1, 1) := dk_27 (dk_at dksX4_takes_1 0 rfl rfl)
theorem dX4_takes_25 : decode cX4_takes 25 = .ok (.iaload, 1) := dk_46 (dk_at dksX4_takes_1 1 rfl rfl)
theorem dX4_takes_26 : decode cX4_takes 26 = .ok (.if_icmp .ne 7, 3) := dk_160 0 7 (dk_at dksX4_takes_1 2 rfl rfl)
theorem dX4_takes_29 : decode cX4_takes 29 = .ok (.iconst (-1), 1) := dk_2 (dk_at dksX4_takes_1 5 rfl rfl)
theorem dX4_takes_30 : decode cX4_takes 30 = .ok (.goto 9, 3) := dk_167 0 9 (dk_at dksX4_takes_1 6 rfl rfl)
theorem dX4_takes_33 : decode cX4_takes 33 = .ok (.aload_n 0, 1) := dk_42 (dk_at dksX4_takes_1 9 rfl rfl)
theorem dX4_takes_34 : decode cX4_takes 34 = .ok (.getfield 64, 3) := dk_180 0 64 (dk_at dksX4_takes_1 10 rfl rfl)
theorem dX4_takes_37 : decode cX4_takes 37 = .ok (.iload_n 2, 1) := dk_28 (dk_at dksX4_takes_1 13 rfl rfl)
theorem dX4_takes_38 : decode cX4_takes 38 = .ok (.iaload, 1) := dk_46 (dk_at dksX4_takes_1 14 rfl rfl)
theorem dX4_takes_39 : decode cX4_takes 39 = .ok (.iastore, 1) := dk_79 (dk_at dksX4_takes_1 15 rfl rfl)
theorem dX4_takes_40 : decode cX4_takes 40 = .ok (.iinc 2 1, 3) := dk_132 2 1 (dk_at dksX4_takes_1 16 rfl rfl)
theorem dX4_takes_43 : decode cX4_takes 43 = .ok (.goto (-41), 3) := dk_167 255 215 (dk_at dksX4_takes_1 19 rfl rfl)
theorem dX4_takes_46 : decode cX4_takes 46 = .ok (.aload_n 0, 1) := dk_42 (dk_at dksX4_takes_1 22 rfl rfl)
theorem dX4_takes_47 : decode cX4_takes 47 = .ok (.getfield 49, 3) := dk_180 0 49 (dk_at dksX4_takes_2 0 rfl rfl)
theorem dX4_takes_50 : decode cX4_takes 50 = .ok (.iload_n 1, 1) := dk_27 (dk_at dksX4_takes_2 3 rfl rfl)
theorem dX4_takes_51 : decode cX4_takes 51 = .ok (.iaload, 1) := dk_46 (dk_at dksX4_takes_2 4 rfl rfl)
theorem dX4_takes_52 : decode cX4_takes 52 = .ok (.istore_n 2, 1) := dk_61 (dk_at dksX4_takes_2 5 rfl rfl)
theorem dX4_takes_53 : decode cX4_takes 53 = .ok (.aload_n 0, 1) := dk_42 (dk_at dksX4_takes_2 6 rfl rfl)
theorem dX4_takes_54 : decode cX4_takes 54 = .ok (.iload_n 2, 1) := dk_28 (dk_at dksX4_takes_2 7 rfl rfl)
theorem dX4_takes_55 : decode cX4_takes 55 = .ok (.invokevirtual 183, 3) := dk_182 0 183 (dk_at dksX4_takes_2 8 rfl rfl)
theorem dX4_takes_58 : decode cX4_takes 58 = .ok (.ifCond .eq 18, 3) := dk_153 0 18 (dk_at dksX4_takes_2 11 rfl rfl)
theorem dX4_takes_61 : decode cX4_takes 61 = .ok (.aload_n 0, 1) := dk_42 (dk_at dksX4_takes_2 14 rfl rfl)
theorem dX4_takes_62 : decode cX4_takes 62 = .ok (.getfield 70, 3) := dk_180 0 70 (dk_at dksX4_takes_2 15 rfl rfl)
theorem dX4_takes_65 : decode cX4_takes 65 = .ok (.aload_n 0, 1) := dk_42 (dk_at dksX4_takes_2 18 rfl rfl)
theorem dX4_takes_66 : decode cX4_takes 66 = .ok (.getfield 31, 3) := dk_180 0 31 (dk_at dksX4_takes_2 19 rfl rfl)
theorem dX4_takes_69 : decode cX4_takes 69 = .ok (.iload_n 2, 1) := dk_28 (dk_at dksX4_takes_2 22 rfl rfl)
theorem dX4_takes_70 : decode cX4_takes 70 = .ok (.iaload, 1) := dk_46 (dk_at dksX4_takes_2 23 rfl rfl)
theorem dX4_takes_71 : decode cX4_takes 71 = .ok (.dup2, 1) := dk_92 (dk_at dksX4_takes_3 0 rfl rfl)
theorem dX4_takes_72 : decode cX4_takes 72 = .ok (.iaload, 1) := dk_46 (dk_at dksX4_takes_3 1 rfl rfl)
theorem dX4_takes_73 : decode cX4_takes 73 = .ok (.iconst 1, 1) := dk_4 (dk_at dksX4_takes_3 2 rfl rfl)
theorem dX4_takes_74 : decode cX4_takes 74 = .ok (.isub, 1) := dk_100 (dk_at dksX4_takes_3 3 rfl rfl)
theorem dX4_takes_75 : decode cX4_takes 75 = .ok (.iastore, 1) := dk_79 (dk_at dksX4_takes_3 4 rfl rfl)
theorem dX4_takes_76 : decode cX4_takes 76 = .ok (.aload_n 0, 1) := dk_42 (dk_at dksX4_takes_3 5 rfl rfl)
theorem dX4_takes_77 : decode cX4_takes 77 = .ok (.dup, 1) := dk_89 (dk_at dksX4_takes_3 6 rfl rfl)
theorem dX4_takes_78 : decode cX4_takes 78 = .ok (.getfield 112, 3) := dk_180 0 112 (dk_at dksX4_takes_3 7 rfl rfl)
theorem dX4_takes_81 : decode cX4_takes 81 = .ok (.iconst 1, 1) := dk_4 (dk_at dksX4_takes_3 10 rfl rfl)
theorem dX4_takes_82 : decode cX4_takes 82 = .ok (.isub, 1) := dk_100 (dk_at dksX4_takes_3 11 rfl rfl)
theorem dX4_takes_83 : decode cX4_takes 83 = .ok (.putfield 112, 3) := dk_181 0 112 (dk_at dksX4_takes_3 12 rfl rfl)
theorem dX4_takes_86 : decode cX4_takes 86 = .ok (.iload_n 1, 1) := dk_27 (dk_at dksX4_takes_3 15 rfl rfl)
theorem dX4_takes_87 : decode cX4_takes 87 = .ok (.istore_n 3, 1) := dk_62 (dk_at dksX4_takes_3 16 rfl rfl)
theorem dX4_takes_88 : decode cX4_takes 88 = .ok (.iload_n 3, 1) := dk_29 (dk_at dksX4_takes_3 17 rfl rfl)
theorem dX4_takes_89 : decode cX4_takes 89 = .ok (.aload_n 0, 1) := dk_42 (dk_at dksX4_takes_3 18 rfl rfl)
theorem dX4_takes_90 : decode cX4_takes 90 = .ok (.getfield 112, 3) := dk_180 0 112 (dk_at dksX4_takes_3 19 rfl rfl)
theorem dX4_takes_93 : decode cX4_takes 93 = .ok (.if_icmp .ge 93, 3) := dk_162 0 93 (dk_at dksX4_takes_4 0 rfl rfl)
theorem dX4_takes_96 : decode cX4_takes 96 = .ok (.aload_n 0, 1) := dk_42 (dk_at dksX4_takes_4 3 rfl rfl)
theorem dX4_takes_97 : decode cX4_takes 97 = .ok (.getfield 46, 3) := dk_180 0 46 (dk_at dksX4_takes_4 4 rfl rfl)
theorem dX4_takes_100 : decode cX4_takes 100 = .ok (.iload_n 3, 1) := dk_29 (dk_at dksX4_takes_4 7 rfl rfl)
theorem dX4_takes_101 : decode cX4_takes 101 = .ok (.aload_n 0, 1) := dk_42 (dk_at dksX4_takes_4 8 rfl rfl)
theorem dX4_takes_102 : decode cX4_takes 102 = .ok (.getfield 46, 3) := dk_180 0 46 (dk_at dksX4_takes_4 9 rfl rfl)
theorem dX4_takes_105 : decode cX4_takes 105 = .ok (.iload_n 3, 1) := dk_29 (dk_at dksX4_takes_4 12 rfl rfl)
theorem dX4_takes_106 : decode cX4_takes 106 = .ok (.iconst 1, 1) := dk_4 (dk_at dksX4_takes_4 13 rfl rfl)
theorem dX4_takes_107 : decode cX4_takes 107 = .ok (.iadd, 1) := dk_96 (dk_at dksX4_takes_4 14 rfl rfl)
theorem dX4_takes_108 : decode cX4_takes 108 = .ok (.iaload, 1) := dk_46 (dk_at dksX4_takes_4 15 rfl rfl)
theorem dX4_takes_109 : decode cX4_takes 109 = .ok (.iastore, 1) := dk_79 (dk_at dksX4_takes_4 16 rfl rfl)
theorem dX4_takes_110 : decode cX4_takes 110 = .ok (.aload_n 0, 1) := dk_42 (dk_at dksX4_takes_4 17 rfl rfl)
theorem dX4_takes_111 : decode cX4_takes 111 = .ok (.getfield 49, 3) := dk_180 0 49 (dk_at dksX4_takes_4 18 rfl rfl)
theorem dX4_takes_114 : decode cX4_takes 114 = .ok (.iload_n 3, 1) := dk_29 (dk_at dksX4_takes_4 21 rfl rfl)
theorem dX4_takes_115 : decode cX4_takes 115 = .ok (.aload_n 0, 1) := dk_42 (dk_at dksX4_takes_4 22 rfl rfl)
theorem dX4_takes_116 : decode cX4_takes 116 = .ok (.getfield 49, 3) := dk_180 0 49 (dk_at dksX4_takes_5 0 rfl rfl)
theorem dX4_takes_119 : decode cX4_takes 119 = .ok (.iload_n 3, 1) := dk_29 (dk_at dksX4_takes_5 3 rfl rfl)
theorem dX4_takes_120 : decode cX4_takes 120 = .ok (.iconst 1, 1) := dk_4 (dk_at dksX4_takes_5 4 rfl rfl)
theorem dX4_takes_121 : decode cX4_takes 121 = .ok (.iadd, 1) := dk_96 (dk_at dksX4_takes_5 5 rfl rfl)
theorem dX4_takes_122 : decode cX4_takes 122 = .ok (.iaload, 1) := dk_46 (dk_at dksX4_takes_5 6 rfl rfl)
theorem dX4_takes_123 : decode cX4_takes 123 = .ok (.iastore, 1) := dk_79 (dk_at dksX4_takes_5 7 rfl rfl)
theorem dX4_takes_124 : decode cX4_takes 124 = .ok (.aload_n 0, 1) := dk_42 (dk_at dksX4_takes_5 8 rfl rfl)
theorem dX4_takes_125 : decode cX4_takes 125 = .ok (.getfield 52, 3) := dk_180 0 52 (dk_at dksX4_takes_5 9 rfl rfl)
theorem dX4_takes_128 : decode cX4_takes 128 = .ok (.iload_n 3, 1) := dk_29 (dk_at dksX4_takes_5 12 rfl rfl)
theorem dX4_takes_129 : decode cX4_takes 129 = .ok (.aload_n 0, 1) := dk_42 (dk_at dksX4_takes_5 13 rfl rfl)
theorem dX4_takes_130 : decode cX4_takes 130 = .ok (.getfield 52, 3) := dk_180 0 52 (dk_at dksX4_takes_5 14 rfl rfl)
theorem dX4_takes_133 : decode cX4_takes 133 = .ok (.iload_n 3, 1) := dk_29 (dk_at dksX4_takes_5 17 rfl rfl)
theorem dX4_takes_134 : decode cX4_takes 134 = .ok (.iconst 1, 1) := dk_4 (dk_at dksX4_takes_5 18 rfl rfl)
theorem dX4_takes_135 : decode cX4_takes 135 = .ok (.iadd, 1) := dk_96 (dk_at dksX4_takes_5 19 rfl rfl)
theorem dX4_takes_136 : decode cX4_takes 136 = .ok (.iaload, 1) := dk_46 (dk_at dksX4_takes_5 20 rfl rfl)
theorem dX4_takes_137 : decode cX4_takes 137 = .ok (.iastore, 1) := dk_79 (dk_at dksX4_takes_5 21 rfl rfl)
theorem dX4_takes_138 : decode cX4_takes 138 = .ok (.aload_n 0, 1) := dk_42 (dk_at dksX4_takes_5 22 rfl rfl)
theorem dX4_takes_139 : decode cX4_takes 139 = .ok (.getfield 55, 3) := dk_180 0 55 (dk_at dksX4_takes_6 0 rfl rfl)
theorem dX4_takes_142 : decode cX4_takes 142 = .ok (.iload_n 3, 1) := dk_29 (dk_at dksX4_takes_6 3 rfl rfl)
theorem dX4_takes_143 : decode cX4_takes 143 = .ok (.aload_n 0, 1) := dk_42 (dk_at dksX4_takes_6 4 rfl rfl)
theorem dX4_takes_144 : decode cX4_takes 144 = .ok (.getfield 55, 3) := dk_180 0 55 (dk_at dksX4_takes_6 5 rfl rfl)
theorem dX4_takes_147 : decode cX4_takes 147 = .ok (.iload_n 3, 1) := dk_29 (dk_at dksX4_takes_6 8 rfl rfl)
theorem dX4_takes_148 : decode cX4_takes 148 = .ok (.iconst 1, 1) := dk_4 (dk_at dksX4_takes_6 9 rfl rfl)
theorem dX4_takes_149 : decode cX4_takes 149 = .ok (.iadd, 1) := dk_96 (dk_at dksX4_takes_6 10 rfl rfl)
theorem dX4_takes_150 : decode cX4_takes 150 = .ok (.iaload, 1) := dk_46 (dk_at dksX4_takes_6 11 rfl rfl)
theorem dX4_takes_151 : decode cX4_takes 151 = .ok (.iastore, 1) := dk_79 (dk_at dksX4_takes_6 12 rfl rfl)
theorem dX4_takes_152 : decode cX4_takes 152 = .ok (.aload_n 0, 1) := dk_42 (dk_at dksX4_takes_6 13 rfl rfl)
theorem dX4_takes_153 : decode cX4_takes 153 = .ok (.getfield 58, 3) := dk_180 0 58 (dk_at dksX4_takes_6 14 rfl rfl)
theorem dX4_takes_156 : decode cX4_takes 156 = .ok (.iload_n 3, 1) := dk_29 (dk_at dksX4_takes_6 17 rfl rfl)
theorem dX4_takes_157 : decode cX4_takes 157 = .ok (.aload_n 0, 1) := dk_42 (dk_at dksX4_takes_6 18 rfl rfl)
theorem dX4_takes_158 : decode cX4_takes 158 = .ok (.getfield 58, 3) := dk_180 0 58 (dk_at dksX4_takes_6 19 rfl rfl)
theorem dX4_takes_161 : decode cX4_takes 161 = .ok (.iload_n 3, 1) := dk_29 (dk_at dksX4_takes_6 22 rfl rfl)
theorem dX4_takes_162 : decode cX4_takes 162 = .ok (.iconst 1, 1) := dk_4 (dk_at dksX4_takes_6 23 rfl rfl)
theorem dX4_takes_163 : decode cX4_takes 163 = .ok (.iadd, 1) := dk_96 (dk_at dksX4_takes_7 0 rfl rfl)
theorem dX4_takes_164 : decode cX4_takes 164 = .ok (.iaload, 1) := dk_46 (dk_at dksX4_takes_7 1 rfl rfl)
theorem dX4_takes_165 : decode cX4_takes 165 = .ok (.iastore, 1) := dk_79 (dk_at dksX4_takes_7 2 rfl rfl)
theorem dX4_takes_166 : decode cX4_takes 166 = .ok (.aload_n 0, 1) := dk_42 (dk_at dksX4_takes_7 3 rfl rfl)
theorem dX4_takes_167 : decode cX4_takes 167 = .ok (.getfield 61, 3) := dk_180 0 61 (dk_at dksX4_takes_7 4 rfl rfl)
theorem dX4_takes_170 : decode cX4_takes 170 = .ok (.iload_n 3, 1) := dk_29 (dk_at dksX4_takes_7 7 rfl rfl)
theorem dX4_takes_171 : decode cX4_takes 171 = .ok (.aload_n 0, 1) := dk_42 (dk_at dksX4_takes_7 8 rfl rfl)
theorem dX4_takes_172 : decode cX4_takes 172 = .ok (.getfield 61, 3) := dk_180 0 61 (dk_at dksX4_takes_7 9 rfl rfl)
theorem dX4_takes_175 : decode cX4_takes 175 = .ok (.iload_n 3, 1) := dk_29 (dk_at dksX4_takes_7 12 rfl rfl)
theorem dX4_takes_176 : decode cX4_takes 176 = .ok (.iconst 1, 1) := dk_4 (dk_at dksX4_takes_7 13 rfl rfl)
theorem dX4_takes_177 : decode cX4_takes 177 = .ok (.iadd, 1) := dk_96 (dk_at dksX4_takes_7 14 rfl rfl)
theorem dX4_takes_178 : decode cX4_takes 178 = .ok (.baload, 1) := dk_51 (dk_at dksX4_takes_7 15 rfl rfl)
theorem dX4_takes_179 : decode cX4_takes 179 = .ok (.bastore, 1) := dk_84 (dk_at dksX4_takes_7 16 rfl rfl)
theorem dX4_takes_180 : decode cX4_takes 180 = .ok (.iinc 3 1, 3) := dk_132 3 1 (dk_at dksX4_takes_7 17 rfl rfl)
theorem dX4_takes_183 : decode cX4_takes 183 = .ok (.goto (-95), 3) := dk_167 255 161 (dk_at dksX4_takes_7 20 rfl rfl)
theorem dX4_takes_186 : decode cX4_takes 186 = .ok (.return_, 1) := dk_177 (dk_at dksX4_takes_7 23 rfl rfl)
abbrev cX4_longest : ByteArray := prog_18_method_34_code
def yX4_longest : MethodName := ⟨RX4, "longest", "()I"⟩
def dkwX4_longest_1 : List UInt8 := [108, 4, 96, 167, 0, 4, 27, 60, 132, 2, 1, 167, 255, 225, 27, 172]
abbrev dktX4_longest_1 : List UInt8 := dkwX4_longest_1 ++ []
def dkwX4_longest_0 : List UInt8 := [3, 60, 3, 61, 28, 17, 2, 208, 162, 0, 30, 42, 180, 0, 64, 28, 46, 2, 159, 0, 12, 28, 16, 12]
abbrev dktX4_longest_0 : List UInt8 := dkwX4_longest_0 ++ dktX4_longest_1
theorem dksX4_longest_0 : cX4_longest.data.toList.drop 0 = dktX4_longest_0 := by decide +kernel
theorem dksX4_longest_1 : cX4_longest.data.toList.drop 24 = dktX4_longest_1 := dk_seg dksX4_longest_0 24 rfl rfl
theorem dX4_longest_0 : decode cX4_longest 0 = .ok (.iconst 0, 1) := dk_3 (dk_at dksX4_longest_0 0 rfl rfl)
theorem dX4_longest_1 : decode cX4_longest 1 = .ok (.istore_n 1, 1) := dk_60 (dk_at dksX4_longest_0 1 rfl rfl)
theorem dX4_longest_2 : decode cX4_longest 2 = .ok (.iconst 0, 1) := dk_3 (dk_at dksX4_longest_0 2 rfl rfl)
theorem dX4_longest_3 : decode cX4_longest 3 = .ok (.istore_n 2, 1) := dk_61 (dk_at dksX4_longest_0 3 rfl rfl)
theorem dX4_longest_4 : decode cX4_longest 4 = .ok (.iload_n 2, 1) := dk_28 (dk_at dksX4_longest_0 4 rfl rfl)
theorem dX4_longest_5 : decode cX4_longest 5 = .ok (.sipush 720, 3) := dk_17 2 208 (dk_at dksX4_longest_0 5 rfl rfl)
theorem dX4_longest_8 : decode cX4_longest 8 = .ok (.if_icmp .ge 30, 3) := dk_162 0 30 (dk_at dksX4_longest_0 8 rfl rfl)
theorem dX4_longest_11 : decode cX4_longest 11 = .ok (.aload_n 0, 1) := dk_42 (dk_at dksX4_longest_0 11 rfl rfl)
theorem dX4_longest_12 : decode cX4_longest 12 = .ok (.getfield 64, 3) := dk_180 0 64 (dk_at dksX4_longest_0 12 rfl rfl)
theorem dX4_longest_15 : decode cX4_longest 15 = .ok (.iload_n 2, 1) := dk_28 (dk_at dksX4_longest_0 15 rfl rfl)
theorem dX4_longest_16 : decode cX4_longest 16 = .ok (.iaload, 1) := dk_46 (dk_at dksX4_longest_0 16 rfl rfl)
theorem dX4_longest_17 : decode cX4_longest 17 = .ok (.iconst (-1), 1) := dk_2 (dk_at dksX4_longest_0 17 rfl rfl)
theorem dX4_longest_18 : decode cX4_longest 18 = .ok (.if_icmp .eq 12, 3) := dk_159 0 12 (dk_at dksX4_longest_0 18 rfl rfl)
theorem dX4_longest_21 : decode cX4_longest 21 = .ok (.iload_n 2, 1) := dk_28 (dk_at dksX4_longest_0 21 rfl rfl)
theorem dX4_longest_22 : decode cX4_longest 22 = .ok (.bipush 12, 2) := dk_16 12 (dk_at dksX4_longest_0 22 rfl rfl)
theorem dX4_longest_24 : decode cX4_longest 24 = .ok (.idiv, 1) := dk_108 (dk_at dksX4_longest_1 0 rfl rfl)
theorem dX4_longest_25 : decode cX4_longest 25 = .ok (.iconst 1, 1) := dk_4 (dk_at dksX4_longest_1 1 rfl rfl)
theorem dX4_longest_26 : decode cX4_longest 26 = .ok (.iadd, 1) := dk_96 (dk_at dksX4_longest_1 2 rfl rfl)
theorem dX4_longest_27 : decode cX4_longest 27 = .ok (.goto 4, 3) := dk_167 0 4 (dk_at dksX4_longest_1 3 rfl rfl)
theorem dX4_longest_30 : decode cX4_longest 30 = .ok (.iload_n 1, 1) := dk_27 (dk_at dksX4_longest_1 6 rfl rfl)
theorem dX4_longest_31 : decode cX4_longest 31 = .ok (.istore_n 1, 1) := dk_60 (dk_at dksX4_longest_1 7 rfl rfl)
theorem dX4_longest_32 : decode cX4_longest 32 = .ok (.iinc 2 1, 3) := dk_132 2 1 (dk_at dksX4_longest_1 8 rfl rfl)
theorem dX4_longest_35 : decode cX4_longest 35 = .ok (.goto (-31), 3) := dk_167 255 225 (dk_at dksX4_longest_1 11 rfl rfl)
theorem dX4_longest_38 : decode cX4_longest 38 = .ok (.iload_n 1, 1) := dk_27 (dk_at dksX4_longest_1 14 rfl rfl)
theorem dX4_longest_39 : decode cX4_longest 39 = .ok (.ireturn, 1) := dk_172 (dk_at dksX4_longest_1 15 rfl rfl)
abbrev cX4_clear : ByteArray := prog_18_method_36_code
def yX4_clear : MethodName := ⟨RX4, "clear", "()I"⟩
def dkwX4_clear_0 : List UInt8 := [42, 3, 181, 0, 109, 42, 180, 0, 112, 60, 42, 182, 0, 106, 27, 172]
abbrev dktX4_clear_0 : List UInt8 := dkwX4_clear_0 ++ []
theorem dksX4_clear_0 : cX4_clear.data.toList.drop 0 = dktX4_clear_0 := by decide +kernel
theorem dX4_clear_0 : decode cX4_clear 0 = .ok (.aload_n 0, 1) := dk_42 (dk_at dksX4_clear_0 0 rfl rfl)
theorem dX4_clear_1 : decode cX4_clear 1 = .ok (.iconst 0, 1) := dk_3 (dk_at dksX4_clear_0 1 rfl rfl)
theorem dX4_clear_2 : decode cX4_clear 2 = .ok (.putfield 109, 3) := dk_181 0 109 (dk_at dksX4_clear_0 2 rfl rfl)
theorem dX4_clear_5 : decode cX4_clear 5 = .ok (.aload_n 0, 1) := dk_42 (dk_at dksX4_clear_0 5 rfl rfl)
theorem dX4_clear_6 : decode cX4_clear 6 = .ok (.getfield 112, 3) := dk_180 0 112 (dk_at dksX4_clear_0 6 rfl rfl)
theorem dX4_clear_9 : decode cX4_clear 9 = .ok (.istore_n 1, 1) := dk_60 (dk_at dksX4_clear_0 9 rfl rfl)
theorem dX4_clear_10 : decode cX4_clear 10 = .ok (.aload_n 0, 1) := dk_42 (dk_at dksX4_clear_0 10 rfl rfl)
theorem dX4_clear_11 : decode cX4_clear 11 = .ok (.invokevirtual 106, 3) := dk_182 0 106 (dk_at dksX4_clear_0 11 rfl rfl)
theorem dX4_clear_14 : decode cX4_clear 14 = .ok (.iload_n 1, 1) := dk_27 (dk_at dksX4_clear_0 14 rfl rfl)
theorem dX4_clear_15 : decode cX4_clear 15 = .ok (.ireturn, 1) := dk_172 (dk_at dksX4_clear_0 15 rfl rfl)
abbrev cX4_inMarker : ByteArray := prog_18_method_37_code
def yX4_inMarker : MethodName := ⟨RX4, "inMarker", "()I"⟩
def dkwX4_inMarker_0 : List UInt8 := [42, 3, 181, 0, 109, 42, 180, 0, 112, 172]
abbrev dktX4_inMarker_0 : List UInt8 := dkwX4_inMarker_0 ++ []
theorem dksX4_inMarker_0 : cX4_inMarker.data.toList.drop 0 = dktX4_inMarker_0 := by decide +kernel
theorem dX4_inMarker_0 : decode cX4_inMarker 0 = .ok (.aload_n 0, 1) := dk_42 (dk_at dksX4_inMarker_0 0 rfl rfl)
theorem dX4_inMarker_1 : decode cX4_inMarker 1 = .ok (.iconst 0, 1) := dk_3 (dk_at dksX4_inMarker_0 1 rfl rfl)
theorem dX4_inMarker_2 : decode cX4_inMarker 2 = .ok (.putfield 109, 3) := dk_181 0 109 (dk_at dksX4_inMarker_0 2 rfl rfl)
theorem dX4_inMarker_5 : decode cX4_inMarker 5 = .ok (.aload_n 0, 1) := dk_42 (dk_at dksX4_inMarker_0 5 rfl rfl)
theorem dX4_inMarker_6 : decode cX4_inMarker 6 = .ok (.getfield 112, 3) := dk_180 0 112 (dk_at dksX4_inMarker_0 6 rfl rfl)
theorem dX4_inMarker_9 : decode cX4_inMarker 9 = .ok (.ireturn, 1) := dk_172 (dk_at dksX4_inMarker_0 9 rfl rfl)
abbrev cX4_rowOf : ByteArray := prog_18_method_38_code
def yX4_rowOf : MethodName := ⟨RX4, "rowOf", "(I)I"⟩
def dkwX4_rowOf_1 : List UInt8 := [167, 0, 13, 42, 180, 0, 52, 42, 27, 182, 0, 211, 46, 172]
abbrev dktX4_rowOf_1 : List UInt8 := dkwX4_rowOf_1 ++ []
def dkwX4_rowOf_0 : List UInt8 := [42, 42, 27, 182, 0, 211, 2, 160, 0, 7, 4, 167, 0, 4, 3, 182, 0, 129, 153, 0, 7, 3]
abbrev dktX4_rowOf_0 : List UInt8 := dkwX4_rowOf_0 ++ dktX4_rowOf_1
theorem dksX4_rowOf_0 : cX4_rowOf.data.toList.drop 0 = dktX4_rowOf_0 := by decide +kernel
theorem dksX4_rowOf_1 : cX4_rowOf.data.toList.drop 22 = dktX4_rowOf_1 := dk_seg dksX4_rowOf_0 22 rfl rfl
theorem dX4_rowOf_0 : decode cX4_rowOf 0 = .ok (.aload_n 0, 1) := dk_42 (dk_at dksX4_rowOf_0 0 rfl rfl)
theorem dX4_rowOf_1 : decode cX4_rowOf 1 = .ok (.aload_n 0, 1) := dk_42 (dk_at dksX4_rowOf_0 1 rfl rfl)
theorem dX4_rowOf_2 : decode cX4_rowOf 2 = .ok (.iload_n 1, 1) := dk_27 (dk_at dksX4_rowOf_0 2 rfl rfl)
theorem dX4_rowOf_3 : decode cX4_rowOf 3 = .ok (.invokevirtual 211, 3) := dk_182 0 211 (dk_at dksX4_rowOf_0 3 rfl rfl)
theorem dX4_rowOf_6 : decode cX4_rowOf 6 = .ok (.iconst (-1), 1) := dk_2 (dk_at dksX4_rowOf_0 6 rfl rfl)
theorem dX4_rowOf_7 : decode cX4_rowOf 7 = .ok (.if_icmp .ne 7, 3) := dk_160 0 7 (dk_at dksX4_rowOf_0 7 rfl rfl)
theorem dX4_rowOf_10 : decode cX4_rowOf 10 = .ok (.iconst 1, 1) := dk_4 (dk_at dksX4_rowOf_0 10 rfl rfl)
theorem dX4_rowOf_11 : decode cX4_rowOf 11 = .ok (.goto 4, 3) := dk_167 0 4 (dk_at dksX4_rowOf_0 11 rfl rfl)
theorem dX4_rowOf_14 : decode cX4_rowOf 14 = .ok (.iconst 0, 1) := dk_3 (dk_at dksX4_rowOf_0 14 rfl rfl)
theorem dX4_rowOf_15 : decode cX4_rowOf 15 = .ok (.invokevirtual 129, 3) := dk_182 0 129 (dk_at dksX4_rowOf_0 15 rfl rfl)
theorem dX4_rowOf_18 : decode cX4_rowOf 18 = .ok (.ifCond .eq 7, 3) := dk_153 0 7 (dk_at dksX4_rowOf_0 18 rfl rfl)
theorem dX4_rowOf_21 : decode cX4_rowOf 21 = .ok (.iconst 0, 1) := dk_3 (dk_at dksX4_rowOf_0 21 rfl rfl)
theorem dX4_rowOf_22 : decode cX4_rowOf 22 = .ok (.goto 13, 3) := dk_167 0 13 (dk_at dksX4_rowOf_1 0 rfl rfl)
theorem dX4_rowOf_25 : decode cX4_rowOf 25 = .ok (.aload_n 0, 1) := dk_42 (dk_at dksX4_rowOf_1 3 rfl rfl)
theorem dX4_rowOf_26 : decode cX4_rowOf 26 = .ok (.getfield 52, 3) := dk_180 0 52 (dk_at dksX4_rowOf_1 4 rfl rfl)
theorem dX4_rowOf_29 : decode cX4_rowOf 29 = .ok (.aload_n 0, 1) := dk_42 (dk_at dksX4_rowOf_1 7 rfl rfl)
theorem dX4_rowOf_30 : decode cX4_rowOf 30 = .ok (.iload_n 1, 1) := dk_27 (dk_at dksX4_rowOf_1 8 rfl rfl)
theorem dX4_rowOf_31 : decode cX4_rowOf 31 = .ok (.invokevirtual 211, 3) := dk_182 0 211 (dk_at dksX4_rowOf_1 9 rfl rfl)
theorem dX4_rowOf_34 : decode cX4_rowOf 34 = .ok (.iaload, 1) := dk_46 (dk_at dksX4_rowOf_1 12 rfl rfl)
theorem dX4_rowOf_35 : decode cX4_rowOf 35 = .ok (.ireturn, 1) := dk_172 (dk_at dksX4_rowOf_1 13 rfl rfl)
abbrev cX4_columnOf : ByteArray := prog_18_method_39_code
def yX4_columnOf : MethodName := ⟨RX4, "columnOf", "(I)I"⟩
def dkwX4_columnOf_1 : List UInt8 := [167, 0, 13, 42, 180, 0, 55, 42, 27, 182, 0, 211, 46, 172]
abbrev dktX4_columnOf_1 : List UInt8 := dkwX4_columnOf_1 ++ []
def dkwX4_columnOf_0 : List UInt8 := [42, 42, 27, 182, 0, 211, 2, 160, 0, 7, 4, 167, 0, 4, 3, 182, 0, 129, 153, 0, 7, 3]
abbrev dktX4_columnOf_0 : List UInt8 := dkwX4_columnOf_0 ++ dktX4_columnOf_1
theorem dksX4_columnOf_0 : cX4_columnOf.data.toList.drop 0 = dktX4_columnOf_0 := by decide +kernel
theorem dksX4_columnOf_1 : cX4_columnOf.data.toList.drop 22 = dktX4_columnOf_1 := dk_seg dksX4_columnOf_0 22 rfl rfl
theorem dX4_columnOf_0 : decode cX4_columnOf 0 = .ok (.aload_n 0, 1) := dk_42 (dk_at dksX4_columnOf_0 0 rfl rfl)
theorem dX4_columnOf_1 : decode cX4_columnOf 1 = .ok (.aload_n 0, 1) := dk_42 (dk_at dksX4_columnOf_0 1 rfl rfl)
theorem dX4_columnOf_2 : decode cX4_columnOf 2 = .ok (.iload_n 1, 1) := dk_27 (dk_at dksX4_columnOf_0 2 rfl rfl)
theorem dX4_columnOf_3 : decode cX4_columnOf 3 = .ok (.invokevirtual 211, 3) := dk_182 0 211 (dk_at dksX4_columnOf_0 3 rfl rfl)
theorem dX4_columnOf_6 : decode cX4_columnOf 6 = .ok (.iconst (-1), 1) := dk_2 (dk_at dksX4_columnOf_0 6 rfl rfl)
theorem dX4_columnOf_7 : decode cX4_columnOf 7 = .ok (.if_icmp .ne 7, 3) := dk_160 0 7 (dk_at dksX4_columnOf_0 7 rfl rfl)
theorem dX4_columnOf_10 : decode cX4_columnOf 10 = .ok (.iconst 1, 1) := dk_4 (dk_at dksX4_columnOf_0 10 rfl rfl)
theorem dX4_columnOf_11 : decode cX4_columnOf 11 = .ok (.goto 4, 3) := dk_167 0 4 (dk_at dksX4_columnOf_0 11 rfl rfl)
theorem dX4_columnOf_14 : decode cX4_columnOf 14 = .ok (.iconst 0, 1) := dk_3 (dk_at dksX4_columnOf_0 14 rfl rfl)
theorem dX4_columnOf_15 : decode cX4_columnOf 15 = .ok (.invokevirtual 129, 3) := dk_182 0 129 (dk_at dksX4_columnOf_0 15 rfl rfl)
theorem dX4_columnOf_18 : decode cX4_columnOf 18 = .ok (.ifCond .eq 7, 3) := dk_153 0 7 (dk_at dksX4_columnOf_0 18 rfl rfl)
theorem dX4_columnOf_21 : decode cX4_columnOf 21 = .ok (.iconst 0, 1) := dk_3 (dk_at dksX4_columnOf_0 21 rfl rfl)
theorem dX4_columnOf_22 : decode cX4_columnOf 22 = .ok (.goto 13, 3) := dk_167 0 13 (dk_at dksX4_columnOf_1 0 rfl rfl)
theorem dX4_columnOf_25 : decode cX4_columnOf 25 = .ok (.aload_n 0, 1) := dk_42 (dk_at dksX4_columnOf_1 3 rfl rfl)
theorem dX4_columnOf_26 : decode cX4_columnOf 26 = .ok (.getfield 55, 3) := dk_180 0 55 (dk_at dksX4_columnOf_1 4 rfl rfl)
theorem dX4_columnOf_29 : decode cX4_columnOf 29 = .ok (.aload_n 0, 1) := dk_42 (dk_at dksX4_columnOf_1 7 rfl rfl)
theorem dX4_columnOf_30 : decode cX4_columnOf 30 = .ok (.iload_n 1, 1) := dk_27 (dk_at dksX4_columnOf_1 8 rfl rfl)
theorem dX4_columnOf_31 : decode cX4_columnOf 31 = .ok (.invokevirtual 211, 3) := dk_182 0 211 (dk_at dksX4_columnOf_1 9 rfl rfl)
theorem dX4_columnOf_34 : decode cX4_columnOf 34 = .ok (.iaload, 1) := dk_46 (dk_at dksX4_columnOf_1 12 rfl rfl)
theorem dX4_columnOf_35 : decode cX4_columnOf 35 = .ok (.ireturn, 1) := dk_172 (dk_at dksX4_columnOf_1 13 rfl rfl)
abbrev cX4_turnsOf : ByteArray := prog_18_method_40_code
def yX4_turnsOf : MethodName := ⟨RX4, "turnsOf", "(I)I"⟩
def dkwX4_turnsOf_1 : List UInt8 := [167, 0, 13, 42, 180, 0, 58, 42, 27, 182, 0, 211, 46, 172]
abbrev dktX4_turnsOf_1 : List UInt8 := dkwX4_turnsOf_1 ++ []
def dkwX4_turnsOf_0 : List UInt8 := [42, 42, 27, 182, 0, 211, 2, 160, 0, 7, 4, 167, 0, 4, 3, 182, 0, 129, 153, 0, 7, 3]
abbrev dktX4_turnsOf_0 : List UInt8 := dkwX4_turnsOf_0 ++ dktX4_turnsOf_1
theorem dksX4_turnsOf_0 : cX4_turnsOf.data.toList.drop 0 = dktX4_turnsOf_0 := by decide +kernel
theorem dksX4_turnsOf_1 : cX4_turnsOf.data.toList.drop 22 = dktX4_turnsOf_1 := dk_seg dksX4_turnsOf_0 22 rfl rfl
theorem dX4_turnsOf_0 : decode cX4_turnsOf 0 = .ok (.aload_n 0, 1) := dk_42 (dk_at dksX4_turnsOf_0 0 rfl rfl)
theorem dX4_turnsOf_1 : decode cX4_turnsOf 1 = .ok (.aload_n 0, 1) := dk_42 (dk_at dksX4_turnsOf_0 1 rfl rfl)
theorem dX4_turnsOf_2 : decode cX4_turnsOf 2 = .ok (.iload_n 1, 1) := dk_27 (dk_at dksX4_turnsOf_0 2 rfl rfl)
theorem dX4_turnsOf_3 : decode cX4_turnsOf 3 = .ok (.invokevirtual 211, 3) := dk_182 0 211 (dk_at dksX4_turnsOf_0 3 rfl rfl)
theorem dX4_turnsOf_6 : decode cX4_turnsOf 6 = .ok (.iconst (-1), 1) := dk_2 (dk_at dksX4_turnsOf_0 6 rfl rfl)
theorem dX4_turnsOf_7 : decode cX4_turnsOf 7 = .ok (.if_icmp .ne 7, 3) := dk_160 0 7 (dk_at dksX4_turnsOf_0 7 rfl rfl)
theorem dX4_turnsOf_10 : decode cX4_turnsOf 10 = .ok (.iconst 1, 1) := dk_4 (dk_at dksX4_turnsOf_0 10 rfl rfl)
theorem dX4_turnsOf_11 : decode cX4_turnsOf 11 = .ok (.goto 4, 3) := dk_167 0 4 (dk_at dksX4_turnsOf_0 11 rfl rfl)
theorem dX4_turnsOf_14 : decode cX4_turnsOf 14 = .ok (.iconst 0, 1) := dk_3 (dk_at dksX4_turnsOf_0 14 rfl rfl)
theorem dX4_turnsOf_15 : decode cX4_turnsOf 15 = .ok (.invokevirtual 129, 3) := dk_182 0 129 (dk_at dksX4_turnsOf_0 15 rfl rfl)
theorem dX4_turnsOf_18 : decode cX4_turnsOf 18 = .ok (.ifCond .eq 7, 3) := dk_153 0 7 (dk_at dksX4_turnsOf_0 18 rfl rfl)
theorem dX4_turnsOf_21 : decode cX4_turnsOf 21 = .ok (.iconst 0, 1) := dk_3 (dk_at dksX4_turnsOf_0 21 rfl rfl)
theorem dX4_turnsOf_22 : decode cX4_turnsOf 22 = .ok (.goto 13, 3) := dk_167 0 13 (dk_at dksX4_turnsOf_1 0 rfl rfl)
theorem dX4_turnsOf_25 : decode cX4_turnsOf 25 = .ok (.aload_n 0, 1) := dk_42 (dk_at dksX4_turnsOf_1 3 rfl rfl)
theorem dX4_turnsOf_26 : decode cX4_turnsOf 26 = .ok (.getfield 58, 3) := dk_180 0 58 (dk_at dksX4_turnsOf_1 4 rfl rfl)
theorem dX4_turnsOf_29 : decode cX4_turnsOf 29 = .ok (.aload_n 0, 1) := dk_42 (dk_at dksX4_turnsOf_1 7 rfl rfl)
theorem dX4_turnsOf_30 : decode cX4_turnsOf 30 = .ok (.iload_n 1, 1) := dk_27 (dk_at dksX4_turnsOf_1 8 rfl rfl)
theorem dX4_turnsOf_31 : decode cX4_turnsOf 31 = .ok (.invokevirtual 211, 3) := dk_182 0 211 (dk_at dksX4_turnsOf_1 9 rfl rfl)
theorem dX4_turnsOf_34 : decode cX4_turnsOf 34 = .ok (.iaload, 1) := dk_46 (dk_at dksX4_turnsOf_1 12 rfl rfl)
theorem dX4_turnsOf_35 : decode cX4_turnsOf 35 = .ok (.ireturn, 1) := dk_172 (dk_at dksX4_turnsOf_1 13 rfl rfl)
abbrev cX4_pieceAt : ByteArray := prog_18_method_41_code
def yX4_pieceAt : MethodName := ⟨RX4, "pieceAt", "(II)I"⟩
def dkwX4_pieceAt_3 : List UInt8 := [27, 104, 28, 96, 46, 172]
abbrev dktX4_pieceAt_3 : List UInt8 := dkwX4_pieceAt_3 ++ []
def dkwX4_pieceAt_2 : List UInt8 := [160, 0, 7, 5, 167, 0, 4, 3, 182, 0, 129, 153, 0, 7, 3, 167, 0, 14, 42, 180, 0, 64, 16, 12]
abbrev dktX4_pieceAt_2 : List UInt8 := dkwX4_pieceAt_2 ++ dktX4_pieceAt_3
def dkwX4_pieceAt_1 : List UInt8 := [3, 62, 42, 29, 154, 0, 7, 4, 167, 0, 23, 42, 180, 0, 64, 16, 12, 27, 104, 28, 96, 46, 2]
abbrev dktX4_pieceAt_1 : List UInt8 := dkwX4_pieceAt_1 ++ dktX4_pieceAt_2
def dkwX4_pieceAt_0 : List UInt8 := [27, 3, 16, 59, 184, 0, 122, 153, 0, 17, 28, 3, 16, 11, 184, 0, 122, 153, 0, 7, 4, 167, 0, 4]
abbrev dktX4_pieceAt_0 : List UInt8 := dkwX4_pieceAt_0 ++ dktX4_pieceAt_1
theorem dksX4_pieceAt_0 : cX4_pieceAt.data.toList.drop 0 = dktX4_pieceAt_0 := by decide +kernel
theorem dksX4_pieceAt_1 : cX4_pieceAt.data.toList.drop 24 = dktX4_pieceAt_1 := dk_seg dksX4_pieceAt_0 24 rfl rfl
theorem dksX4_pieceAt_2 : cX4_pieceAt.data.toList.drop 47 = dktX4_pieceAt_2 := dk_seg dksX4_pieceAt_1 23 rfl rfl
theorem dksX4_pieceAt_3 : cX4_pieceAt.data.toList.drop 71 = dktX4_pieceAt_3 := dk_seg dksX4_pieceAt_2 24 rfl rfl
theorem dX4_pieceAt_0 : decode cX4_pieceAt 0 = .ok (.iload_n 1, 1) := dk_27 (dk_at dksX4_pieceAt_0 0 rfl rfl)
theorem dX4_pieceAt_1 : decode cX4_pieceAt 1 = .ok (.iconst 0, 1) := dk_3 (dk_at dksX4_pieceAt_0 1 rfl rfl)
theorem dX4_pieceAt_2 : decode cX4_pieceAt 2 = .ok (.bipush 59, 2) := dk_16 59 (dk_at dksX4_pieceAt_0 2 rfl rfl)
theorem dX4_pieceAt_4 : decode cX4_pieceAt 4 = .ok (.invokestatic 122, 3) := dk_184 0 122 (dk_at dksX4_pieceAt_0 4 rfl rfl)
theorem dX4_pieceAt_7 : decode cX4_pieceAt 7 = .ok (.ifCond .eq 17, 3) := dk_153 0 17 (dk_at dksX4_pieceAt_0 7 rfl rfl)
theorem dX4_pieceAt_10 : decode cX4_pieceAt 10 = .ok (.iload_n 2, 1) := dk_28 (dk_at dksX4_pieceAt_0 10 rfl rfl)
theorem dX4_pieceAt_11 : decode cX4_pieceAt 11 = .ok (.iconst 0, 1) := dk_3 (dk_at dksX4_pieceAt_0 11 rfl rfl)
theorem dX4_pieceAt_12 : decode cX4_pieceAt 12 = .ok (.bipush 11, 2) := dk_16 11 (dk_at dksX4_pieceAt_0 12 rfl rfl)
theorem dX4_pieceAt_14 : decode cX4_pieceAt 14 = .ok (.invokestatic 122, 3) := dk_184 0 122 (dk_at dksX4_pieceAt_0 14 rfl rfl)
theorem dX4_pieceAt_17 : decode cX4_pieceAt 17 = .ok (.ifCond .eq 7, 3) := dk_153 0 7 (dk_at dksX4_pieceAt_0 17 rfl rfl)
theorem dX4_pieceAt_20 : decode cX4_pieceAt 20 = .ok (.iconst 1, 1) := dk_4 (dk_at dksX4_pieceAt_0 20 rfl rfl)
theorem dX4_pieceAt_21 : decode cX4_pieceAt 21 = .ok (.goto 4, 3) := dk_167 0 4 (dk_at dksX4_pieceAt_0 21 rfl rfl)
theorem dX4_pieceAt_24 : decode cX4_pieceAt 24 = .ok (.iconst 0, 1) := dk_3 (dk_at dksX4_pieceAt_1 0 rfl rfl)
theorem dX4_pieceAt_25 : decode cX4_pieceAt 25 = .ok (.istore_n 3, 1) := dk_62 (dk_at dksX4_pieceAt_1 1 rfl rfl)
theorem dX4_pieceAt_26 : decode cX4_pieceAt 26 = .ok (.aload_n 0, 1) := dk_42 (dk_at dksX4_pieceAt_1 2 rfl rfl)
theorem dX4_pieceAt_27 : decode cX4_pieceAt 27 = .ok (.iload_n 3, 1) := dk_29 (dk_at dksX4_pieceAt_1 3 rfl rfl)
theorem dX4_pieceAt_28 : decode cX4_pieceAt 28 = .ok (.ifCond .ne 7, 3) := dk_154 0 7 (dk_at dksX4_pieceAt_1 4 rfl rfl)
theorem dX4_pieceAt_31 : decode cX4_pieceAt 31 = .ok (.iconst 1, 1) := dk_4 (dk_at dksX4_pieceAt_1 7 rfl rfl)
theorem dX4_pieceAt_32 : decode cX4_pieceAt 32 = .ok (.goto 23, 3) := dk_167 0 23 (dk_at dksX4_pieceAt_1 8 rfl rfl)
theorem dX4_pieceAt_35 : decode cX4_pieceAt 35 = .ok (.aload_n 0, 1) := dk_42 (dk_at dksX4_pieceAt_1 11 rfl rfl)
theorem dX4_pieceAt_36 : decode cX4_pieceAt 36 = .ok (.getfield 64, 3) := dk_180 0 64 (dk_at dksX4_pieceAt_1 12 rfl rfl)
theorem dX4_pieceAt_39 : decode cX4_pieceAt 39 = .ok (.bipush 12, 2) := dk_16 12 (dk_at dksX4_pieceAt_1 15 rfl rfl)
theorem dX4_pieceAt_41 : decode cX4_pieceAt 41 = .ok (.iload_n 1, 1) := dk_27 (dk_at dksX4_pieceAt_1 17 rfl rfl)
theorem dX4_pieceAt_42 : decode cX4_pieceAt 42 = .ok (.imul, 1) := dk_104 (dk_at dksX4_pieceAt_1 18 rfl rfl)
theorem dX4_pieceAt_43 : decode cX4_pieceAt 43 = .ok (.iload_n 2, 1) := dk_28 (dk_at dksX4_pieceAt_1 19 rfl rfl)
theorem dX4_pieceAt_44 : decode cX4_pieceAt 44 = .ok (.iadd, 1) := dk_96 (dk_at dksX4_pieceAt_1 20 rfl rfl)
theorem dX4_pieceAt_45 : decode cX4_pieceAt 45 = .ok (.iaload, 1) := dk_46 (dk_at dksX4_pieceAt_1 21 rfl rfl)
theorem dX4_pieceAt_46 : decode cX4_pieceAt 46 = .ok (.iconst (-1), 1) := dk_2 (dk_at dksX4_pieceAt_1 22 rfl rfl)
theorem dX4_pieceAt_47 : decode cX4_pieceAt 47 = .ok (.if_icmp .ne 7, 3) := dk_160 0 7 (dk_at dksX4_pieceAt_2 0 rfl rfl)
theorem dX4_pieceAt_50 : decode cX4_pieceAt 50 = .ok (.iconst 2, 1) := dk_5 (dk_at dksX4_pieceAt_2 3 rfl rfl)
theorem dX4_pieceAt_51 : decode cX4_pieceAt 51 = .ok (.goto 4, 3) := dk_167 0 4 (dk_at dksX4_pieceAt_2 4 rfl rfl)
theorem dX4_pieceAt_54 : decode cX4_pieceAt 54 = .ok (.iconst 0, 1) := dk_3 (dk_at dksX4_pieceAt_2 7 rfl rfl)
theorem dX4_pieceAt_55 : decode cX4_pieceAt 55 = .ok (.invokevirtual 129, 3) := dk_182 0 129 (dk_at dksX4_pieceAt_2 8 rfl rfl)
theorem dX4_pieceAt_58 : decode cX4_pieceAt 58 = .ok (.ifCond .eq 7, 3) := dk_153 0 7 (dk_at dksX4_pieceAt_2 11 rfl rfl)
theorem dX4_pieceAt_61 : decode cX4_pieceAt 61 = .ok (.iconst 0, 1) := dk_3 (dk_at dksX4_pieceAt_2 14 rfl rfl)
theorem dX4_pieceAt_62 : decode cX4_pieceAt 62 = .ok (.goto 14, 3) := dk_167 0 14 (dk_at dksX4_pieceAt_2 15 rfl rfl)
theorem dX4_pieceAt_65 : decode cX4_pieceAt 65 = .ok (.aload_n 0, 1) := dk_42 (dk_at dksX4_pieceAt_2 18 rfl rfl)
theorem dX4_pieceAt_66 : decode cX4_pieceAt 66 = .ok (.getfield 64, 3) := dk_180 0 64 (dk_at dksX4_pieceAt_2 19 rfl rfl)
theorem dX4_pieceAt_69 : decode cX4_pieceAt 69 = .ok (.bipush 12, 2) := dk_16 12 (dk_at dksX4_pieceAt_2 22 rfl rfl)
theorem dX4_pieceAt_71 : decode cX4_pieceAt 71 = .ok (.iload_n 1, 1) := dk_27 (dk_at dksX4_pieceAt_3 0 rfl rfl)
theorem dX4_pieceAt_72 : decode cX4_pieceAt 72 = .ok (.imul, 1) := dk_104 (dk_at dksX4_pieceAt_3 1 rfl rfl)
theorem dX4_pieceAt_73 : decode cX4_pieceAt 73 = .ok (.iload_n 2, 1) := dk_28 (dk_at dksX4_pieceAt_3 2 rfl rfl)
theorem dX4_pieceAt_74 : decode cX4_pieceAt 74 = .ok (.iadd, 1) := dk_96 (dk_at dksX4_pieceAt_3 3 rfl rfl)
theorem dX4_pieceAt_75 : decode cX4_pieceAt 75 = .ok (.iaload, 1) := dk_46 (dk_at dksX4_pieceAt_3 4 rfl rfl)
theorem dX4_pieceAt_76 : decode cX4_pieceAt 76 = .ok (.ireturn, 1) := dk_172 (dk_at dksX4_pieceAt_3 5 rfl rfl)
abbrev cX4_pieceByPieces : ByteArray := prog_18_method_42_code
def yX4_pieceByPieces : MethodName := ⟨RX4, "pieceByPieces", "(II)I"⟩
def dkwX4_pieceByPieces_0 : List UInt8 := [42, 27, 28, 182, 0, 221, 172]
abbrev dktX4_pieceByPieces_0 : List UInt8 := dkwX4_pieceByPieces_0 ++ []
theorem dksX4_pieceByPieces_0 : cX4_pieceByPieces.data.toList.drop 0 = dktX4_pieceByPieces_0 := by decide +kernel
theorem dX4_pieceByPieces_0 : decode cX4_pieceByPieces 0 = .ok (.aload_n 0, 1) := dk_42 (dk_at dksX4_pieceByPieces_0 0 rfl rfl)
theorem dX4_pieceByPieces_1 : decode cX4_pieceByPieces 1 = .ok (.iload_n 1, 1) := dk_27 (dk_at dksX4_pieceByPieces_0 1 rfl rfl)
theorem dX4_pieceByPieces_2 : decode cX4_pieceByPieces 2 = .ok (.iload_n 2, 1) := dk_28 (dk_at dksX4_pieceByPieces_0 2 rfl rfl)
theorem dX4_pieceByPieces_3 : decode cX4_pieceByPieces 3 = .ok (.invokevirtual 221, 3) := dk_182 0 221 (dk_at dksX4_pieceByPieces_0 3 rfl rfl)
theorem dX4_pieceByPieces_6 : decode cX4_pieceByPieces 6 = .ok (.ireturn, 1) := dk_172 (dk_at dksX4_pieceByPieces_0 6 rfl rfl)
abbrev cX4_length : ByteArray := prog_18_method_43_code
def yX4_length : MethodName := ⟨RX4, "length", "()I"⟩
def dkwX4_length_0 : List UInt8 := [42, 3, 181, 0, 109, 42, 182, 0, 218, 172]
abbrev dktX4_length_0 : List UInt8 := dkwX4_length_0 ++ []
theorem dksX4_length_0 : cX4_length.data.toList.drop 0 = dktX4_length_0 := by decide +kernel
theorem dX4_length_0 : decode cX4_length 0 = .ok (.aload_n 0, 1) := dk_42 (dk_at dksX4_length_0 0 rfl rfl)
theorem dX4_length_1 : decode cX4_length 1 = .ok (.iconst 0, 1) := dk_3 (dk_at dksX4_length_0 1 rfl rfl)
theorem dX4_length_2 : decode cX4_length 2 = .ok (.putfield 109, 3) := dk_181 0 109 (dk_at dksX4_length_0 2 rfl rfl)
theorem dX4_length_5 : decode cX4_length 5 = .ok (.aload_n 0, 1) := dk_42 (dk_at dksX4_length_0 5 rfl rfl)
theorem dX4_length_6 : decode cX4_length 6 = .ok (.invokevirtual 218, 3) := dk_182 0 218 (dk_at dksX4_length_0 6 rfl rfl)
theorem dX4_length_9 : decode cX4_length 9 = .ok (.ireturn, 1) := dk_172 (dk_at dksX4_length_0 9 rfl rfl)
abbrev cX4_used : ByteArray := prog_18_method_45_code
def yX4_used : MethodName := ⟨RX4, "used", "()I"⟩
def dkwX4_used_0 : List UInt8 := [42, 3, 181, 0, 109, 42, 182, 0, 224, 172]
abbrev dktX4_used_0 : List UInt8 := dkwX4_used_0 ++ []
theorem dksX4_used_0 : cX4_used.data.toList.drop 0 = dktX4_used_0 := by decide +kernel
theorem dX4_used_0 : decode cX4_used 0 = .ok (.aload_n 0, 1) := dk_42 (dk_at dksX4_used_0 0 rfl rfl)
theorem dX4_used_1 : decode cX4_used 1 = .ok (.iconst 0, 1) := dk_3 (dk_at dksX4_used_0 1 rfl rfl)
theorem dX4_used_2 : decode cX4_used 2 = .ok (.putfield 109, 3) := dk_181 0 109 (dk_at dksX4_used_0 2 rfl rfl)
theorem dX4_used_5 : decode cX4_used 5 = .ok (.aload_n 0, 1) := dk_42 (dk_at dksX4_used_0 5 rfl rfl)
theorem dX4_used_6 : decode cX4_used 6 = .ok (.invokevirtual 224, 3) := dk_182 0 224 (dk_at dksX4_used_0 6 rfl rfl)
theorem dX4_used_9 : decode cX4_used 9 = .ok (.ireturn, 1) := dk_172 (dk_at dksX4_used_0 9 rfl rfl)
abbrev cX4_cellsUsed : ByteArray := prog_18_method_44_code
def yX4_cellsUsed : MethodName := ⟨RX4, "cellsUsed", "()I"⟩
def dkwX4_cellsUsed_1 : List UInt8 := [96, 60, 132, 2, 1, 167, 255, 231, 27, 172]
abbrev dktX4_cellsUsed_1 : List UInt8 := dkwX4_cellsUsed_1 ++ []
def dkwX4_cellsUsed_0 : List UInt8 := [3, 60, 3, 61, 28, 42, 180, 0, 112, 162, 0, 23, 27, 42, 180, 0, 27, 42, 180, 0, 49, 28, 46, 46]
abbrev dktX4_cellsUsed_0 : List UInt8 := dkwX4_cellsUsed_0 ++ dktX4_cellsUsed_1
theorem dksX4_cellsUsed_0 : cX4_cellsUsed.data.toList.drop 0 = dktX4_cellsUsed_0 := by decide +kernel
theorem dksX4_cellsUsed_1 : cX4_cellsUsed.data.toList.drop 24 = dktX4_cellsUsed_1 := dk_seg dksX4_cellsUsed_0 24 rfl rfl
theorem dX4_cellsUsed_0 : decode cX4_cellsUsed 0 = .ok (.iconst 0, 1) := dk_3 (dk_at dksX4_cellsUsed_0 0 rfl rfl)
theorem dX4_cellsUsed_1 : decode cX4_cellsUsed 1 = .ok (.istore_n 1, 1) := dk_60 (dk_at dksX4_cellsUsed_0 1 rfl rfl)
theorem dX4_cellsUsed_2 : decode cX4_cellsUsed 2 = .ok (.iconst 0, 1) := dk_3 (dk_at dksX4_cellsUsed_0 2 rfl rfl)
theorem dX4_cellsUsed_3 : decode cX4_cellsUsed 3 = .ok (.istore_n 2, 1) := dk_61 (dk_at dksX4_cellsUsed_0 3 rfl rfl)
theorem dX4_cellsUsed_4 : decode cX4_cellsUsed 4 = .ok (.iload_n 2, 1) := dk_28 (dk_at dksX4_cellsUsed_0 4 rfl rfl)
theorem dX4_cellsUsed_5 : decode cX4_cellsUsed 5 = .ok (.aload_n 0, 1) := dk_42 (dk_at dksX4_cellsUsed_0 5 rfl rfl)
theorem dX4_cellsUsed_6 : decode cX4_cellsUsed 6 = .ok (.getfield 112, 3) := dk_180 0 112 (dk_at dksX4_cellsUsed_0 6 rfl rfl)
theorem dX4_cellsUsed_9 : decode cX4_cellsUsed 9 = .ok (.if_icmp .ge 23, 3) := dk_162 0 23 (dk_at dksX4_cellsUsed_0 9 rfl rfl)
theorem dX4_cellsUsed_12 : decode cX4_cellsUsed 12 = .ok (.iload_n 1, 1) := dk_27 (dk_at dksX4_cellsUsed_0 12 rfl rfl)
theorem dX4_cellsUsed_13 : decode cX4_cellsUsed 13 = .ok (.aload_n 0, 1) := dk_42 (dk_at dksX4_cellsUsed_0 13 rfl rfl)
theorem dX4_cellsUsed_14 : decode cX4_cellsUsed 14 = .ok (.getfield 27, 3) := dk_180 0 27 (dk_at dksX4_cellsUsed_0 14 rfl rfl)
theorem dX4_cellsUsed_17 : decode cX4_cellsUsed 17 = .ok (.aload_n 0, 1) := dk_42 (dk_at dksX4_cellsUsed_0 17 rfl rfl)
theorem dX4_cellsUsed_18 : decode cX4_cellsUsed 18 = .ok (.getfield 49, 3) := dk_180 0 49 (dk_at dksX4_cellsUsed_0 18 rfl rfl)
theorem dX4_cellsUsed_21 : decode cX4_cellsUsed 21 = .ok (.iload_n 2, 1) := dk_28 (dk_at dksX4_cellsUsed_0 21 rfl rfl)
theorem dX4_cellsUsed_22 : decode cX4_cellsUsed 22 = .ok (.iaload, 1) := dk_46 (dk_at dksX4_cellsUsed_0 22 rfl rfl)
theorem dX4_cellsUsed_23 : decode cX4_cellsUsed 23 = .ok (.iaload, 1) := dk_46 (dk_at dksX4_cellsUsed_0 23 rfl rfl)
theorem dX4_cellsUsed_24 : decode cX4_cellsUsed 24 = .ok (.iadd, 1) := dk_96 (dk_at dksX4_cellsUsed_1 0 rfl rfl)
theorem dX4_cellsUsed_25 : decode cX4_cellsUsed 25 = .ok (.istore_n 1, 1) := dk_60 (dk_at dksX4_cellsUsed_1 1 rfl rfl)
theorem dX4_cellsUsed_26 : decode cX4_cellsUsed 26 = .ok (.iinc 2 1, 3) := dk_132 2 1 (dk_at dksX4_cellsUsed_1 2 rfl rfl)
theorem dX4_cellsUsed_29 : decode cX4_cellsUsed 29 = .ok (.goto (-25), 3) := dk_167 255 231 (dk_at dksX4_cellsUsed_1 5 rfl rfl)
theorem dX4_cellsUsed_32 : decode cX4_cellsUsed 32 = .ok (.iload_n 1, 1) := dk_27 (dk_at dksX4_cellsUsed_1 8 rfl rfl)
theorem dX4_cellsUsed_33 : decode cX4_cellsUsed 33 = .ok (.ireturn, 1) := dk_172 (dk_at dksX4_cellsUsed_1 9 rfl rfl)
abbrev cX4_phase : ByteArray := prog_18_method_46_code
def yX4_phase : MethodName := ⟨RX4, "phase", "(I)I"⟩
def dkwX4_phase_2 : List UInt8 := [180, 0, 67, 27, 46, 172]
abbrev dktX4_phase_2 : List UInt8 := dkwX4_phase_2 ++ []
def dkwX4_phase_1 : List UInt8 := [180, 0, 70, 27, 46, 154, 0, 7, 5, 167, 0, 4, 3, 182, 0, 129, 153, 0, 7, 3, 167, 0, 9, 42]
abbrev dktX4_phase_1 : List UInt8 := dkwX4_phase_1 ++ dktX4_phase_2
def dkwX4_phase_0 : List UInt8 := [42, 27, 3, 6, 184, 0, 122, 154, 0, 7, 4, 167, 0, 25, 42, 180, 0, 136, 5, 161, 0, 12, 42]
abbrev dktX4_phase_0 : List UInt8 := dkwX4_phase_0 ++ dktX4_phase_1
theorem dksX4_phase_0 : cX4_phase.data.toList.drop 0 = dktX4_phase_0 := by decide +kernel
theorem dksX4_phase_1 : cX4_phase.data.toList.drop 23 = dktX4_phase_1 := dk_seg dksX4_phase_0 23 rfl rfl
theorem dksX4_phase_2 : cX4_phase.data.toList.drop 47 = dktX4_phase_2 := dk_seg dksX4_phase_1 24 rfl rfl
theorem dX4_phase_0 : decode cX4_phase 0 = .ok (.aload_n 0, 1) := dk_42 (dk_at dksX4_phase_0 0 rfl rfl)
theorem dX4_phase_1 : decode cX4_phase 1 = .ok (.iload_n 1, 1) := dk_27 (dk_at dksX4_phase_0 1 rfl rfl)
theorem dX4_phase_2 : decode cX4_phase 2 = .ok (.iconst 0, 1) := dk_3 (dk_at dksX4_phase_0 2 rfl rfl)
theorem dX4_phase_3 : decode cX4_phase 3 = .ok (.iconst 3, 1) := dk_6 (dk_at dksX4_phase_0 3 rfl rfl)
theorem dX4_phase_4 : decode cX4_phase 4 = .ok (.invokestatic 122, 3) := dk_184 0 122 (dk_at dksX4_phase_0 4 rfl rfl)
theorem dX4_phase_7 : decode cX4_phase 7 = .ok (.ifCond .ne 7, 3) := dk_154 0 7 (dk_at dksX4_phase_0 7 rfl rfl)
theorem dX4_phase_10 : decode cX4_phase 10 = .ok (.iconst 1, 1) := dk_4 (dk_at dksX4_phase_0 10 rfl rfl)
theorem dX4_phase_11 : decode cX4_phase 11 = .ok (.goto 25, 3) := dk_167 0 25 (dk_at dksX4_phase_0 11 rfl rfl)
theorem dX4_phase_14 : decode cX4_phase 14 = .ok (.aload_n 0, 1) := dk_42 (dk_at dksX4_phase_0 14 rfl rfl)
theorem dX4_phase_15 : decode cX4_phase 15 = .ok (.getfield 136, 3) := dk_180 0 136 (dk_at dksX4_phase_0 15 rfl rfl)
theorem dX4_phase_18 : decode cX4_phase 18 = .ok (.iconst 2, 1) := dk_5 (dk_at dksX4_phase_0 18 rfl rfl)
theorem dX4_phase_19 : decode cX4_phase 19 = .ok (.if_icmp .lt 12, 3) := dk_161 0 12 (dk_at dksX4_phase_0 19 rfl rfl)
theorem dX4_phase_22 : decode cX4_phase 22 = .ok (.aload_n 0, 1) := dk_42 (dk_at dksX4_phase_0 22 rfl rfl)
theorem dX4_phase_23 : decode cX4_phase 23 = .ok (.getfield 70, 3) := dk_180 0 70 (dk_at dksX4_phase_1 0 rfl rfl)
theorem dX4_phase_26 : decode cX4_phase 26 = .ok (.iload_n 1, 1) := dk_27 (dk_at dksX4_phase_1 3 rfl rfl)
theorem dX4_phase_27 : decode cX4_phase 27 = .ok (.iaload, 1) := dk_46 (dk_at dksX4_phase_1 4 rfl rfl)
theorem dX4_phase_28 : decode cX4_phase 28 = .ok (.ifCond .ne 7, 3) := dk_154 0 7 (dk_at dksX4_phase_1 5 rfl rfl)
theorem dX4_phase_31 : decode cX4_phase 31 = .ok (.iconst 2, 1) := dk_5 (dk_at dksX4_phase_1 8 rfl rfl)
theorem dX4_phase_32 : decode cX4_phase 32 = .ok (.goto 4, 3) := dk_167 0 4 (dk_at dksX4_phase_1 9 rfl rfl)
theorem dX4_phase_35 : decode cX4_phase 35 = .ok (.iconst 0, 1) := dk_3 (dk_at dksX4_phase_1 12 rfl rfl)
theorem dX4_phase_36 : decode cX4_phase 36 = .ok (.invokevirtual 129, 3) := dk_182 0 129 (dk_at dksX4_phase_1 13 rfl rfl)
theorem dX4_phase_39 : decode cX4_phase 39 = .ok (.ifCond .eq 7, 3) := dk_153 0 7 (dk_at dksX4_phase_1 16 rfl rfl)
theorem dX4_phase_42 : decode cX4_phase 42 = .ok (.iconst 0, 1) := dk_3 (dk_at dksX4_phase_1 19 rfl rfl)
theorem dX4_phase_43 : decode cX4_phase 43 = .ok (.goto 9, 3) := dk_167 0 9 (dk_at dksX4_phase_1 20 rfl rfl)
theorem dX4_phase_46 : decode cX4_phase 46 = .ok (.aload_n 0, 1) := dk_42 (dk_at dksX4_phase_1 23 rfl rfl)
theorem dX4_phase_47 : decode cX4_phase 47 = .ok (.getfield 67, 3) := dk_180 0 67 (dk_at dksX4_phase_2 0 rfl rfl)
theorem dX4_phase_50 : decode cX4_phase 50 = .ok (.iload_n 1, 1) := dk_27 (dk_at dksX4_phase_2 3 rfl rfl)
theorem dX4_phase_51 : decode cX4_phase 51 = .ok (.iaload, 1) := dk_46 (dk_at dksX4_phase_2 4 rfl rfl)
theorem dX4_phase_52 : decode cX4_phase 52 = .ok (.ireturn, 1) := dk_172 (dk_at dksX4_phase_2 5 rfl rfl)
abbrev cX4_addStyle : ByteArray := prog_18_method_48_code
def yX4_addStyle : MethodName := ⟨RX4, "addStyle", "()I"⟩
def dkwX4_addStyle_1 : List UInt8 := [180, 0, 227, 4, 96, 181, 0, 227, 42, 180, 0, 227, 4, 100, 172]
abbrev dktX4_addStyle_1 : List UInt8 := dkwX4_addStyle_1 ++ []
def dkwX4_addStyle_0 : List UInt8 := [42, 42, 180, 0, 227, 7, 160, 0, 7, 4, 167, 0, 4, 3, 182, 0, 129, 153, 0, 5, 3, 172, 42, 89]
abbrev dktX4_addStyle_0 : List UInt8 := dkwX4_addStyle_0 ++ dktX4_addStyle_1
theorem dksX4_addStyle_0 : cX4_addStyle.data.toList.drop 0 = dktX4_addStyle_0 := by decide +kernel
theorem dksX4_addStyle_1 : cX4_addStyle.data.toList.drop 24 = dktX4_addStyle_1 := dk_seg dksX4_addStyle_0 24 rfl rfl
theorem dX4_addStyle_0 : decode cX4_addStyle 0 = .ok (.aload_n 0, 1) := dk_42 (dk_at dksX4_addStyle_0 0 rfl rfl)
theorem dX4_addStyle_1 : decode cX4_addStyle 1 = .ok (.aload_n 0, 1) := dk_42 (dk_at dksX4_addStyle_0 1 rfl rfl)
theorem dX4_addStyle_2 : decode cX4_addStyle 2 = .ok (.getfield 227, 3) := dk_180 0 227 (dk_at dksX4_addStyle_0 2 rfl rfl)
theorem dX4_addStyle_5 : decode cX4_addStyle 5 = .ok (.iconst 4, 1) := dk_7 (dk_at dksX4_addStyle_0 5 rfl rfl)
theorem dX4_addStyle_6 : decode cX4_addStyle 6 = .ok (.if_icmp .ne 7, 3) := dk_160 0 7 (dk_at dksX4_addStyle_0 6 rfl rfl)
theorem dX4_addStyle_9 : decode cX4_addStyle 9 = .ok (.iconst 1, 1) := dk_4 (dk_at dksX4_addStyle_0 9 rfl rfl)
theorem dX4_addStyle_10 : decode cX4_addStyle 10 = .ok (.goto 4, 3) := dk_167 0 4 (dk_at dksX4_addStyle_0 10 rfl rfl)
theorem dX4_addStyle_13 : decode cX4_addStyle 13 = .ok (.iconst 0, 1) := dk_3 (dk_at dksX4_addStyle_0 13 rfl rfl)
theorem dX4_addStyle_14 : decode cX4_addStyle 14 = .ok (.invokevirtual 129, 3) := dk_182 0 129 (dk_at dksX4_addStyle_0 14 rfl rfl)
theorem dX4_addStyle_17 : decode cX4_addStyle 17 = .ok (.ifCond .eq 5, 3) := dk_153 0 5 (dk_at dksX4_addStyle_0 17 rfl rfl)
theorem dX4_addStyle_20 : decode cX4_addStyle 20 = .ok (.iconst 0, 1) := dk_3 (dk_at dksX4_addStyle_0 20 rfl rfl)
theorem dX4_addStyle_21 : decode cX4_addStyle 21 = .ok (.ireturn, 1) := dk_172 (dk_at dksX4_addStyle_0 21 rfl rfl)
theorem dX4_addStyle_22 : decode cX4_addStyle 22 = .ok (.aload_n 0, 1) := dk_42 (dk_at dksX4_addStyle_0 22 rfl rfl)
theorem dX4_addStyle_23 : decode cX4_addStyle 23 = .ok (.dup, 1) := dk_89 (dk_at dksX4_addStyle_0 23 rfl rfl)
theorem dX4_addStyle_24 : decode cX4_addStyle 24 = .ok (.getfield 227, 3) := dk_180 0 227 (dk_at dksX4_addStyle_1 0 rfl rfl)
theorem dX4_addStyle_27 : decode cX4_addStyle 27 = .ok (.iconst 1, 1) := dk_4 (dk_at dksX4_addStyle_1 3 rfl rfl)
theorem dX4_addStyle_28 : decode cX4_addStyle 28 = .ok (.iadd, 1) := dk_96 (dk_at dksX4_addStyle_1 4 rfl rfl)
theorem dX4_addStyle_29 : decode cX4_addStyle 29 = .ok (.putfield 227, 3) := dk_181 0 227 (dk_at dksX4_addStyle_1 5 rfl rfl)
theorem dX4_addStyle_32 : decode cX4_addStyle 32 = .ok (.aload_n 0, 1) := dk_42 (dk_at dksX4_addStyle_1 8 rfl rfl)
theorem dX4_addStyle_33 : decode cX4_addStyle 33 = .ok (.getfield 227, 3) := dk_180 0 227 (dk_at dksX4_addStyle_1 9 rfl rfl)
theorem dX4_addStyle_36 : decode cX4_addStyle 36 = .ok (.iconst 1, 1) := dk_4 (dk_at dksX4_addStyle_1 12 rfl rfl)
theorem dX4_addStyle_37 : decode cX4_addStyle 37 = .ok (.isub, 1) := dk_100 (dk_at dksX4_addStyle_1 13 rfl rfl)
theorem dX4_addStyle_38 : decode cX4_addStyle 38 = .ok (.ireturn, 1) := dk_172 (dk_at dksX4_addStyle_1 14 rfl rfl)
abbrev cX4_addPart : ByteArray := prog_18_method_50_code
def yX4_addPart : MethodName := ⟨RX4, "addPart", "(III)I"⟩
def dkwX4_addPart_4 : List UInt8 := [42, 27, 182, 0, 233, 172]
abbrev dktX4_addPart_4 : List UInt8 := dkwX4_addPart_4 ++ []
def dkwX4_addPart_3 : List UInt8 := [167, 0, 4, 3, 182, 0, 129, 153, 0, 5, 3, 172, 42, 180, 0, 73, 16, 8, 27, 104, 28, 96, 29, 79]
abbrev dktX4_addPart_3 : List UInt8 := dkwX4_addPart_3 ++ dktX4_addPart_4
def dkwX4_addPart_2 : List UInt8 := [180, 0, 73, 16, 8, 27, 104, 28, 96, 46, 157, 0, 12, 42, 180, 0, 76, 27, 46, 158, 0, 7, 6]
abbrev dktX4_addPart_2 : List UInt8 := dkwX4_addPart_2 ++ dktX4_addPart_3
def dkwX4_addPart_1 : List UInt8 := [21, 4, 154, 0, 7, 4, 167, 0, 44, 29, 4, 7, 184, 0, 122, 154, 0, 7, 5, 167, 0, 31, 42]
abbrev dktX4_addPart_1 : List UInt8 := dkwX4_addPart_1 ++ dktX4_addPart_2
def dkwX4_addPart_0 : List UInt8 := [42, 27, 182, 0, 230, 153, 0, 15, 42, 28, 182, 0, 146, 153, 0, 7, 4, 167, 0, 4, 3, 54, 4, 42]
abbrev dktX4_addPart_0 : List UInt8 := dkwX4_addPart_0 ++ dktX4_addPart_1
theorem dksX4_addPart_0 : cX4_addPart.data.toList.drop 0 = dktX4_addPart_0 := by decide +kernel
theorem dksX4_addPart_1 : cX4_addPart.data.toList.drop 24 = dktX4_addPart_1 := dk_seg dksX4_addPart_0 24 rfl rfl
theorem dksX4_addPart_2 : cX4_addPart.data.toList.drop 47 = dktX4_addPart_2 := dk_seg dksX4_addPart_1 23 rfl rfl
theorem dksX4_addPart_3 : cX4_addPart.data.toList.drop 70 = dktX4_addPart_3 := dk_seg dksX4_addPart_2 23 rfl rfl
theorem dksX4_addPart_4 : cX4_addPart.data.toList.drop 94 = dktX4_addPart_4 := dk_seg dksX4_addPart_3 24 rfl rfl
theorem dX4_addPart_0 : decode cX4_addPart 0 = .ok (.aload_n 0, 1) := dk_42 (dk_at dksX4_addPart_0 0 rfl rfl)
theorem dX4_addPart_1 : decode cX4_addPart 1 = .ok (.iload_n 1, 1) := dk_27 (dk_at dksX4_addPart_0 1 rfl rfl)
theorem dX4_addPart_2 : decode cX4_addPart 2 = .ok (.invokevirtual 230, 3) := dk_182 0 230 (dk_at dksX4_addPart_0 2 rfl rfl)
theorem dX4_addPart_5 : decode cX4_addPart 5 = .ok (.ifCond .eq 15, 3) := dk_153 0 15 (dk_at dksX4_addPart_0 5 rfl rfl)
theorem dX4_addPart_8 : decode cX4_addPart 8 = .ok (.aload_n 0, 1) := dk_42 (dk_at dksX4_addPart_0 8 rfl rfl)
theorem dX4_addPart_9 : decode cX4_addPart 9 = .ok (.iload_n 2, 1) := dk_28 (dk_at dksX4_addPart_0 9 rfl rfl)
theorem dX4_addPart_10 : decode cX4_addPart 10 = .ok (.invokevirtual 146, 3) := dk_182 0 146 (dk_at dksX4_addPart_0 10 rfl rfl)
theorem dX4_addPart_13 : decode cX4_addPart 13 = .ok (.ifCond .eq 7, 3) := dk_153 0 7 (dk_at dksX4_addPart_0 13 rfl rfl)
theorem dX4_addPart_16 : decode cX4_addPart 16 = .ok (.iconst 1, 1) := dk_4 (dk_at dksX4_addPart_0 16 rfl rfl)
theorem dX4_addPart_17 : decode cX4_addPart 17 = .ok (.goto 4, 3) := dk_167 0 4 (dk_at dksX4_addPart_0 17 rfl rfl)
theorem dX4_addPart_20 : decode cX4_addPart 20 = .ok (.iconst 0, 1) := dk_3 (dk_at dksX4_addPart_0 20 rfl rfl)
theorem dX4_addPart_21 : decode cX4_addPart 21 = .ok (.istore 4, 2) := dk_54 4 (dk_at dksX4_addPart_0 21 rfl rfl)
theorem dX4_addPart_23 : decode cX4_addPart 23 = .ok (.aload_n 0, 1) := dk_42 (dk_at dksX4_addPart_0 23 rfl rfl)
theorem dX4_addPart_24 : decode cX4_addPart 24 = .ok (.iload 4, 2) := dk_21 4 (dk_at dksX4_addPart_1 0 rfl rfl)
theorem dX4_addPart_26 : decode cX4_addPart 26 = .ok (.ifCond .ne 7, 3) := dk_154 0 7 (dk_at dksX4_addPart_1 2 rfl rfl)
theorem dX4_addPart_29 : decode cX4_addPart 29 = .ok (.iconst 1, 1) := dk_4 (dk_at dksX4_addPart_1 5 rfl rfl)
theorem dX4_addPart_30 : decode cX4_addPart 30 = .ok (.goto 44, 3) := dk_167 0 44 (dk_at dksX4_addPart_1 6 rfl rfl)
theorem dX4_addPart_33 : decode cX4_addPart 33 = .ok (.iload_n 3, 1) := dk_29 (dk_at dksX4_addPart_1 9 rfl rfl)
theorem dX4_addPart_34 : decode cX4_addPart 34 = .ok (.iconst 1, 1) := dk_4 (dk_at dksX4_addPart_1 10 rfl rfl)
theorem dX4_addPart_35 : decode cX4_addPart 35 = .ok (.iconst 4, 1) := dk_7 (dk_at dksX4_addPart_1 11 rfl rfl)
theorem dX4_addPart_36 : decode cX4_addPart 36 = .ok (.invokestatic 122, 3) := dk_184 0 122 (dk_at dksX4_addPart_1 12 rfl rfl)
theorem dX4_addPart_39 : decode cX4_addPart 39 = .ok (.ifCond .ne 7, 3) := dk_154 0 7 (dk_at dksX4_addPart_1 15 rfl rfl)
theorem dX4_addPart_42 : decode cX4_addPart 42 = .ok (.iconst 2, 1) := dk_5 (dk_at dksX4_addPart_1 18 rfl rfl)
theorem dX4_addPart_43 : decode cX4_addPart 43 = .ok (.goto 31, 3) := dk_167 0 31 (dk_at dksX4_addPart_1 19 rfl rfl)
theorem dX4_addPart_46 : decode cX4_addPart 46 = .ok (.aload_n 0, 1) := dk_42 (dk_at dksX4_addPart_1 22 rfl rfl)
theorem dX4_addPart_47 : decode cX4_addPart 47 = .ok (.getfield 73, 3) := dk_180 0 73 (dk_at dksX4_addPart_2 0 rfl rfl)
theorem dX4_addPart_50 : decode cX4_addPart 50 = .ok (.bipush 8, 2) := dk_16 8 (dk_at dksX4_addPart_2 3 rfl rfl)
theorem dX4_addPart_52 : decode cX4_addPart 52 = .ok (.iload_n 1, 1) := dk_27 (dk_at dksX4_addPart_2 5 rfl rfl)
theorem dX4_addPart_53 : decode cX4_addPart 53 = .ok (.imul, 1) := dk_104 (dk_at dksX4_addPart_2 6 rfl rfl)
theorem dX4_addPart_54 : decode cX4_addPart 54 = .ok (.iload_n 2, 1) := dk_28 (dk_at dksX4_addPart_2 7 rfl rfl)
theorem dX4_addPart_55 : decode cX4_addPart 55 = .ok (.iadd, 1) := dk_96 (dk_at dksX4_addPart_2 8 rfl rfl)
theorem dX4_addPart_56 : decode cX4_addPart 56 = .ok (.iaload, 1) := dk_46 (dk_at dksX4_addPart_2 9 rfl rfl)
theorem dX4_addPart_57 : decode cX4_addPart 57 = .ok (.ifCond .gt 12, 3) := dk_157 0 12 (dk_at dksX4_addPart_2 10 rfl rfl)
theorem dX4_addPart_60 : decode cX4_addPart 60 = .ok (.aload_n 0, 1) := dk_42 (dk_at dksX4_addPart_2 13 rfl rfl)
theorem dX4_addPart_61 : decode cX4_addPart 61 = .ok (.getfield 76, 3) := dk_180 0 76 (dk_at dksX4_addPart_2 14 rfl rfl)
theorem dX4_addPart_64 : decode cX4_addPart 64 = .ok (.iload_n 1, 1) := dk_27 (dk_at dksX4_addPart_2 17 rfl rfl)
theorem dX4_addPart_65 : decode cX4_addPart 65 = .ok (.iaload, 1) := dk_46 (dk_at dksX4_addPart_2 18 rfl rfl)
theorem dX4_addPart_66 : decode cX4_addPart 66 = .ok (.ifCond .le 7, 3) := dk_158 0 7 (dk_at dksX4_addPart_2 19 rfl rfl)
theorem dX4_addPart_69 : decode cX4_addPart 69 = .ok (.iconst 3, 1) := dk_6 (dk_at dksX4_addPart_2 22 rfl rfl)
theorem dX4_addPart_70 : decode cX4_addPart 70 = .ok (.goto 4, 3) := dk_167 0 4 (dk_at dksX4_addPart_3 0 rfl rfl)
theorem dX4_addPart_73 : decode cX4_addPart 73 = .ok (.iconst 0, 1) := dk_3 (dk_at dksX4_addPart_3 3 rfl rfl)
theorem dX4_addPart_74 : decode cX4_addPart 74 = .ok (.invokevirtual 129, 3) := dk_182 0 129 (dk_at dksX4_addPart_3 4 rfl rfl)
theorem dX4_addPart_77 : decode cX4_addPart 77 = .ok (.ifCond .eq 5, 3) := dk_153 0 5 (dk_at dksX4_addPart_3 7 rfl rfl)
theorem dX4_addPart_80 : decode cX4_addPart 80 = .ok (.iconst 0, 1) := dk_3 (dk_at dksX4_addPart_3 10 rfl rfl)
theorem dX4_addPart_81 : decode cX4_addPart 81 = .ok (.ireturn, 1) := dk_172 (dk_at dksX4_addPart_3 11 rfl rfl)
theorem dX4_addPart_82 : decode cX4_addPart 82 = .ok (.aload_n 0, 1) := dk_42 (dk_at dksX4_addPart_3 12 rfl rfl)
theorem dX4_addPart_83 : decode cX4_addPart 83 = .ok (.getfield 73, 3) := dk_180 0 73 (dk_at dksX4_addPart_3 13 rfl rfl)
theorem dX4_addPart_86 : decode cX4_addPart 86 = .ok (.bipush 8, 2) := dk_16 8 (dk_at dksX4_addPart_3 16 rfl rfl)
theorem dX4_addPart_88 : decode cX4_addPart 88 = .ok (.iload_n 1, 1) := dk_27 (dk_at dksX4_addPart_3 18 rfl rfl)
theorem dX4_addPart_89 : decode cX4_addPart 89 = .ok (.imul, 1) := dk_104 (dk_at dksX4_addPart_3 19 rfl rfl)
theorem dX4_addPart_90 : decode cX4_addPart 90 = .ok (.iload_n 2, 1) := dk_28 (dk_at dksX4_addPart_3 20 rfl rfl)
theorem dX4_addPart_91 : decode cX4_addPart 91 = .ok (.iadd, 1) := dk_96 (dk_at dksX4_addPart_3 21 rfl rfl)
theorem dX4_addPart_92 : decode cX4_addPart 92 = .ok (.iload_n 3, 1) := dk_29 (dk_at dksX4_addPart_3 22 rfl rfl)
theorem dX4_addPart_93 : decode cX4_addPart 93 = .ok (.iastore, 1) := dk_79 (dk_at dksX4_addPart_3 23 rfl rfl)
theorem dX4_addPart_94 : decode cX4_addPart 94 = .ok (.aload_n 0, 1) := dk_42 (dk_at dksX4_addPart_4 0 rfl rfl)
theorem dX4_addPart_95 : decode cX4_addPart 95 = .ok (.iload_n 1, 1) := dk_27 (dk_at dksX4_addPart_4 1 rfl rfl)
theorem dX4_addPart_96 : decode cX4_addPart 96 = .ok (.invokevirtual 233, 3) := dk_182 0 233 (dk_at dksX4_addPart_4 2 rfl rfl)
theorem dX4_addPart_99 : decode cX4_addPart 99 = .ok (.ireturn, 1) := dk_172 (dk_at dksX4_addPart_4 5 rfl rfl)
abbrev cX4_isStyle : ByteArray := prog_18_method_47_code
def yX4_isStyle : MethodName := ⟨RX4, "isStyle", "(I)Z"⟩
def dkwX4_isStyle_0 : List UInt8 := [27, 3, 42, 180, 0, 227, 4, 100, 184, 0, 122, 172]
abbrev dktX4_isStyle_0 : List UInt8 := dkwX4_isStyle_0 ++ []
theorem dksX4_isStyle_0 : cX4_isStyle.data.toList.drop 0 = dktX4_isStyle_0 := by decide +kernel
theorem dX4_isStyle_0 : decode cX4_isStyle 0 = .ok (.iload_n 1, 1) := dk_27 (dk_at dksX4_isStyle_0 0 rfl rfl)
theorem dX4_isStyle_1 : decode cX4_isStyle 1 = .ok (.iconst 0, 1) := dk_3 (dk_at dksX4_isStyle_0 1 rfl rfl)
theorem dX4_isStyle_2 : decode cX4_isStyle 2 = .ok (.aload_n 0, 1) := dk_42 (dk_at dksX4_isStyle_0 2 rfl rfl)
theorem dX4_isStyle_3 : decode cX4_isStyle 3 = .ok (.getfield 227, 3) := dk_180 0 227 (dk_at dksX4_isStyle_0 3 rfl rfl)
theorem dX4_isStyle_6 : decode cX4_isStyle 6 = .ok (.iconst 1, 1) := dk_4 (dk_at dksX4_isStyle_0 6 rfl rfl)
theorem dX4_isStyle_7 : decode cX4_isStyle 7 = .ok (.isub, 1) := dk_100 (dk_at dksX4_isStyle_0 7 rfl rfl)
theorem dX4_isStyle_8 : decode cX4_isStyle 8 = .ok (.invokestatic 122, 3) := dk_184 0 122 (dk_at dksX4_isStyle_0 8 rfl rfl)
theorem dX4_isStyle_11 : decode cX4_isStyle 11 = .ok (.ireturn, 1) := dk_172 (dk_at dksX4_isStyle_0 11 rfl rfl)
abbrev cX4_takenBy : ByteArray := prog_18_method_49_code
def yX4_takenBy : MethodName := ⟨RX4, "takenBy", "(I)I"⟩
def dkwX4_takenBy_2 : List UInt8 := [172]
abbrev dktX4_takenBy_2 : List UInt8 := dkwX4_takenBy_2 ++ []
def dkwX4_takenBy_1 : List UInt8 := [42, 180, 0, 21, 29, 51, 153, 0, 7, 5, 167, 0, 4, 4, 104, 96, 61, 132, 3, 1, 167, 255, 216, 28]
abbrev dktX4_takenBy_1 : List UInt8 := dkwX4_takenBy_1 ++ dktX4_takenBy_2
def dkwX4_takenBy_0 : List UInt8 := [3, 61, 3, 62, 29, 42, 180, 0, 143, 162, 0, 38, 28, 42, 180, 0, 73, 16, 8, 27, 104, 29, 96, 46]
abbrev dktX4_takenBy_0 : List UInt8 := dkwX4_takenBy_0 ++ dktX4_takenBy_1
theorem dksX4_takenBy_0 : cX4_takenBy.data.toList.drop 0 = dktX4_takenBy_0 := by decide +kernel
theorem dksX4_takenBy_1 : cX4_takenBy.data.toList.drop 24 = dktX4_takenBy_1 := dk_seg dksX4_takenBy_0 24 rfl rfl
theorem dksX4_takenBy_2 : cX4_takenBy.data.toList.drop 48 = dktX4_takenBy_2 := dk_seg dksX4_takenBy_1 24 rfl rfl
theorem dX4_takenBy_0 : decode cX4_takenBy 0 = .ok (.iconst 0, 1) := dk_3 (dk_at dksX4_takenBy_0 0 rfl rfl)
theorem dX4_takenBy_1 : decode cX4_takenBy 1 = .ok (.istore_n 2, 1) := dk_61 (dk_at dksX4_takenBy_0 1 rfl rfl)
theorem dX4_takenBy_2 : decode cX4_takenBy 2 = .ok (.iconst 0, 1) := dk_3 (dk_at dksX4_takenBy_0 2 rfl rfl)
theorem dX4_takenBy_3 : decode cX4_takenBy 3 = .ok (.istore_n 3, 1) := dk_62 (dk_at dksX4_takenBy_0 3 rfl rfl)
theorem dX4_takenBy_4 : decode cX4_takenBy 4 = .ok (.iload_n 3, 1) := dk_29 (dk_at dksX4_takenBy_0 4 rfl rfl)
theorem dX4_takenBy_5 : decode cX4_takenBy 5 = .ok (.aload_n 0, 1) := dk_42 (dk_at dksX4_takenBy_0 5 rfl rfl)
theorem dX4_takenBy_6 : decode cX4_takenBy 6 = .ok (.getfield 143, 3) := dk_180 0 143 (dk_at dksX4_takenBy_0 6 rfl rfl)
theorem dX4_takenBy_9 : decode cX4_takenBy 9 = .ok (.if_icmp .ge 38, 3) := dk_162 0 38 (dk_at dksX4_takenBy_0 9 rfl rfl)
theorem dX4_takenBy_12 : decode cX4_takenBy 12 = .ok (.iload_n 2, 1) := dk_28 (dk_at dksX4_takenBy_0 12 rfl rfl)
theorem dX4_takenBy_13 : decode cX4_takenBy 13 = .ok (.aload_n 0, 1) := dk_42 (dk_at dksX4_takenBy_0 13 rfl rfl)
theorem dX4_takenBy_14 : decode cX4_takenBy 14 = .ok (.getfield 73, 3) := dk_180 0 73 (dk_at dksX4_takenBy_0 14 rfl rfl)
theorem dX4_takenBy_17 : decode cX4_takenBy 17 = .ok (.bipush 8, 2) := dk_16 8 (dk_at dksX4_takenBy_0 17 rfl rfl)
theorem dX4_takenBy_19 : decode cX4_takenBy 19 = .ok (.iload_n 1, 1) := dk_27 (dk_at dksX4_takenBy_0 19 rfl rfl)
theorem dX4_takenBy_20 : decode cX4_takenBy 20 = .ok (.imul, 1) := dk_104 (dk_at dksX4_takenBy_0 20 rfl rfl)
theorem dX4_takenBy_21 : decode cX4_takenBy 21 = .ok (.iload_n 3, 1) := dk_29 (dk_at dksX4_takenBy_0 21 rfl rfl)
theorem dX4_takenBy_22 : decode cX4_takenBy 22 = .ok (.iadd, 1) := dk_96 (dk_at dksX4_takenBy_0 22 rfl rfl)
theorem dX4_takenBy_23 : decode cX4_takenBy 23 = .ok (.iaload, 1) := dk_46 (dk_at dksX4_takenBy_0 23 rfl rfl)
theorem dX4_takenBy_24 : decode cX4_takenBy 24 = .ok (.aload_n 0, 1) := dk_42 (dk_at dksX4_takenBy_1 0 rfl rfl)
theorem dX4_takenBy_25 : decode cX4_takenBy 25 = .ok (.getfield 21, 3) := dk_180 0 21 (dk_at dksX4_takenBy_1 1 rfl rfl)
theorem dX4_takenBy_28 : decode cX4_takenBy 28 = .ok (.iload_n 3, 1) := dk_29 (dk_at dksX4_takenBy_1 4 rfl rfl)
theorem dX4_takenBy_29 : decode cX4_takenBy 29 = .ok (.baload, 1) := dk_51 (dk_at dksX4_takenBy_1 5 rfl rfl)
theorem dX4_takenBy_30 : decode cX4_takenBy 30 = .ok (.ifCond .eq 7, 3) := dk_153 0 7 (dk_at dksX4_takenBy_1 6 rfl rfl)
theorem dX4_takenBy_33 : decode cX4_takenBy 33 = .ok (.iconst 2, 1) := dk_5 (dk_at dksX4_takenBy_1 9 rfl rfl)
theorem dX4_takenBy_34 : decode cX4_takenBy 34 = .ok (.goto 4, 3) := dk_167 0 4 (dk_at dksX4_takenBy_1 10 rfl rfl)
theorem dX4_takenBy_37 : decode cX4_takenBy 37 = .ok (.iconst 1, 1) := dk_4 (dk_at dksX4_takenBy_1 13 rfl rfl)
theorem dX4_takenBy_38 : decode cX4_takenBy 38 = .ok (.imul, 1) := dk_104 (dk_at dksX4_takenBy_1 14 rfl rfl)
theorem dX4_takenBy_39 : decode cX4_takenBy 39 = .ok (.iadd, 1) := dk_96 (dk_at dksX4_takenBy_1 15 rfl rfl)
theorem dX4_takenBy_40 : decode cX4_takenBy 40 = .ok (.istore_n 2, 1) := dk_61 (dk_at dksX4_takenBy_1 16 rfl rfl)
theorem dX4_takenBy_41 : decode cX4_takenBy 41 = .ok (.iinc 3 1, 3) := dk_132 3 1 (dk_at dksX4_takenBy_1 17 rfl rfl)
theorem dX4_takenBy_44 : decode cX4_takenBy 44 = .ok (.goto (-40), 3) := dk_167 255 216 (dk_at dksX4_takenBy_1 20 rfl rfl)
theorem dX4_takenBy_47 : decode cX4_takenBy 47 = .ok (.iload_n 2, 1) := dk_28 (dk_at dksX4_takenBy_1 23 rfl rfl)
theorem dX4_takenBy_48 : decode cX4_takenBy 48 = .ok (.ireturn, 1) := dk_172 (dk_at dksX4_takenBy_2 0 rfl rfl)
abbrev cX4_piecesFor : ByteArray := prog_18_method_51_code
def yX4_piecesFor : MethodName := ⟨RX4, "piecesFor", "(I)I"⟩
def dkwX4_piecesFor_1 : List UInt8 := [42, 27, 182, 0, 233, 172]
abbrev dktX4_piecesFor_1 : List UInt8 := dkwX4_piecesFor_1 ++ []
def dkwX4_piecesFor_0 : List UInt8 := [42, 42, 27, 182, 0, 230, 153, 0, 7, 3, 167, 0, 4, 4, 182, 0, 129, 153, 0, 7, 3, 167, 0, 8]
abbrev dktX4_piecesFor_0 : List UInt8 := dkwX4_piecesFor_0 ++ dktX4_piecesFor_1
theorem dksX4_piecesFor_0 : cX4_piecesFor.data.toList.drop 0 = dktX4_piecesFor_0 := by decide +kernel
theorem dksX4_piecesFor_1 : cX4_piecesFor.data.toList.drop 24 = dktX4_piecesFor_1 := dk_seg dksX4_piecesFor_0 24 rfl rfl
theorem dX4_piecesFor_0 : decode cX4_piecesFor 0 = .ok (.aload_n 0, 1) := dk_42 (dk_at dksX4_piecesFor_0 0 rfl rfl)
theorem dX4_piecesFor_1 : decode cX4_piecesFor 1 = .ok (.aload_n 0, 1) := dk_42 (dk_at dksX4_piecesFor_0 1 rfl rfl)
theorem dX4_piecesFor_2 : decode cX4_piecesFor 2 = .ok (.iload_n 1, 1) := dk_27 (dk_at dksX4_piecesFor_0 2 rfl rfl)
theorem dX4_piecesFor_3 : decode cX4_piecesFor 3 = .ok (.invokevirtual 230, 3) := dk_182 0 230 (dk_at dksX4_piecesFor_0 3 rfl rfl)
theorem dX4_piecesFor_6 : decode cX4_piecesFor 6 = .ok (.ifCond .eq 7, 3) := dk_153 0 7 (dk_at dksX4_piecesFor_0 6 rfl rfl)
theorem dX4_piecesFor_9 : decode cX4_piecesFor 9 = .ok (.iconst 0, 1) := dk_3 (dk_at dksX4_piecesFor_0 9 rfl rfl)
theorem dX4_piecesFor_10 : decode cX4_piecesFor 10 = .ok (.goto 4, 3) := dk_167 0 4 (dk_at dksX4_piecesFor_0 10 rfl rfl)
theorem dX4_piecesFor_13 : decode cX4_piecesFor 13 = .ok (.iconst 1, 1) := dk_4 (dk_at dksX4_piecesFor_0 13 rfl rfl)
theorem dX4_piecesFor_14 : decode cX4_piecesFor 14 = .ok (.invokevirtual 129, 3) := dk_182 0 129 (dk_at dksX4_piecesFor_0 14 rfl rfl)
theorem dX4_piecesFor_17 : decode cX4_piecesFor 17 = .ok (.ifCond .eq 7, 3) := dk_153 0 7 (dk_at dksX4_piecesFor_0 17 rfl rfl)
theorem dX4_piecesFor_20 : decode cX4_piecesFor 20 = .ok (.iconst 0, 1) := dk_3 (dk_at dksX4_piecesFor_0 20 rfl rfl)
theorem dX4_piecesFor_21 : decode cX4_piecesFor 21 = .ok (.goto 8, 3) := dk_167 0 8 (dk_at dksX4_piecesFor_0 21 rfl rfl)
theorem dX4_piecesFor_24 : decode cX4_piecesFor 24 = .ok (.aload_n 0, 1) := dk_42 (dk_at dksX4_piecesFor_1 0 rfl rfl)
theorem dX4_piecesFor_25 : decode cX4_piecesFor 25 = .ok (.iload_n 1, 1) := dk_27 (dk_at dksX4_piecesFor_1 1 rfl rfl)
theorem dX4_piecesFor_26 : decode cX4_piecesFor 26 = .ok (.invokevirtual 233, 3) := dk_182 0 233 (dk_at dksX4_piecesFor_1 2 rfl rfl)
theorem dX4_piecesFor_29 : decode cX4_piecesFor 29 = .ok (.ireturn, 1) := dk_172 (dk_at dksX4_piecesFor_1 5 rfl rfl)
abbrev cX4_nestedLength : ByteArray := prog_18_method_55_code
def yX4_nestedLength : MethodName := ⟨RX4, "nestedLength", "(I)I"⟩
def dkwX4_nestedLength_2 : List UInt8 := [6, 167, 0, 4, 3, 182, 0, 129, 153, 0, 7, 3, 167, 0, 4, 28, 172]
abbrev dktX4_nestedLength_2 : List UInt8 := dkwX4_nestedLength_2 ++ []
def dkwX4_nestedLength_1 : List UInt8 := [167, 0, 4, 5, 182, 0, 129, 153, 0, 5, 3, 172, 42, 182, 0, 248, 61, 42, 28, 16, 60, 164, 0, 7]
abbrev dktX4_nestedLength_1 : List UInt8 := dkwX4_nestedLength_1 ++ dktX4_nestedLength_2
def dkwX4_nestedLength_0 : List UInt8 := [42, 42, 27, 182, 0, 230, 154, 0, 7, 4, 167, 0, 16, 42, 27, 182, 0, 245, 153, 0, 7, 3]
abbrev dktX4_nestedLength_0 : List UInt8 := dkwX4_nestedLength_0 ++ dktX4_nestedLength_1
theorem dksX4_nestedLength_0 : cX4_nestedLength.data.toList.drop 0 = dktX4_nestedLength_0 := by decide +kernel
theorem dksX4_nestedLength_1 : cX4_nestedLength.data.toList.drop 22 = dktX4_nestedLength_1 := dk_seg dksX4_nestedLength_0 22 rfl rfl
theorem dksX4_nestedLength_2 : cX4_nestedLength.data.toList.drop 46 = dktX4_nestedLength_2 := dk_seg dksX4_nestedLength_1 24 rfl rfl
theorem dX4_nestedLength_0 : decode cX4_nestedLength 0 = .ok (.aload_n 0, 1) := dk_42 (dk_at dksX4_nestedLength_0 0 rfl rfl)
theorem dX4_nestedLength_1 : decode cX4_nestedLength 1 = .ok (.aload_n 0, 1) := dk_42 (dk_at dksX4_nestedLength_0 1 rfl rfl)
theorem dX4_nestedLength_2 : decode cX4_nestedLength 2 = .ok (.iload_n 1, 1) := dk_27 (dk_at dksX4_nestedLength_0 2 rfl rfl)
theorem dX4_nestedLength_3 : decode cX4_nestedLength 3 = .ok (.invokevirtual 230, 3) := dk_182 0 230 (dk_at dksX4_nestedLength_0 3 rfl rfl)
theorem dX4_nestedLength_6 : decode cX4_nestedLength 6 = .ok (.ifCond .ne 7, 3) := dk_154 0 7 (dk_at dksX4_nestedLength_0 6 rfl rfl)
theorem dX4_nestedLength_9 : decode cX4_nestedLength 9 = .ok (.iconst 1, 1) := dk_4 (dk_at dksX4_nestedLength_0 9 rfl rfl)
theorem dX4_nestedLength_10 : decode cX4_nestedLength 10 = .ok (.goto 16, 3) := dk_167 0 16 (dk_at dksX4_nestedLength_0 10 rfl rfl)
theorem dX4_nestedLength_13 : decode cX4_nestedLength 13 = .ok (.aload_n 0, 1) := dk_42 (dk_at dksX4_nestedLength_0 13 rfl rfl)
theorem dX4_nestedLength_14 : decode cX4_nestedLength 14 = .ok (.iload_n 1, 1) := dk_27 (dk_at dksX4_nestedLength_0 14 rfl rfl)
theorem dX4_nestedLength_15 : decode cX4_nestedLength 15 = .ok (.invokevirtual 245, 3) := dk_182 0 245 (dk_at dksX4_nestedLength_0 15 rfl rfl)
theorem dX4_nestedLength_18 : decode cX4_nestedLength 18 = .ok (.ifCond .eq 7, 3) := dk_153 0 7 (dk_at dksX4_nestedLength_0 18 rfl rfl)
theorem dX4_nestedLength_21 : decode cX4_nestedLength 21 = .ok (.iconst 0, 1) := dk_3 (dk_at dksX4_nestedLength_0 21 rfl rfl)
theorem dX4_nestedLength_22 : decode cX4_nestedLength 22 = .ok (.goto 4, 3) := dk_167 0 4 (dk_at dksX4_nestedLength_1 0 rfl rfl)
theorem dX4_nestedLength_25 : decode cX4_nestedLength 25 = .ok (.iconst 2, 1) := dk_5 (dk_at dksX4_nestedLength_1 3 rfl rfl)
theorem dX4_nestedLength_26 : decode cX4_nestedLength 26 = .ok (.invokevirtual 129, 3) := dk_182 0 129 (dk_at dksX4_nestedLength_1 4 rfl rfl)
theorem dX4_nestedLength_29 : decode cX4_nestedLength 29 = .ok (.ifCond .eq 5, 3) := dk_153 0 5 (dk_at dksX4_nestedLength_1 7 rfl rfl)
theorem dX4_nestedLength_32 : decode cX4_nestedLength 32 = .ok (.iconst 0, 1) := dk_3 (dk_at dksX4_nestedLength_1 10 rfl rfl)
theorem dX4_nestedLength_33 : decode cX4_nestedLength 33 = .ok (.ireturn, 1) := dk_172 (dk_at dksX4_nestedLength_1 11 rfl rfl)
theorem dX4_nestedLength_34 : decode cX4_nestedLength 34 = .ok (.aload_n 0, 1) := dk_42 (dk_at dksX4_nestedLength_1 12 rfl rfl)
theorem dX4_nestedLength_35 : decode cX4_nestedLength 35 = .ok (.invokevirtual 248, 3) := dk_182 0 248 (dk_at dksX4_nestedLength_1 13 rfl rfl)
theorem dX4_nestedLength_38 : decode cX4_nestedLength 38 = .ok (.istore_n 2, 1) := dk_61 (dk_at dksX4_nestedLength_1 16 rfl rfl)
theorem dX4_nestedLength_39 : decode cX4_nestedLength 39 = .ok (.aload_n 0, 1) := dk_42 (dk_at dksX4_nestedLength_1 17 rfl rfl)
theorem dX4_nestedLength_40 : decode cX4_nestedLength 40 = .ok (.iload_n 2, 1) := dk_28 (dk_at dksX4_nestedLength_1 18 rfl rfl)
theorem dX4_nestedLength_41 : decode cX4_nestedLength 41 = .ok (.bipush 60, 2) := dk_16 60 (dk_at dksX4_nestedLength_1 19 rfl rfl)
theorem dX4_nestedLength_43 : decode cX4_nestedLength 43 = .ok (.if_icmp .le 7, 3) := dk_164 0 7 (dk_at dksX4_nestedLength_1 21 rfl rfl)
theorem dX4_nestedLength_46 : decode cX4_nestedLength 46 = .ok (.iconst 3, 1) := dk_6 (dk_at dksX4_nestedLength_2 0 rfl rfl)
theorem dX4_nestedLength_47 : decode cX4_nestedLength 47 = .ok (.goto 4, 3) := dk_167 0 4 (dk_at dksX4_nestedLength_2 1 rfl rfl)
theorem dX4_nestedLength_50 : decode cX4_nestedLength 50 = .ok (.iconst 0, 1) := dk_3 (dk_at dksX4_nestedLength_2 4 rfl rfl)
theorem dX4_nestedLength_51 : decode cX4_nestedLength 51 = .ok (.invokevirtual 129, 3) := dk_182 0 129 (dk_at dksX4_nestedLength_2 5 rfl rfl)
theorem dX4_nestedLength_54 : decode cX4_nestedLength 54 = .ok (.ifCond .eq 7, 3) := dk_153 0 7 (dk_at dksX4_nestedLength_2 8 rfl rfl)
theorem dX4_nestedLength_57 : decode cX4_nestedLength 57 = .ok (.iconst 0, 1) := dk_3 (dk_at dksX4_nestedLength_2 11 rfl rfl)
theorem dX4_nestedLength_58 : decode cX4_nestedLength 58 = .ok (.goto 4, 3) := dk_167 0 4 (dk_at dksX4_nestedLength_2 12 rfl rfl)
theorem dX4_nestedLength_61 : decode cX4_nestedLength 61 = .ok (.iload_n 2, 1) := dk_28 (dk_at dksX4_nestedLength_2 15 rfl rfl)
theorem dX4_nestedLength_62 : decode cX4_nestedLength 62 = .ok (.ireturn, 1) := dk_172 (dk_at dksX4_nestedLength_2 16 rfl rfl)
abbrev cX4_queues : ByteArray := prog_18_method_52_code
def yX4_queues : MethodName := ⟨RX4, "queues", "(I)Z"⟩
def dkwX4_queues_7 : List UInt8 := [153, 0, 14, 42, 180, 0, 236, 158, 0, 7, 4, 167, 0, 4, 3, 172]
abbrev dktX4_queues_7 : List UInt8 := dkwX4_queues_7 ++ []
def dkwX4_queues_6 : List UInt8 := [89, 180, 0, 236, 4, 96, 181, 0, 236, 132, 7, 1, 167, 255, 187, 132, 3, 1, 167, 255, 104, 28]
abbrev dktX4_queues_6 : List UInt8 := dkwX4_queues_6 ++ dktX4_queues_7
def dkwX4_queues_5 : List UInt8 := [180, 0, 85, 42, 180, 0, 236, 21, 7, 21, 5, 162, 0, 7, 29, 167, 0, 7, 29, 16, 8, 96, 79, 42]
abbrev dktX4_queues_5 : List UInt8 := dkwX4_queues_5 ++ dktX4_queues_6
def dkwX4_queues_4 : List UInt8 := [28, 153, 0, 15, 42, 180, 0, 236, 7, 162, 0, 7, 4, 167, 0, 4, 3, 61, 28, 153, 0, 37, 42]
abbrev dktX4_queues_4 : List UInt8 := dkwX4_queues_4 ++ dktX4_queues_5
def dkwX4_queues_3 : List UInt8 := [154, 0, 8, 21, 4, 167, 0, 4, 3, 54, 6, 3, 54, 7, 21, 7, 21, 5, 21, 6, 96, 162, 0, 65]
abbrev dktX4_queues_3 : List UInt8 := dkwX4_queues_3 ++ dktX4_queues_4
def dkwX4_queues_2 : List UInt8 := [4, 96, 5, 108, 167, 0, 5, 21, 4, 54, 5, 42, 180, 0, 21, 29, 51, 153, 0, 15, 42, 180, 0, 118]
abbrev dktX4_queues_2 : List UInt8 := dkwX4_queues_2 ++ dktX4_queues_3
def dkwX4_queues_1 : List UInt8 := [104, 29, 96, 46, 54, 4, 42, 180, 0, 118, 153, 0, 21, 42, 180, 0, 21, 29, 51, 154, 0, 12, 21, 4]
abbrev dktX4_queues_1 : List UInt8 := dkwX4_queues_1 ++ dktX4_queues_2
def dkwX4_queues_0 : List UInt8 := [42, 3, 181, 0, 236, 4, 61, 3, 62, 29, 42, 180, 0, 143, 162, 0, 150, 42, 180, 0, 73, 16, 8, 27]
abbrev dktX4_queues_0 : List UInt8 := dkwX4_queues_0 ++ dktX4_queues_1
theorem dksX4_queues_0 : cX4_queues.data.toList.drop 0 = dktX4_queues_0 := by decide +kernel
theorem dksX4_queues_1 : cX4_queues.data.toList.drop 24 = dktX4_queues_1 := dk_seg dksX4_queues_0 24 rfl rfl
theorem dksX4_queues_2 : cX4_queues.data.toList.drop 48 = dktX4_queues_2 := dk_seg dksX4_queues_1 24 rfl rfl
theorem dksX4_queues_3 : cX4_queues.data.toList.drop 72 = dktX4_queues_3 := dk_seg dksX4_queues_2 24 rfl rfl
theorem dksX4_queues_4 : cX4_queues.data.toList.drop 96 = dktX4_queues_4 := dk_seg dksX4_queues_3 24 rfl rfl
theorem dksX4_queues_5 : cX4_queues.data.toList.drop 119 = dktX4_queues_5 := dk_seg dksX4_queues_4 23 rfl rfl
theorem dksX4_queues_6 : cX4_queues.data.toList.drop 143 = dktX4_queues_6 := dk_seg dksX4_queues_5 24 rfl rfl
theorem dksX4_queues_7 : cX4_queues.data.toList.drop 165 = dktX4_queues_7 := dk_seg dksX4_queues_6 22 rfl rfl
theorem dX4_queues_0 : decode cX4_queues 0 = .ok (.aload_n 0, 1) := dk_42 (dk_at dksX4_queues_0 0 rfl rfl)
theorem dX4_queues_1 : decode cX4_queues 1 = .ok (.iconst 0, 1) := dk_3 (dk_at dksX4_queues_0 1 rfl rfl)
theorem dX4_queues_2 : decode cX4_queues 2 = .ok (.putfield 236, 3) := dk_181 0 236 (dk_at dksX4_queues_0 2 rfl rfl)
theorem dX4_queues_5 : decode cX4_queues 5 = .ok (.iconst 1, 1) := dk_4 (dk_at dksX4_queues_0 5 rfl rfl)
theorem dX4_queues_6 : decode cX4_queues 6 = .ok (.istore_n 2, 1) := dk_61 (dk_at dksX4_queues_0 6 rfl rfl)
theorem dX4_queues_7 : decode cX4_queues 7 = .ok (.iconst 0, 1) := dk_3 (dk_at dksX4_queues_0 7 rfl rfl)
theorem dX4_queues_8 : decode cX4_queues 8 = .ok (.istore_n 3, 1) := dk_62 (dk_at dksX4_queues_0 8 rfl rfl)
theorem dX4_queues_9 : decode cX4_queues 9 = .ok (.iload_n 3, 1) := dk_29 (dk_at dksX4_queues_0 9 rfl rfl)
theorem dX4_queues_10 : decode cX4_queues 10 = .ok (.aload_n 0, 1) := dk_42 (dk_at dksX4_queues_0 10 rfl rfl)
theorem dX4_queues_11 : decode cX4_queues 11 = .ok (.getfield 143, 3) := dk_180 0 143 (dk_at dksX4_queues_0 11 rfl rfl)
theorem dX4_queues_14 : decode cX4_queues 14 = .ok (.if_icmp .ge 150, 3) := dk_162 0 150 (dk_at dksX4_queues_0 14 rfl rfl)
theorem dX4_queues_17 : decode cX4_queues 17 = .ok (.aload_n 0, 1) := dk_42 (dk_at dksX4_queues_0 17 rfl rfl)
theorem dX4_queues_18 : decode cX4_queues 18 = .ok (.getfield 73, 3) := dk_180 0 73 (dk_at dksX4_queues_0 18 rfl rfl)
theorem dX4_queues_21 : decode cX4_queues 21 = .ok (.bipush 8, 2) := dk_16 8 (dk_at dksX4_queues_0 21 rfl rfl)
theorem dX4_queues_23 : decode cX4_queues 23 = .ok (.iload_n 1, 1) := dk_27 (dk_at dksX4_queues_0 23 rfl rfl)
theorem dX4_queues_24 : decode cX4_queues 24 = .ok (.imul, 1) := dk_104 (dk_at dksX4_queues_1 0 rfl rfl)
theorem dX4_queues_25 : decode cX4_queues 25 = .ok (.iload_n 3, 1) := dk_29 (dk_at dksX4_queues_1 1 rfl rfl)
theorem dX4_queues_26 : decode cX4_queues 26 = .ok (.iadd, 1) := dk_96 (dk_at dksX4_queues_1 2 rfl rfl)
theorem dX4_queues_27 : decode cX4_queues 27 = .ok (.iaload, 1) := dk_46 (dk_at dksX4_queues_1 3 rfl rfl)
theorem dX4_queues_28 : decode cX4_queues 28 = .ok (.istore 4, 2) := dk_54 4 (dk_at dksX4_queues_1 4 rfl rfl)
theorem dX4_queues_30 : decode cX4_queues 30 = .ok (.aload_n 0, 1) := dk_42 (dk_at dksX4_queues_1 6 rfl rfl)
theorem dX4_queues_31 : decode cX4_queues 31 = .ok (.getfield 118, 3) := dk_180 0 118 (dk_at dksX4_queues_1 7 rfl rfl)
theorem dX4_queues_34 : decode cX4_queues 34 = .ok (.ifCond .eq 21, 3) := dk_153 0 21 (dk_at dksX4_queues_1 10 rfl rfl)
theorem dX4_queues_37 : decode cX4_queues 37 = .ok (.aload_n 0, 1) := dk_42 (dk_at dksX4_queues_1 13 rfl rfl)
theorem dX4_queues_38 : decode cX4_queues 38 = .ok (.getfield 21, 3) := dk_180 0 21 (dk_at dksX4_queues_1 14 rfl rfl)
theorem dX4_queues_41 : decode cX4_queues 41 = .ok (.iload_n 3, 1) := dk_29 (dk_at dksX4_queues_1 17 rfl rfl)
theorem dX4_queues_42 : decode cX4_queues 42 = .ok (.baload, 1) := dk_51 (dk_at dksX4_queues_1 18 rfl rfl)
theorem dX4_queues_43 : decode cX4_queues 43 = .ok (.ifCond .ne 12, 3) := dk_154 0 12 (dk_at dksX4_queues_1 19 rfl rfl)
theorem dX4_queues_46 : decode cX4_queues 46 = .ok (.iload 4, 2) := dk_21 4 (dk_at dksX4_queues_1 22 rfl rfl)
theorem dX4_queues_48 : decode cX4_queues 48 = .ok (.iconst 1, 1) := dk_4 (dk_at dksX4_queues_2 0 rfl rfl)
theorem dX4_queues_49 : decode cX4_queues 49 = .ok (.iadd, 1) := dk_96 (dk_at dksX4_queues_2 1 rfl rfl)
theorem dX4_queues_50 : decode cX4_queues 50 = .ok (.iconst 2, 1) := dk_5 (dk_at dksX4_queues_2 2 rfl rfl)
theorem dX4_queues_51 : decode cX4_queues 51 = .ok (.idiv, 1) := dk_108 (dk_at dksX4_queues_2 3 rfl rfl)
theorem dX4_queues_52 : decode cX4_queues 52 = .ok (.goto 5, 3) := dk_167 0 5 (dk_at dksX4_queues_2 4 rfl rfl)
theorem dX4_queues_55 : decode cX4_queues 55 = .ok (.iload 4, 2) := dk_21 4 (dk_at dksX4_queues_2 7 rfl rfl)
theorem dX4_queues_57 : decode cX4_queues 57 = .ok (.istore 5, 2) := dk_54 5 (dk_at dksX4_queues_2 9 rfl rfl)
theorem dX4_queues_59 : decode cX4_queues 59 = .ok (.aload_n 0, 1) := dk_42 (dk_at dksX4_queues_2 11 rfl rfl)
theorem dX4_queues_60 : decode cX4_queues 60 = .ok (.getfield 21, 3) := dk_180 0 21 (dk_at dksX4_queues_2 12 rfl rfl)
theorem dX4_queues_63 : decode cX4_queues 63 = .ok (.iload_n 3, 1) := dk_29 (dk_at dksX4_queues_2 15 rfl rfl)
theorem dX4_queues_64 : decode cX4_queues 64 = .ok (.baload, 1) := dk_51 (dk_at dksX4_queues_2 16 rfl rfl)
theorem dX4_queues_65 : decode cX4_queues 65 = .ok (.ifCond .eq 15, 3) := dk_153 0 15 (dk_at dksX4_queues_2 17 rfl rfl)
theorem dX4_queues_68 : decode cX4_queues 68 = .ok (.aload_n 0, 1) := dk_42 (dk_at dksX4_queues_2 20 rfl rfl)
theorem dX4_queues_69 : decode cX4_queues 69 = .ok (.getfield 118, 3) := dk_180 0 118 (dk_at dksX4_queues_2 21 rfl rfl)
theorem dX4_queues_72 : decode cX4_queues 72 = .ok (.ifCond .ne 8, 3) := dk_154 0 8 (dk_at dksX4_queues_3 0 rfl rfl)
theorem dX4_queues_75 : decode cX4_queues 75 = .ok (.iload 4, 2) := dk_21 4 (dk_at dksX4_queues_3 3 rfl rfl)
theorem dX4_queues_77 : decode cX4_queues 77 = .ok (.goto 4, 3) := dk_167 0 4 (dk_at dksX4_queues_3 5 rfl rfl)
theorem dX4_queues_80 : decode cX4_queues 80 = .ok (.iconst 0, 1) := dk_3 (dk_at dksX4_queues_3 8 rfl rfl)
theorem dX4_queues_81 : decode cX4_queues 81 = .ok (.istore 6, 2) := dk_54 6 (dk_at dksX4_queues_3 9 rfl rfl)
theorem dX4_queues_83 : decode cX4_queues 83 = .ok (.iconst 0, 1) := dk_3 (dk_at dksX4_queues_3 11 rfl rfl)
theorem dX4_queues_84 : decode cX4_queues 84 = .ok (.istore 7, 2) := dk_54 7 (dk_at dksX4_queues_3 12 rfl rfl)
theorem dX4_queues_86 : decode cX4_queues 86 = .ok (.iload 7, 2) := dk_21 7 (dk_at dksX4_queues_3 14 rfl rfl)
theorem dX4_queues_88 : decode cX4_queues 88 = .ok (.iload 5, 2) := dk_21 5 (dk_at dksX4_queues_3 16 rfl rfl)
theorem dX4_queues_90 : decode cX4_queues 90 = .ok (.iload 6, 2) := dk_21 6 (dk_at dksX4_queues_3 18 rfl rfl)
theorem dX4_queues_92 : decode cX4_queues 92 = .ok (.iadd, 1) := dk_96 (dk_at dksX4_queues_3 20 rfl rfl)
theorem dX4_queues_93 : decode cX4_queues 93 = .ok (.if_icmp .ge 65, 3) := dk_162 0 65 (dk_at dksX4_queues_3 21 rfl rfl)
theorem dX4_queues_96 : decode cX4_queues 96 = .ok (.iload_n 2, 1) := dk_28 (dk_at dksX4_queues_4 0 rfl rfl)
theorem dX4_queues_97 : decode cX4_queues 97 = .ok (.ifCond .eq 15, 3) := dk_153 0 15 (dk_at dksX4_queues_4 1 rfl rfl)
theorem dX4_queues_100 : decode cX4_queues 100 = .ok (.aload_n 0, 1) := dk_42 (dk_at dksX4_queues_4 4 rfl rfl)
theorem dX4_queues_101 : decode cX4_queues 101 = .ok (.getfield 236, 3) := dk_180 0 236 (dk_at dksX4_queues_4 5 rfl rfl)
theorem dX4_queues_104 : decode cX4_queues 104 = .ok (.iconst 4, 1) := dk_7 (dk_at dksX4_queues_4 8 rfl rfl)
theorem dX4_queues_105 : decode cX4_queues 105 = .ok (.if_icmp .ge 7, 3) := dk_162 0 7 (dk_at dksX4_queues_4 9 rfl rfl)
theorem dX4_queues_108 : decode cX4_queues 108 = .ok (.iconst 1, 1) := dk_4 (dk_at dksX4_queues_4 12 rfl rfl)
theorem dX4_queues_109 : decode cX4_queues 109 = .ok (.goto 4, 3) := dk_167 0 4 (dk_at dksX4_queues_4 13 rfl rfl)
theorem dX4_queues_112 : decode cX4_queues 112 = .ok (.iconst 0, 1) := dk_3 (dk_at dksX4_queues_4 16 rfl rfl)
theorem dX4_queues_113 : decode cX4_queues 113 = .ok (.istore_n 2, 1) := dk_61 (dk_at dksX4_queues_4 17 rfl rfl)
theorem dX4_queues_114 : decode cX4_queues 114 = .ok (.iload_n 2, 1) := dk_28 (dk_at dksX4_queues_4 18 rfl rfl)
theorem dX4_queues_115 : decode cX4_queues 115 = .ok (.ifCond .eq 37, 3) := dk_153 0 37 (dk_at dksX4_queues_4 19 rfl rfl)
theorem dX4_queues_118 : decode cX4_queues 118 = .ok (.aload_n 0, 1) := dk_42 (dk_at dksX4_queues_4 22 rfl rfl)
theorem dX4_queues_119 : decode cX4_queues 119 = .ok (.getfield 85, 3) := dk_180 0 85 (dk_at dksX4_queues_5 0 rfl rfl)
theorem dX4_queues_122 : decode cX4_queues 122 = .ok (.aload_n 0, 1) := dk_42 (dk_at dksX4_queues_5 3 rfl rfl)
theorem dX4_queues_123 : decode cX4_queues 123 = .ok (.getfield 236, 3) := dk_180 0 236 (dk_at dksX4_queues_5 4 rfl rfl)
theorem dX4_queues_126 : decode cX4_queues 126 = .ok (.iload 7, 2) := dk_21 7 (dk_at dksX4_queues_5 7 rfl rfl)
theorem dX4_queues_128 : decode cX4_queues 128 = .ok (.iload 5, 2) := dk_21 5 (dk_at dksX4_queues_5 9 rfl rfl)
theorem dX4_queues_130 : decode cX4_queues 130 = .ok (.if_icmp .ge 7, 3) := dk_162 0 7 (dk_at dksX4_queues_5 11 rfl rfl)
theorem dX4_queues_133 : decode cX4_queues 133 = .ok (.iload_n 3, 1) := dk_29 (dk_at dksX4_queues_5 14 rfl rfl)
theorem dX4_queues_134 : decode cX4_queues 134 = .ok (.goto 7, 3) := dk_167 0 7 (dk_at dksX4_queues_5 15 rfl rfl)
theorem dX4_queues_137 : decode cX4_queues 137 = .ok (.iload_n 3, 1) := dk_29 (dk_at dksX4_queues_5 18 rfl rfl)
theorem dX4_queues_138 : decode cX4_queues 138 = .ok (.bipush 8, 2) := dk_16 8 (dk_at dksX4_queues_5 19 rfl rfl)
theorem dX4_queues_140 : decode cX4_queues 140 = .ok (.iadd, 1) := dk_96 (dk_at dksX4_queues_5 21 rfl rfl)
theorem dX4_queues_141 : decode cX4_queues 141 = .ok (.iastore, 1) := dk_79 (dk_at dksX4_queues_5 22 rfl rfl)
theorem dX4_queues_142 : decode cX4_queues 142 = .ok (.aload_n 0, 1) := dk_42 (dk_at dksX4_queues_5 23 rfl rfl)
theorem dX4_queues_143 : decode cX4_queues 143 = .ok (.dup, 1) := dk_89 (dk_at dksX4_queues_6 0 rfl rfl)
theorem dX4_queues_144 : decode cX4_queues 144 = .ok (.getfield 236, 3) := dk_180 0 236 (dk_at dksX4_queues_6 1 rfl rfl)
theorem dX4_queues_147 : decode cX4_queues 147 = .ok (.iconst 1, 1) := dk_4 (dk_at dksX4_queues_6 4 rfl rfl)
theorem dX4_queues_148 : decode cX4_queues 148 = .ok (.iadd, 1) := dk_96 (dk_at dksX4_queues_6 5 rfl rfl)
theorem dX4_queues_149 : decode cX4_queues 149 = .ok (.putfield 236, 3) := dk_181 0 236 (dk_at dksX4_queues_6 6 rfl rfl)
theorem dX4_queues_152 : decode cX4_queues 152 = .ok (.iinc 7 1, 3) := dk_132 7 1 (dk_at dksX4_queues_6 9 rfl rfl)
theorem dX4_queues_155 : decode cX4_queues 155 = .ok (.goto (-69), 3) := dk_167 255 187 (dk_at dksX4_queues_6 12 rfl rfl)
theorem dX4_queues_158 : decode cX4_queues 158 = .ok (.iinc 3 1, 3) := dk_132 3 1 (dk_at dksX4_queues_6 15 rfl rfl)
theorem dX4_queues_161 : decode cX4_queues 161 = .ok (.goto (-152), 3) := dk_167 255 104 (dk_at dksX4_queues_6 18 rfl rfl)
theorem dX4_queues_164 : decode cX4_queues 164 = .ok (.iload_n 2, 1) := dk_28 (dk_at dksX4_queues_6 21 rfl rfl)
theorem dX4_queues_165 : decode cX4_queues 165 = .ok (.ifCond .eq 14, 3) := dk_153 0 14 (dk_at dksX4_queues_7 0 rfl rfl)
theorem dX4_queues_168 : decode cX4_queues 168 = .ok (.aload_n 0, 1) := dk_42 (dk_at dksX4_queues_7 3 rfl rfl)
theorem dX4_queues_169 : decode cX4_queues 169 = .ok (.getfield 236, 3) := dk_180 0 236 (dk_at dksX4_queues_7 4 rfl rfl)
theorem dX4_queues_172 : decode cX4_queues 172 = .ok (.ifCond .le 7, 3) := dk_158 0 7 (dk_at dksX4_queues_7 7 rfl rfl)
theorem dX4_queues_175 : decode cX4_queues 175 = .ok (.iconst 1, 1) := dk_4 (dk_at dksX4_queues_7 10 rfl rfl)
theorem dX4_queues_176 : decode cX4_queues 176 = .ok (.goto 4, 3) := dk_167 0 4 (dk_at dksX4_queues_7 11 rfl rfl)
theorem dX4_queues_179 : decode cX4_queues 179 = .ok (.iconst 0, 1) := dk_3 (dk_at dksX4_queues_7 14 rfl rfl)
theorem dX4_queues_180 : decode cX4_queues 180 = .ok (.ireturn, 1) := dk_172 (dk_at dksX4_queues_7 15 rfl rfl)
abbrev cX4_leastLength : ByteArray := prog_18_method_54_code
def yX4_leastLength : MethodName := ⟨RX4, "leastLength", "()I"⟩
def dkwX4_leastLength_9 : List UInt8 := [180, 0, 239, 172]
abbrev dktX4_leastLength_9 : List UInt8 := dkwX4_leastLength_9 ++ []
def dkwX4_leastLength_8 : List UInt8 := [180, 0, 103, 29, 51, 182, 0, 194, 54, 4, 132, 3, 1, 167, 255, 180, 42, 28, 181, 0, 115, 42]
abbrev dktX4_leastLength_8 : List UInt8 := dkwX4_leastLength_8 ++ dktX4_leastLength_9
def dkwX4_leastLength_7 : List UInt8 := [180, 0, 91, 29, 46, 42, 180, 0, 100, 29, 46, 42, 180, 0, 94, 29, 46, 42, 180, 0, 97, 29, 46, 42]
abbrev dktX4_leastLength_7 : List UInt8 := dkwX4_leastLength_7 ++ dktX4_leastLength_8
def dkwX4_leastLength_6 : List UInt8 := [180, 0, 91, 29, 46, 42, 180, 0, 100, 29, 46, 42, 180, 0, 103, 29, 51, 182, 0, 175, 42, 42]
abbrev dktX4_leastLength_6 : List UInt8 := dkwX4_leastLength_6 ++ dktX4_leastLength_7
def dkwX4_leastLength_5 : List UInt8 := [182, 0, 106, 3, 62, 29, 27, 162, 0, 77, 42, 42, 180, 0, 88, 29, 46, 181, 0, 115, 42, 42]
abbrev dktX4_leastLength_5 : List UInt8 := dkwX4_leastLength_5 ++ dktX4_leastLength_6
def dkwX4_leastLength_4 : List UInt8 := [42, 182, 0, 106, 42, 16, 61, 181, 0, 239, 42, 4, 42, 180, 0, 236, 120, 4, 100, 182, 0, 242, 42]
abbrev dktX4_leastLength_4 : List UInt8 := dkwX4_leastLength_4 ++ dktX4_leastLength_5
def dkwX4_leastLength_3 : List UInt8 := [180, 0, 58, 29, 46, 79, 42, 180, 0, 103, 29, 42, 180, 0, 61, 29, 51, 84, 132, 3, 1, 167, 255, 176]
abbrev dktX4_leastLength_3 : List UInt8 := dkwX4_leastLength_3 ++ dktX4_leastLength_4
def dkwX4_leastLength_2 : List UInt8 := [180, 0, 52, 29, 46, 79, 42, 180, 0, 97, 29, 42, 180, 0, 55, 29, 46, 79, 42, 180, 0, 100, 29, 42]
abbrev dktX4_leastLength_2 : List UInt8 := dkwX4_leastLength_2 ++ dktX4_leastLength_3
def dkwX4_leastLength_1 : List UInt8 := [180, 0, 46, 29, 46, 79, 42, 180, 0, 91, 29, 42, 180, 0, 49, 29, 46, 79, 42, 180, 0, 94, 29, 42]
abbrev dktX4_leastLength_1 : List UInt8 := dkwX4_leastLength_1 ++ dktX4_leastLength_2
def dkwX4_leastLength_0 : List UInt8 := [42, 180, 0, 112, 60, 42, 180, 0, 115, 61, 3, 62, 29, 27, 162, 0, 81, 42, 180, 0, 88, 29, 42]
abbrev dktX4_leastLength_0 : List UInt8 := dkwX4_leastLength_0 ++ dktX4_leastLength_1
theorem dksX4_leastLength_0 : cX4_leastLength.data.toList.drop 0 = dktX4_leastLength_0 := by decide +kernel
theorem dksX4_leastLength_1 : cX4_leastLength.data.toList.drop 23 = dktX4_leastLength_1 := dk_seg dksX4_leastLength_0 23 rfl rfl
theorem dksX4_leastLength_2 : cX4_leastLength.data.toList.drop 47 = dktX4_leastLength_2 := dk_seg dksX4_leastLength_1 24 rfl rfl
theorem dksX4_leastLength_3 : cX4_leastLength.data.toList.drop 71 = dktX4_leastLength_3 := dk_seg dksX4_leastLength_2 24 rfl rfl
theorem dksX4_leastLength_4 : cX4_leastLength.data.toList.drop 95 = dktX4_leastLength_4 := dk_seg dksX4_leastLength_3 24 rfl rfl
theorem dksX4_leastLength_5 : cX4_leastLength.data.toList.drop 118 = dktX4_leastLength_5 := dk_seg dksX4_leastLength_4 23 rfl rfl
theorem dksX4_leastLength_6 : cX4_leastLength.data.toList.drop 140 = dktX4_leastLength_6 := dk_seg dksX4_leastLength_5 22 rfl rfl
theorem dksX4_leastLength_7 : cX4_leastLength.data.toList.drop 162 = dktX4_leastLength_7 := dk_seg dksX4_leastLength_6 22 rfl rfl
theorem dksX4_leastLength_8 : cX4_leastLength.data.toList.drop 186 = dktX4_leastLength_8 := dk_seg dksX4_leastLength_7 24 rfl rfl
theorem dksX4_leastLength_9 : cX4_leastLength.data.toList.drop 208 = dktX4_leastLength_9 := dk_seg dksX4_leastLength_8 22 rfl rfl
theorem dX4_leastLength_0 : decode cX4_leastLength 0 = .ok (.aload_n 0, 1) := dk_42 (dk_at dksX4_leastLength_0 0 rfl rfl)
theorem dX4_leastLength_1 : decode cX4_leastLength 1 = .ok (.getfield 112, 3) := dk_180 0 112 (dk_at dksX4_leastLength_0 1 rfl rfl)
theorem dX4_leastLength_4 : decode cX4_leastLength 4 = .ok (.istore_n 1, 1) := dk_60 (dk_at dksX4_leastLength_0 4 rfl rfl)
theorem dX4_leastLength_5 : decode cX4_leastLength 5 = .ok (.aload_n 0, 1) := dk_42 (dk_at dksX4_leastLength_0 5 rfl rfl)
theorem dX4_leastLength_6 : decode cX4_leastLength 6 = .ok (.getfield 115, 3) := dk_180 0 115 (dk_at dksX4_leastLength_0 6 rfl rfl)
theorem dX4_leastLength_9 : decode cX4_leastLength 9 = .ok (.istore_n 2, 1) := dk_61 (dk_at dksX4_leastLength_0 9 rfl rfl)
theorem dX4_leastLength_10 : decode cX4_leastLength 10 = .ok (.iconst 0, 1) := dk_3 (dk_at dksX4_leastLength_0 10 rfl rfl)
theorem dX4_leastLength_11 : decode cX4_leastLength 11 = .ok (.istore_n 3, 1) := dk_62 (dk_at dksX4_leastLength_0 11 rfl rfl)
theorem dX4_leastLength_12 : decode cX4_leastLength 12 = .ok (.iload_n 3, 1) := dk_29 (dk_at dksX4_leastLength_0 12 rfl rfl)
theorem dX4_leastLength_13 : decode cX4_leastLength 13 = .ok (.iload_n 1, 1) := dk_27 (dk_at dksX4_leastLength_0 13 rfl rfl)
theorem dX4_leastLength_14 : decode cX4_leastLength 14 = .ok (.if_icmp .ge 81, 3) := dk_162 0 81 (dk_at dksX4_leastLength_0 14 rfl rfl)
theorem dX4_leastLength_17 : decode cX4_leastLength 17 = .ok (.aload_n 0, 1) := dk_42 (dk_at dksX4_leastLength_0 17 rfl rfl)
theorem dX4_leastLength_18 : decode cX4_leastLength 18 = .ok (.getfield 88, 3) := dk_180 0 88 (dk_at dksX4_leastLength_0 18 rfl rfl)
theorem dX4_leastLength_21 : decode cX4_leastLength 21 = .ok (.iload_n 3, 1) := dk_29 (dk_at dksX4_leastLength_0 21 rfl rfl)
theorem dX4_leastLength_22 : decode cX4_leastLength 22 = .ok (.aload_n 0, 1) := dk_42 (dk_at dksX4_leastLength_0 22 rfl rfl)
theorem dX4_leastLength_23 : decode cX4_leastLength 23 = .ok (.getfield 46, 3) := dk_180 0 46 (dk_at dksX4_leastLength_1 0 rfl rfl)
theorem dX4_leastLength_26 : decode cX4_leastLength 26 = .ok (.iload_n 3, 1) := dk_29 (dk_at dksX4_leastLength_1 3 rfl rfl)
theorem dX4_leastLength_27 : decode cX4_leastLength 27 = .ok (.iaload, 1) := dk_46 (dk_at dksX4_leastLength_1 4 rfl rfl)
theorem dX4_leastLength_28 : decode cX4_leastLength 28 = .ok (.iastore, 1) := dk_79 (dk_at dksX4_leastLength_1 5 rfl rfl)
theorem dX4_leastLength_29 : decode cX4_leastLength 29 = .ok (.aload_n 0, 1) := dk_42 (dk_at dksX4_leastLength_1 6 rfl rfl)
theorem dX4_leastLength_30 : decode cX4_leastLength 30 = .ok (.getfield 91, 3) := dk_180 0 91 (dk_at dksX4_leastLength_1 7 rfl rfl)
theorem dX4_leastLength_33 : decode cX4_leastLength 33 = .ok (.iload_n 3, 1) := dk_29 (dk_at dksX4_leastLength_1 10 rfl rfl)
theorem dX4_leastLength_34 : decode cX4_leastLength 34 = .ok (.aload_n 0, 1) := dk_42 (dk_at dksX4_leastLength_1 11 rfl rfl)
theorem dX4_leastLength_35 : decode cX4_leastLength 35 = .ok (.getfield 49, 3) := dk_180 0 49 (dk_at dksX4_leastLength_1 12 rfl rfl)
theorem dX4_leastLength_38 : decode cX4_leastLength 38 = .ok (.iload_n 3, 1) := dk_29 (dk_at dksX4_leastLength_1 15 rfl rfl)
theorem dX4_leastLength_39 : decode cX4_leastLength 39 = .ok (.iaload, 1) := dk_46 (dk_at dksX4_leastLength_1 16 rfl rfl)
theorem dX4_leastLength_40 : decode cX4_leastLength 40 = .ok (.iastore, 1) := dk_79 (dk_at dksX4_leastLength_1 17 rfl rfl)
theorem dX4_leastLength_41 : decode cX4_leastLength 41 = .ok (.aload_n 0, 1) := dk_42 (dk_at dksX4_leastLength_1 18 rfl rfl)
theorem dX4_leastLength_42 : decode cX4_leastLength 42 = .ok (.getfield 94, 3) := dk_180 0 94 (dk_at dksX4_leastLength_1 19 rfl rfl)
theorem dX4_leastLength_45 : decode cX4_leastLength 45 = .ok (.iload_n 3, 1) := dk_29 (dk_at dksX4_leastLength_1 22 rfl rfl)
theorem dX4_leastLength_46 : decode cX4_leastLength 46 = .ok (.aload_n 0, 1) := dk_42 (dk_at dksX4_leastLength_1 23 rfl rfl)
theorem dX4_leastLength_47 : decode cX4_leastLength 47 = .ok (.getfield 52, 3) := dk_180 0 52 (dk_at dksX4_leastLength_2 0 rfl rfl)
theorem dX4_leastLength_50 : decode cX4_leastLength 50 = .ok (.iload_n 3, 1) := dk_29 (dk_at dksX4_leastLength_2 3 rfl rfl)
theorem dX4_leastLength_51 : decode cX4_leastLength 51 = .ok (.iaload, 1) := dk_46 (dk_at dksX4_leastLength_2 4 rfl rfl)
theorem dX4_leastLength_52 : decode cX4_leastLength 52 = .ok (.iastore, 1) := dk_79 (dk_at dksX4_leastLength_2 5 rfl rfl)
theorem dX4_leastLength_53 : decode cX4_leastLength 53 = .ok (.aload_n 0, 1) := dk_42 (dk_at dksX4_leastLength_2 6 rfl rfl)
theorem dX4_leastLength_54 : decode cX4_leastLength 54 = .ok (.getfield 97, 3) := dk_180 0 97 (dk_at dksX4_leastLength_2 7 rfl rfl)
theorem dX4_leastLength_57 : decode cX4_leastLength 57 = .ok (.iload_n 3, 1) := dk_29 (dk_at dksX4_leastLength_2 10 rfl rfl)
theorem dX4_leastLength_58 : decode cX4_leastLength 58 = .ok (.aload_n 0, 1) := dk_42 (dk_at dksX4_leastLength_2 11 rfl rfl)
theorem dX4_leastLength_59 : decode cX4_leastLength 59 = .ok (.getfield 55, 3) := dk_180 0 55 (dk_at dksX4_leastLength_2 12 rfl rfl)
theorem dX4_leastLength_62 : decode cX4_leastLength 62 = .ok (.iload_n 3, 1) := dk_29 (dk_at dksX4_leastLength_2 15 rfl rfl)
theorem dX4_leastLength_63 : decode cX4_leastLength 63 = .ok (.iaload, 1) := dk_46 (dk_at dksX4_leastLength_2 16 rfl rfl)
theorem dX4_leastLength_64 : decode cX4_leastLength 64 = .ok (.iastore, 1) := dk_79 (dk_at dksX4_leastLength_2 17 rfl rfl)
theorem dX4_leastLength_65 : decode cX4_leastLength 65 = .ok (.aload_n 0, 1) := dk_42 (dk_at dksX4_leastLength_2 18 rfl rfl)
theorem dX4_leastLength_66 : decode cX4_leastLength 66 = .ok (.getfield 100, 3) := dk_180 0 100 (dk_at dksX4_leastLength_2 19 rfl rfl)
theorem dX4_leastLength_69 : decode cX4_leastLength 69 = .ok (.iload_n 3, 1) := dk_29 (dk_at dksX4_leastLength_2 22 rfl rfl)
theorem dX4_leastLength_70 : decode cX4_leastLength 70 = .ok (.aload_n 0, 1) := dk_42 (dk_at dksX4_leastLength_2 23 rfl rfl)
theorem dX4_leastLength_71 : decode cX4_leastLength 71 = .ok (.getfield 58, 3) := dk_180 0 58 (dk_at dksX4_leastLength_3 0 rfl rfl)
theorem dX4_leastLength_74 : decode cX4_leastLength 74 = .ok (.iload_n 3, 1) := dk_29 (dk_at dksX4_leastLength_3 3 rfl rfl)
theorem dX4_leastLength_75 : decode cX4_leastLength 75 = .ok (.iaload, 1) := dk_46 (dk_at dksX4_leastLength_3 4 rfl rfl)
theorem dX4_leastLength_76 : decode cX4_leastLength 76 = .ok (.iastore, 1) := dk_79 (dk_at dksX4_leastLength_3 5 rfl rfl)
theorem dX4_leastLength_77 : decode cX4_leastLength 77 = .ok (.aload_n 0, 1) := dk_42 (dk_at dksX4_leastLength_3 6 rfl rfl)
theorem dX4_leastLength_78 : decode cX4_leastLength 78 = .ok (.getfield 103, 3) := dk_180 0 103 (dk_at dksX4_leastLength_3 7 rfl rfl)
theorem dX4_leastLength_81 : decode cX4_leastLength 81 = .ok (.iload_n 3, 1) := dk_29 (dk_at dksX4_leastLength_3 10 rfl rfl)
theorem dX4_leastLength_82 : decode cX4_leastLength 82 = .ok (.aload_n 0, 1) := dk_42 (dk_at dksX4_leastLength_3 11 rfl rfl)
theorem dX4_leastLength_83 : decode cX4_leastLength 83 = .ok (.getfield 61, 3) := dk_180 0 61 (dk_at dksX4_leastLength_3 12 rfl rfl)
theorem dX4_leastLength_86 : decode cX4_leastLength 86 = .ok (.iload_n 3, 1) := dk_29 (dk_at dksX4_leastLength_3 15 rfl rfl)
theorem dX4_leastLength_87 : decode cX4_leastLength 87 = .ok (.baload, 1) := dk_51 (dk_at dksX4_leastLength_3 16 rfl rfl)
theorem dX4_leastLength_88 : decode cX4_leastLength 88 = .ok (.bastore, 1) := dk_84 (dk_at dksX4_leastLength_3 17 rfl rfl)
theorem dX4_leastLength_89 : decode cX4_leastLength 89 = .ok (.iinc 3 1, 3) := dk_132 3 1 (dk_at dksX4_leastLength_3 18 rfl rfl)
theorem dX4_leastLength_92 : decode cX4_leastLength 92 = .ok (.goto (-80), 3) := dk_167 255 176 (dk_at dksX4_leastLength_3 21 rfl rfl)
theorem dX4_leastLength_95 : decode cX4_leastLength 95 = .ok (.aload_n 0, 1) := dk_42 (dk_at dksX4_leastLength_4 0 rfl rfl)
theorem dX4_leastLength_96 : decode cX4_leastLength 96 = .ok (.invokevirtual 106, 3) := dk_182 0 106 (dk_at dksX4_leastLength_4 1 rfl rfl)
theorem dX4_leastLength_99 : decode cX4_leastLength 99 = .ok (.aload_n 0, 1) := dk_42 (dk_at dksX4_leastLength_4 4 rfl rfl)
theorem dX4_leastLength_100 : decode cX4_leastLength 100 = .ok (.bipush 61, 2) := dk_16 61 (dk_at dksX4_leastLength_4 5 rfl rfl)
theorem dX4_leastLength_102 : decode cX4_leastLength 102 = .ok (.putfield 239, 3) := dk_181 0 239 (dk_at dksX4_leastLength_4 7 rfl rfl)
theorem dX4_leastLength_105 : decode cX4_leastLength 105 = .ok (.aload_n 0, 1) := dk_42 (dk_at dksX4_leastLength_4 10 rfl rfl)
theorem dX4_leastLength_106 : decode cX4_leastLength 106 = .ok (.iconst 1, 1) := dk_4 (dk_at dksX4_leastLength_4 11 rfl rfl)
theorem dX4_leastLength_107 : decode cX4_leastLength 107 = .ok (.aload_n 0, 1) := dk_42 (dk_at dksX4_leastLength_4 12 rfl rfl)
theorem dX4_leastLength_108 : decode cX4_leastLength 108 = .ok (.getfield 236, 3) := dk_180 0 236 (dk_at dksX4_leastLength_4 13 rfl rfl)
theorem dX4_leastLength_111 : decode cX4_leastLength 111 = .ok (.ishl, 1) := dk_120 (dk_at dksX4_leastLength_4 16 rfl rfl)
theorem dX4_leastLength_112 : decode cX4_leastLength 112 = .ok (.iconst 1, 1) := dk_4 (dk_at dksX4_leastLength_4 17 rfl rfl)
theorem dX4_leastLength_113 : decode cX4_leastLength 113 = .ok (.isub, 1) := dk_100 (dk_at dksX4_leastLength_4 18 rfl rfl)
theorem dX4_leastLength_114 : decode cX4_leastLength 114 = .ok (.invokevirtual 242, 3) := dk_182 0 242 (dk_at dksX4_leastLength_4 19 rfl rfl)
theorem dX4_leastLength_117 : decode cX4_leastLength 117 = .ok (.aload_n 0, 1) := dk_42 (dk_at dksX4_leastLength_4 22 rfl rfl)
theorem dX4_leastLength_118 : decode cX4_leastLength 118 = .ok (.invokevirtual 106, 3) := dk_182 0 106 (dk_at dksX4_leastLength_5 0 rfl rfl)
theorem dX4_leastLength_121 : decode cX4_leastLength 121 = .ok (.iconst 0, 1) := dk_3 (dk_at dksX4_leastLength_5 3 rfl rfl)
theorem dX4_leastLength_122 : decode cX4_leastLength 122 = .ok (.istore_n 3, 1) := dk_62 (dk_at dksX4_leastLength_5 4 rfl rfl)
theorem dX4_leastLength_123 : decode cX4_leastLength 123 = .ok (.iload_n 3, 1) := dk_29 (dk_at dksX4_leastLength_5 5 rfl rfl)
theorem dX4_leastLength_124 : decode cX4_leastLength 124 = .ok (.iload_n 1, 1) := dk_27 (dk_at dksX4_leastLength_5 6 rfl rfl)
theorem dX4_leastLength_125 : decode cX4_leastLength 125 = .ok (.if_icmp .ge 77, 3) := dk_162 0 77 (dk_at dksX4_leastLength_5 7 rfl rfl)
theorem dX4_leastLength_128 : decode cX4_leastLength 128 = .ok (.aload_n 0, 1) := dk_42 (dk_at dksX4_leastLength_5 10 rfl rfl)
theorem dX4_leastLength_129 : decode cX4_leastLength 129 = .ok (.aload_n 0, 1) := dk_42 (dk_at dksX4_leastLength_5 11 rfl rfl)
theorem dX4_leastLength_130 : decode cX4_leastLength 130 = .ok (.getfield 88, 3) := dk_180 0 88 (dk_at dksX4_leastLength_5 12 rfl rfl)
theorem dX4_leastLength_133 : decode cX4_leastLength 133 = .ok (.iload_n 3, 1) := dk_29 (dk_at dksX4_leastLength_5 15 rfl rfl)
theorem dX4_leastLength_134 : decode cX4_leastLength 134 = .ok (.iaload, 1) := dk_46 (dk_at dksX4_leastLength_5 16 rfl rfl)
theorem dX4_leastLength_135 : decode cX4_leastLength 135 = .ok (.putfield 115, 3) := dk_181 0 115 (dk_at dksX4_leastLength_5 17 rfl rfl)
theorem dX4_leastLength_138 : decode cX4_leastLength 138 = .ok (.aload_n 0, 1) := dk_42 (dk_at dksX4_leastLength_5 20 rfl rfl)
theorem dX4_leastLength_139 : decode cX4_leastLength 139 = .ok (.aload_n 0, 1) := dk_42 (dk_at dksX4_leastLength_5 21 rfl rfl)
theorem dX4_leastLength_140 : decode cX4_leastLength 140 = .ok (.getfield 91, 3) := dk_180 0 91 (dk_at dksX4_leastLength_6 0 rfl rfl)
theorem dX4_leastLength_143 : decode cX4_leastLength 143 = .ok (.iload_n 3, 1) := dk_29 (dk_at dksX4_leastLength_6 3 rfl rfl)
theorem dX4_leastLength_144 : decode cX4_leastLength 144 = .ok (.iaload, 1) := dk_46 (dk_at dksX4_leastLength_6 4 rfl rfl)
theorem dX4_leastLength_145 : decode cX4_leastLength 145 = .ok (.aload_n 0, 1) := dk_42 (dk_at dksX4_leastLength_6 5 rfl rfl)
theorem dX4_leastLength_146 : decode cX4_leastLength 146 = .ok (.getfield 100, 3) := dk_180 0 100 (dk_at dksX4_leastLength_6 6 rfl rfl)
theorem dX4_leastLength_149 : decode cX4_leastLength 149 = .ok (.iload_n 3, 1) := dk_29 (dk_at dksX4_leastLength_6 9 rfl rfl)
theorem dX4_leastLength_150 : decode cX4_leastLength 150 = .ok (.iaload, 1) := dk_46 (dk_at dksX4_leastLength_6 10 rfl rfl)
theorem dX4_leastLength_151 : decode cX4_leastLength 151 = .ok (.aload_n 0, 1) := dk_42 (dk_at dksX4_leastLength_6 11 rfl rfl)
theorem dX4_leastLength_152 : decode cX4_leastLength 152 = .ok (.getfield 103, 3) := dk_180 0 103 (dk_at dksX4_leastLength_6 12 rfl rfl)
theorem dX4_leastLength_155 : decode cX4_leastLength 155 = .ok (.iload_n 3, 1) := dk_29 (dk_at dksX4_leastLength_6 15 rfl rfl)
theorem dX4_leastLength_156 : decode cX4_leastLength 156 = .ok (.baload, 1) := dk_51 (dk_at dksX4_leastLength_6 16 rfl rfl)
theorem dX4_leastLength_157 : decode cX4_leastLength 157 = .ok (.invokevirtual 175, 3) := dk_182 0 175 (dk_at dksX4_leastLength_6 17 rfl rfl)
theorem dX4_leastLength_160 : decode cX4_leastLength 160 = .ok (.aload_n 0, 1) := dk_42 (dk_at dksX4_leastLength_6 20 rfl rfl)
theorem dX4_leastLength_161 : decode cX4_leastLength 161 = .ok (.aload_n 0, 1) := dk_42 (dk_at dksX4_leastLength_6 21 rfl rfl)
theorem dX4_leastLength_162 : decode cX4_leastLength 162 = .ok (.getfield 91, 3) := dk_180 0 91 (dk_at dksX4_leastLength_7 0 rfl rfl)
theorem dX4_leastLength_165 : decode cX4_leastLength 165 = .ok (.iload_n 3, 1) := dk_29 (dk_at dksX4_leastLength_7 3 rfl rfl)
theorem dX4_leastLength_166 : decode cX4_leastLength 166 = .ok (.iaload, 1) := dk_46 (dk_at dksX4_leastLength_7 4 rfl rfl)
theorem dX4_leastLength_167 : decode cX4_leastLength 167 = .ok (.aload_n 0, 1) := dk_42 (dk_at dksX4_leastLength_7 5 rfl rfl)
theorem dX4_leastLength_168 : decode cX4_leastLength 168 = .ok (.getfield 100, 3) := dk_180 0 100 (dk_at dksX4_leastLength_7 6 rfl rfl)
theorem dX4_leastLength_171 : decode cX4_leastLength 171 = .ok (.iload_n 3, 1) := dk_29 (dk_at dksX4_leastLength_7 9 rfl rfl)
theorem dX4_leastLength_172 : decode cX4_leastLength 172 = .ok (.iaload, 1) := dk_46 (dk_at dksX4_leastLength_7 10 rfl rfl)
theorem dX4_leastLength_173 : decode cX4_leastLength 173 = .ok (.aload_n 0, 1) := dk_42 (dk_at dksX4_leastLength_7 11 rfl rfl)
theorem dX4_leastLength_174 : decode cX4_leastLength 174 = .ok (.getfield 94, 3) := dk_180 0 94 (dk_at dksX4_leastLength_7 12 rfl rfl)
theorem dX4_leastLength_177 : decode cX4_leastLength 177 = .ok (.iload_n 3, 1) := dk_29 (dk_at dksX4_leastLength_7 15 rfl rfl)
theorem dX4_leastLength_178 : decode cX4_leastLength 178 = .ok (.iaload, 1) := dk_46 (dk_at dksX4_leastLength_7 16 rfl rfl)
theorem dX4_leastLength_179 : decode cX4_leastLength 179 = .ok (.aload_n 0, 1) := dk_42 (dk_at dksX4_leastLength_7 17 rfl rfl)
theorem dX4_leastLength_180 : decode cX4_leastLength 180 = .ok (.getfield 97, 3) := dk_180 0 97 (dk_at dksX4_leastLength_7 18 rfl rfl)
theorem dX4_leastLength_183 : decode cX4_leastLength 183 = .ok (.iload_n 3, 1) := dk_29 (dk_at dksX4_leastLength_7 21 rfl rfl)
theorem dX4_leastLength_184 : decode cX4_leastLength 184 = .ok (.iaload, 1) := dk_46 (dk_at dksX4_leastLength_7 22 rfl rfl)
theorem dX4_leastLength_185 : decode cX4_leastLength 185 = .ok (.aload_n 0, 1) := dk_42 (dk_at dksX4_leastLength_7 23 rfl rfl)
theorem dX4_leastLength_186 : decode cX4_leastLength 186 = .ok (.getfield 103, 3) := dk_180 0 103 (dk_at dksX4_leastLength_8 0 rfl rfl)
theorem dX4_leastLength_189 : decode cX4_leastLength 189 = .ok (.iload_n 3, 1) := dk_29 (dk_at dksX4_leastLength_8 3 rfl rfl)
theorem dX4_leastLength_190 : decode cX4_leastLength 190 = .ok (.baload, 1) := dk_51 (dk_at dksX4_leastLength_8 4 rfl rfl)
theorem dX4_leastLength_191 : decode cX4_leastLength 191 = .ok (.invokevirtual 194, 3) := dk_182 0 194 (dk_at dksX4_leastLength_8 5 rfl rfl)
theorem dX4_leastLength_194 : decode cX4_leastLength 194 = .ok (.istore 4, 2) := dk_54 4 (dk_at dksX4_leastLength_8 8 rfl rfl)
theorem dX4_leastLength_196 : decode cX4_leastLength 196 = .ok (.iinc 3 1, 3) := dk_132 3 1 (dk_at dksX4_leastLength_8 10 rfl rfl)
theorem dX4_leastLength_199 : decode cX4_leastLength 199 = .ok (.goto (-76), 3) := dk_167 255 180 (dk_at dksX4_leastLength_8 13 rfl rfl)
theorem dX4_leastLength_202 : decode cX4_leastLength 202 = .ok (.aload_n 0, 1) := dk_42 (dk_at dksX4_leastLength_8 16 rfl rfl)
theorem dX4_leastLength_203 : decode cX4_leastLength 203 = .ok (.iload_n 2, 1) := dk_28 (dk_at dksX4_leastLength_8 17 rfl rfl)
theorem dX4_leastLength_204 : decode cX4_leastLength 204 = .ok (.putfield 115, 3) := dk_181 0 115 (dk_at dksX4_leastLength_8 18 rfl rfl)
theorem dX4_leastLength_207 : decode cX4_leastLength 207 = .ok (.aload_n 0, 1) := dk_42 (dk_at dksX4_leastLength_8 21 rfl rfl)
theorem dX4_leastLength_208 : decode cX4_leastLength 208 = .ok (.getfield 239, 3) := dk_180 0 239 (dk_at dksX4_leastLength_9 0 rfl rfl)
theorem dX4_leastLength_211 : decode cX4_leastLength 211 = .ok (.ireturn, 1) := dk_172 (dk_at dksX4_leastLength_9 3 rfl rfl)
abbrev cX4_tries : ByteArray := prog_18_method_53_code
def yX4_tries : MethodName := ⟨RX4, "tries", "(I)V"⟩
def dkwX4_tries_6 : List UInt8 := [4, 100, 182, 0, 214, 42, 89, 180, 0, 115, 4, 100, 181, 0, 115, 132, 2, 1, 167, 255, 131, 177]
abbrev dktX4_tries_6 : List UInt8 := dkwX4_tries_6 ++ []
def dkwX4_tries_5 : List UInt8 := [167, 0, 4, 3, 182, 0, 194, 62, 42, 27, 4, 28, 120, 2, 130, 126, 182, 0, 242, 42, 42, 180, 0, 112]
abbrev dktX4_tries_5 : List UInt8 := dkwX4_tries_5 ++ dktX4_tries_6
def dkwX4_tries_4 : List UInt8 := [180, 0, 204, 42, 180, 0, 198, 42, 180, 0, 201, 42, 180, 0, 85, 28, 46, 16, 8, 161, 0, 7, 4]
abbrev dktX4_tries_4 : List UInt8 := dkwX4_tries_4 ++ dktX4_tries_5
def dkwX4_tries_3 : List UInt8 := [4, 167, 0, 4, 3, 182, 0, 207, 153, 0, 76, 42, 42, 180, 0, 85, 28, 46, 16, 8, 112, 42]
abbrev dktX4_tries_3 : List UInt8 := dkwX4_tries_3 ++ dktX4_tries_4
def dkwX4_tries_2 : List UInt8 := [160, 0, 108, 42, 42, 180, 0, 85, 28, 46, 16, 8, 112, 42, 180, 0, 85, 28, 46, 16, 8, 161, 0, 7]
abbrev dktX4_tries_2 : List UInt8 := dkwX4_tries_2 ++ dktX4_tries_3
def dkwX4_tries_1 : List UInt8 := [180, 0, 239, 181, 0, 239, 177, 3, 61, 28, 42, 180, 0, 236, 162, 0, 123, 27, 28, 122, 4, 126, 4]
abbrev dktX4_tries_1 : List UInt8 := dkwX4_tries_1 ++ dktX4_tries_2
def dkwX4_tries_0 : List UInt8 := [27, 154, 0, 29, 42, 182, 0, 218, 61, 42, 28, 42, 180, 0, 239, 162, 0, 7, 28, 167, 0, 7, 42]
abbrev dktX4_tries_0 : List UInt8 := dkwX4_tries_0 ++ dktX4_tries_1
theorem dksX4_tries_0 : cX4_tries.data.toList.drop 0 = dktX4_tries_0 := by decide +kernel
theorem dksX4_tries_1 : cX4_tries.data.toList.drop 23 = dktX4_tries_1 := dk_seg dksX4_tries_0 23 rfl rfl
theorem dksX4_tries_2 : cX4_tries.data.toList.drop 46 = dktX4_tries_2 := dk_seg dksX4_tries_1 23 rfl rfl
theorem dksX4_tries_3 : cX4_tries.data.toList.drop 70 = dktX4_tries_3 := dk_seg dksX4_tries_2 24 rfl rfl
theorem dksX4_tries_4 : cX4_tries.data.toList.drop 92 = dktX4_tries_4 := dk_seg dksX4_tries_3 22 rfl rfl
theorem dksX4_tries_5 : cX4_tries.data.toList.drop 115 = dktX4_tries_5 := dk_seg dksX4_tries_4 23 rfl rfl
theorem dksX4_tries_6 : cX4_tries.data.toList.drop 139 = dktX4_tries_6 := dk_seg dksX4_tries_5 24 rfl rfl
theorem dX4_tries_0 : decode cX4_tries 0 = .ok (.iload_n 1, 1) := dk_27 (dk_at dksX4_tries_0 0 rfl rfl)
theorem dX4_tries_1 : decode cX4_tries 1 = .ok (.ifCond .ne 29, 3) := dk_154 0 29 (dk_at dksX4_tries_0 1 rfl rfl)
theorem dX4_tries_4 : decode cX4_tries 4 = .ok (.aload_n 0, 1) := dk_42 (dk_at dksX4_tries_0 4 rfl rfl)
theorem dX4_tries_5 : decode cX4_tries 5 = .ok (.invokevirtual 218, 3) := dk_182 0 218 (dk_at dksX4_tries_0 5 rfl rfl)
theorem dX4_tries_8 : decode cX4_tries 8 = .ok (.istore_n 2, 1) := dk_61 (dk_at dksX4_tries_0 8 rfl rfl)
theorem dX4_tries_9 : decode cX4_tries 9 = .ok (.aload_n 0, 1) := dk_42 (dk_at dksX4_tries_0 9 rfl rfl)
theorem dX4_tries_10 : decode cX4_tries 10 = .ok (.iload_n 2, 1) := dk_28 (dk_at dksX4_tries_0 10 rfl rfl)
theorem dX4_tries_11 : decode cX4_tries 11 = .ok (.aload_n 0, 1) := dk_42 (dk_at dksX4_tries_0 11 rfl rfl)
theorem dX4_tries_12 : decode cX4_tries 12 = .ok (.getfield 239, 3) := dk_180 0 239 (dk_at dksX4_tries_0 12 rfl rfl)
theorem dX4_tries_15 : decode cX4_tries 15 = .ok (.if_icmp .ge 7, 3) := dk_162 0 7 (dk_at dksX4_tries_0 15 rfl rfl)
theorem dX4_tries_18 : decode cX4_tries 18 = .ok (.iload_n 2, 1) := dk_28 (dk_at dksX4_tries_0 18 rfl rfl)
theorem dX4_tries_19 : decode cX4_tries 19 = .ok (.goto 7, 3) := dk_167 0 7 (dk_at dksX4_tries_0 19 rfl rfl)
theorem dX4_tries_22 : decode cX4_tries 22 = .ok (.aload_n 0, 1) := dk_42 (dk_at dksX4_tries_0 22 rfl rfl)
theorem dX4_tries_23 : decode cX4_tries 23 = .ok (.getfield 239, 3) := dk_180 0 239 (dk_at dksX4_tries_1 0 rfl rfl)
theorem dX4_tries_26 : decode cX4_tries 26 = .ok (.putfield 239, 3) := dk_181 0 239 (dk_at dksX4_tries_1 3 rfl rfl)
theorem dX4_tries_29 : decode cX4_tries 29 = .ok (.return_, 1) := dk_177 (dk_at dksX4_tries_1 6 rfl rfl)
theorem dX4_tries_30 : decode cX4_tries 30 = .ok (.iconst 0, 1) := dk_3 (dk_at dksX4_tries_1 7 rfl rfl)
theorem dX4_tries_31 : decode cX4_tries 31 = .ok (.istore_n 2, 1) := dk_61 (dk_at dksX4_tries_1 8 rfl rfl)
theorem dX4_tries_32 : decode cX4_tries 32 = .ok (.iload_n 2, 1) := dk_28 (dk_at dksX4_tries_1 9 rfl rfl)
theorem dX4_tries_33 : decode cX4_tries 33 = .ok (.aload_n 0, 1) := dk_42 (dk_at dksX4_tries_1 10 rfl rfl)
theorem dX4_tries_34 : decode cX4_tries 34 = .ok (.getfield 236, 3) := dk_180 0 236 (dk_at dksX4_tries_1 11 rfl rfl)
theorem dX4_tries_37 : decode cX4_tries 37 = .ok (.if_icmp .ge 123, 3) := dk_162 0 123 (dk_at dksX4_tries_1 14 rfl rfl)
theorem dX4_tries_40 : decode cX4_tries 40 = .ok (.iload_n 1, 1) := dk_27 (dk_at dksX4_tries_1 17 rfl rfl)
theorem dX4_tries_41 : decode cX4_tries 41 = .ok (.iload_n 2, 1) := dk_28 (dk_at dksX4_tries_1 18 rfl rfl)
theorem dX4_tries_42 : decode cX4_tries 42 = .ok (.ishr, 1) := dk_122 (dk_at dksX4_tries_1 19 rfl rfl)
theorem dX4_tries_43 : decode cX4_tries 43 = .ok (.iconst 1, 1) := dk_4 (dk_at dksX4_tries_1 20 rfl rfl)
theorem dX4_tries_44 : decode cX4_tries 44 = .ok (.iand, 1) := dk_126 (dk_at dksX4_tries_1 21 rfl rfl)
theorem dX4_tries_45 : decode cX4_tries 45 = .ok (.iconst 1, 1) := dk_4 (dk_at dksX4_tries_1 22 rfl rfl)
theorem dX4_tries_46 : decode cX4_tries 46 = .ok (.if_icmp .ne 108, 3) := dk_160 0 108 (dk_at dksX4_tries_2 0 rfl rfl)
theorem dX4_tries_49 : decode cX4_tries 49 = .ok (.aload_n 0, 1) := dk_42 (dk_at dksX4_tries_2 3 rfl rfl)
theorem dX4_tries_50 : decode cX4_tries 50 = .ok (.aload_n 0, 1) := dk_42 (dk_at dksX4_tries_2 4 rfl rfl)
theorem dX4_tries_51 : decode cX4_tries 51 = .ok (.getfield 85, 3) := dk_180 0 85 (dk_at dksX4_tries_2 5 rfl rfl)
theorem dX4_tries_54 : decode cX4_tries 54 = .ok (.iload_n 2, 1) := dk_28 (dk_at dksX4_tries_2 8 rfl rfl)
theorem dX4_tries_55 : decode cX4_tries 55 = .ok (.iaload, 1) := dk_46 (dk_at dksX4_tries_2 9 rfl rfl)
theorem dX4_tries_56 : decode cX4_tries 56 = .ok (.bipush 8, 2) := dk_16 8 (dk_at dksX4_tries_2 10 rfl rfl)
theorem dX4_tries_58 : decode cX4_tries 58 = .ok (.irem, 1) := dk_112 (dk_at dksX4_tries_2 12 rfl rfl)
theorem dX4_tries_59 : decode cX4_tries 59 = .ok (.aload_n 0, 1) := dk_42 (dk_at dksX4_tries_2 13 rfl rfl)
theorem dX4_tries_60 : decode cX4_tries 60 = .ok (.getfield 85, 3) := dk_180 0 85 (dk_at dksX4_tries_2 14 rfl rfl)
theorem dX4_tries_63 : decode cX4_tries 63 = .ok (.iload_n 2, 1) := dk_28 (dk_at dksX4_tries_2 17 rfl rfl)
theorem dX4_tries_64 : decode cX4_tries 64 = .ok (.iaload, 1) := dk_46 (dk_at dksX4_tries_2 18 rfl rfl)
theorem dX4_tries_65 : decode cX4_tries 65 = .ok (.bipush 8, 2) := dk_16 8 (dk_at dksX4_tries_2 19 rfl rfl)
theorem dX4_tries_67 : decode cX4_tries 67 = .ok (.if_icmp .lt 7, 3) := dk_161 0 7 (dk_at dksX4_tries_2 21 rfl rfl)
theorem dX4_tries_70 : decode cX4_tries 70 = .ok (.iconst 1, 1) := dk_4 (dk_at dksX4_tries_3 0 rfl rfl)
theorem dX4_tries_71 : decode cX4_tries 71 = .ok (.goto 4, 3) := dk_167 0 4 (dk_at dksX4_tries_3 1 rfl rfl)
theorem dX4_tries_74 : decode cX4_tries 74 = .ok (.iconst 0, 1) := dk_3 (dk_at dksX4_tries_3 4 rfl rfl)
theorem dX4_tries_75 : decode cX4_tries 75 = .ok (.invokevirtual 207, 3) := dk_182 0 207 (dk_at dksX4_tries_3 5 rfl rfl)
theorem dX4_tries_78 : decode cX4_tries 78 = .ok (.ifCond .eq 76, 3) := dk_153 0 76 (dk_at dksX4_tries_3 8 rfl rfl)
theorem dX4_tries_81 : decode cX4_tries 81 = .ok (.aload_n 0, 1) := dk_42 (dk_at dksX4_tries_3 11 rfl rfl)
theorem dX4_tries_82 : decode cX4_tries 82 = .ok (.aload_n 0, 1) := dk_42 (dk_at dksX4_tries_3 12 rfl rfl)
theorem dX4_tries_83 : decode cX4_tries 83 = .ok (.getfield 85, 3) := dk_180 0 85 (dk_at dksX4_tries_3 13 rfl rfl)
theorem dX4_tries_86 : decode cX4_tries 86 = .ok (.iload_n 2, 1) := dk_28 (dk_at dksX4_tries_3 16 rfl rfl)
theorem dX4_tries_87 : decode cX4_tries 87 = .ok (.iaload, 1) := dk_46 (dk_at dksX4_tries_3 17 rfl rfl)
theorem dX4_tries_88 : decode cX4_tries 88 = .ok (.bipush 8, 2) := dk_16 8 (dk_at dksX4_tries_3 18 rfl rfl)
theorem dX4_tries_90 : decode cX4_tries 90 = .ok (.irem, 1) := dk_112 (dk_at dksX4_tries_3 20 rfl rfl)
theorem dX4_tries_91 : decode cX4_tries 91 = .ok (.aload_n 0, 1) := dk_42 (dk_at dksX4_tries_3 21 rfl rfl)
theorem dX4_tries_92 : decode cX4_tries 92 = .ok (.getfield 204, 3) := dk_180 0 204 (dk_at dksX4_tries_4 0 rfl rfl)
theorem dX4_tries_95 : decode cX4_tries 95 = .ok (.aload_n 0, 1) := dk_42 (dk_at dksX4_tries_4 3 rfl rfl)
theorem dX4_tries_96 : decode cX4_tries 96 = .ok (.getfield 198, 3) := dk_180 0 198 (dk_at dksX4_tries_4 4 rfl rfl)
theorem dX4_tries_99 : decode cX4_tries 99 = .ok (.aload_n 0, 1) := dk_42 (dk_at dksX4_tries_4 7 rfl rfl)
theorem dX4_tries_100 : decode cX4_tries 100 = .ok (.getfield 201, 3) := dk_180 0 201 (dk_at dksX4_tries_4 8 rfl rfl)
theorem dX4_tries_103 : decode cX4_tries 103 = .ok (.aload_n 0, 1) := dk_42 (dk_at dksX4_tries_4 11 rfl rfl)
theorem dX4_tries_104 : decode cX4_tries 104 = .ok (.getfield 85, 3) := dk_180 0 85 (dk_at dksX4_tries_4 12 rfl rfl)
theorem dX4_tries_107 : decode cX4_tries 107 = .ok (.iload_n 2, 1) := dk_28 (dk_at dksX4_tries_4 15 rfl rfl)
theorem dX4_tries_108 : decode cX4_tries 108 = .ok (.iaload, 1) := dk_46 (dk_at dksX4_tries_4 16 rfl rfl)
theorem dX4_tries_109 : decode cX4_tries 109 = .ok (.bipush 8, 2) := dk_16 8 (dk_at dksX4_tries_4 17 rfl rfl)
theorem dX4_tries_111 : decode cX4_tries 111 = .ok (.if_icmp .lt 7, 3) := dk_161 0 7 (dk_at dksX4_tries_4 19 rfl rfl)
theorem dX4_tries_114 : decode cX4_tries 114 = .ok (.iconst 1, 1) := dk_4 (dk_at dksX4_tries_4 22 rfl rfl)
theorem dX4_tries_115 : decode cX4_tries 115 = .ok (.goto 4, 3) := dk_167 0 4 (dk_at dksX4_tries_5 0 rfl rfl)
theorem dX4_tries_118 : decode cX4_tries 118 = .ok (.iconst 0, 1) := dk_3 (dk_at dksX4_tries_5 3 rfl rfl)
theorem dX4_tries_119 : decode cX4_tries 119 = .ok (.invokevirtual 194, 3) := dk_182 0 194 (dk_at dksX4_tries_5 4 rfl rfl)
theorem dX4_tries_122 : decode cX4_tries 122 = .ok (.istore_n 3, 1) := dk_62 (dk_at dksX4_tries_5 7 rfl rfl)
theorem dX4_tries_123 : decode cX4_tries 123 = .ok (.aload_n 0, 1) := dk_42 (dk_at dksX4_tries_5 8 rfl rfl)
theorem dX4_tries_124 : decode cX4_tries 124 = .ok (.iload_n 1, 1) := dk_27 (dk_at dksX4_tries_5 9 rfl rfl)
theorem dX4_tries_125 : decode cX4_tries 125 = .ok (.iconst 1, 1) := dk_4 (dk_at dksX4_tries_5 10 rfl rfl)
theorem dX4_tries_126 : decode cX4_tries 126 = .ok (.iload_n 2, 1) := dk_28 (dk_at dksX4_tries_5 11 rfl rfl)
theorem dX4_tries_127 : decode cX4_tries 127 = .ok (.ishl, 1) := dk_120 (dk_at dksX4_tries_5 12 rfl rfl)
theorem dX4_tries_128 : decode cX4_tries 128 = .ok (.iconst (-1), 1) := dk_2 (dk_at dksX4_tries_5 13 rfl rfl)
theorem dX4_tries_129 : decode cX4_tries 129 = .ok (.ixor, 1) := dk_130 (dk_at dksX4_tries_5 14 rfl rfl)
theorem dX4_tries_130 : decode cX4_tries 130 = .ok (.iand, 1) := dk_126 (dk_at dksX4_tries_5 15 rfl rfl)
theorem dX4_tries_131 : decode cX4_tries 131 = .ok (.invokevirtual 242, 3) := dk_182 0 242 (dk_at dksX4_tries_5 16 rfl rfl)
theorem dX4_tries_134 : decode cX4_tries 134 = .ok (.aload_n 0, 1) := dk_42 (dk_at dksX4_tries_5 19 rfl rfl)
theorem dX4_tries_135 : decode cX4_tries 135 = .ok (.aload_n 0, 1) := dk_42 (dk_at dksX4_tries_5 20 rfl rfl)
theorem dX4_tries_136 : decode cX4_tries 136 = .ok (.getfield 112, 3) := dk_180 0 112 (dk_at dksX4_tries_5 21 rfl rfl)
theorem dX4_tries_139 : decode cX4_tries 139 = .ok (.iconst 1, 1) := dk_4 (dk_at dksX4_tries_6 0 rfl rfl)
theorem dX4_tries_140 : decode cX4_tries 140 = .ok (.isub, 1) := dk_100 (dk_at dksX4_tries_6 1 rfl rfl)
theorem dX4_tries_141 : decode cX4_tries 141 = .ok (.invokevirtual 214, 3) := dk_182 0 214 (dk_at dksX4_tries_6 2 rfl rfl)
theorem dX4_tries_144 : decode cX4_tries 144 = .ok (.aload_n 0, 1) := dk_42 (dk_at dksX4_tries_6 5 rfl rfl)
theorem dX4_tries_145 : decode cX4_tries 145 = .ok (.dup, 1) := dk_89 (dk_at dksX4_tries_6 6 rfl rfl)
theorem dX4_tries_146 : decode cX4_tries 146 = .ok (.getfield 115, 3) := dk_180 0 115 (dk_at dksX4_tries_6 7 rfl rfl)
theorem dX4_tries_149 : decode cX4_tries 149 = .ok (.iconst 1, 1) := dk_4 (dk_at dksX4_tries_6 10 rfl rfl)
theorem dX4_tries_150 : decode cX4_tries 150 = .ok (.isub, 1) := dk_100 (dk_at dksX4_tries_6 11 rfl rfl)
theorem dX4_tries_151 : decode cX4_tries 151 = .ok (.putfield 115, 3) := dk_181 0 115 (dk_at dksX4_tries_6 12 rfl rfl)
theorem dX4_tries_154 : decode cX4_tries 154 = .ok (.iinc 2 1, 3) := dk_132 2 1 (dk_at dksX4_tries_6 15 rfl rfl)
theorem dX4_tries_157 : decode cX4_tries 157 = .ok (.goto (-125), 3) := dk_167 255 131 (dk_at dksX4_tries_6 18 rfl rfl)
theorem dX4_tries_160 : decode cX4_tries 160 = .ok (.return_, 1) := dk_177 (dk_at dksX4_tries_6 21 rfl rfl)
abbrev cX4_nestedByTrying : ByteArray := prog_18_method_56_code
def yX4_nestedByTrying : MethodName := ⟨RX4, "nestedByTrying", "(I)I"⟩
def dkwX4_nestedByTrying_0 : List UInt8 := [42, 27, 182, 0, 251, 172]
abbrev dktX4_nestedByTrying_0 : List UInt8 := dkwX4_nestedByTrying_0 ++ []
theorem dksX4_nestedByTrying_0 : cX4_nestedByTrying.data.toList.drop 0 = dktX4_nestedByTrying_0 := by decide +kernel
theorem dX4_nestedByTrying_0 : decode cX4_nestedByTrying 0 = .ok (.aload_n 0, 1) := dk_42 (dk_at dksX4_nestedByTrying_0 0 rfl rfl)
theorem dX4_nestedByTrying_1 : decode cX4_nestedByTrying 1 = .ok (.iload_n 1, 1) := dk_27 (dk_at dksX4_nestedByTrying_0 1 rfl rfl)
theorem dX4_nestedByTrying_2 : decode cX4_nestedByTrying 2 = .ok (.invokevirtual 251, 3) := dk_182 0 251 (dk_at dksX4_nestedByTrying_0 2 rfl rfl)
theorem dX4_nestedByTrying_5 : decode cX4_nestedByTrying 5 = .ok (.ireturn, 1) := dk_172 (dk_at dksX4_nestedByTrying_0 5 rfl rfl)
abbrev cX4_addCloth : ByteArray := prog_18_method_57_code
def yX4_addCloth : MethodName := ⟨RX4, "addCloth", "(I)I"⟩
def dkwX4_addCloth_2 : List UInt8 := [180, 0, 254, 172]
abbrev dktX4_addCloth_2 : List UInt8 := dkwX4_addCloth_2 ++ []
def dkwX4_addCloth_1 : List UInt8 := [4, 167, 0, 4, 3, 182, 0, 129, 153, 0, 5, 3, 172, 42, 89, 180, 0, 254, 27, 96, 181, 0, 254, 42]
abbrev dktX4_addCloth_1 : List UInt8 := dkwX4_addCloth_1 ++ dktX4_addCloth_2
def dkwX4_addCloth_0 : List UInt8 := [42, 27, 4, 17, 39, 15, 184, 0, 122, 153, 0, 15, 42, 180, 0, 254, 27, 96, 19, 1, 1, 164, 0, 7]
abbrev dktX4_addCloth_0 : List UInt8 := dkwX4_addCloth_0 ++ dktX4_addCloth_1
theorem dksX4_addCloth_0 : cX4_addCloth.data.toList.drop 0 = dktX4_addCloth_0 := by decide +kernel
theorem dksX4_addCloth_1 : cX4_addCloth.data.toList.drop 24 = dktX4_addCloth_1 := dk_seg dksX4_addCloth_0 24 rfl rfl
theorem dksX4_addCloth_2 : cX4_addCloth.data.toList.drop 48 = dktX4_addCloth_2 := dk_seg dksX4_addCloth_1 24 rfl rfl
theorem dX4_addCloth_0 : decode cX4_addCloth 0 = .ok (.aload_n 0, 1) := dk_42 (dk_at dksX4_addCloth_0 0 rfl rfl)
theorem dX4_addCloth_1 : decode cX4_addCloth 1 = .ok (.iload_n 1, 1) := dk_27 (dk_at dksX4_addCloth_0 1 rfl rfl)
theorem dX4_addCloth_2 : decode cX4_addCloth 2 = .ok (.iconst 1, 1) := dk_4 (dk_at dksX4_addCloth_0 2 rfl rfl)
theorem dX4_addCloth_3 : decode cX4_addCloth 3 = .ok (.sipush 9999, 3) := dk_17 39 15 (dk_at dksX4_addCloth_0 3 rfl rfl)
theorem dX4_addCloth_6 : decode cX4_addCloth 6 = .ok (.invokestatic 122, 3) := dk_184 0 122 (dk_at dksX4_addCloth_0 6 rfl rfl)
theorem dX4_addCloth_9 : decode cX4_addCloth 9 = .ok (.ifCond .eq 15, 3) := dk_153 0 15 (dk_at dksX4_addCloth_0 9 rfl rfl)
theorem dX4_addCloth_12 : decode cX4_addCloth 12 = .ok (.aload_n 0, 1) := dk_42 (dk_at dksX4_addCloth_0 12 rfl rfl)
theorem dX4_addCloth_13 : decode cX4_addCloth 13 = .ok (.getfield 254, 3) := dk_180 0 254 (dk_at dksX4_addCloth_0 13 rfl rfl)
theorem dX4_addCloth_16 : decode cX4_addCloth 16 = .ok (.iload_n 1, 1) := dk_27 (dk_at dksX4_addCloth_0 16 rfl rfl)
theorem dX4_addCloth_17 : decode cX4_addCloth 17 = .ok (.iadd, 1) := dk_96 (dk_at dksX4_addCloth_0 17 rfl rfl)
theorem dX4_addCloth_18 : decode cX4_addCloth 18 = .ok (.ldc_w 257, 3) := dk_19 1 1 (dk_at dksX4_addCloth_0 18 rfl rfl)
theorem dX4_addCloth_21 : decode cX4_addCloth 21 = .ok (.if_icmp .le 7, 3) := dk_164 0 7 (dk_at dksX4_addCloth_0 21 rfl rfl)
theorem dX4_addCloth_24 : decode cX4_addCloth 24 = .ok (.iconst 1, 1) := dk_4 (dk_at dksX4_addCloth_1 0 rfl rfl)
theorem dX4_addCloth_25 : decode cX4_addCloth 25 = .ok (.goto 4, 3) := dk_167 0 4 (dk_at dksX4_addCloth_1 1 rfl rfl)
theorem dX4_addCloth_28 : decode cX4_addCloth 28 = .ok (.iconst 0, 1) := dk_3 (dk_at dksX4_addCloth_1 4 rfl rfl)
theorem dX4_addCloth_29 : decode cX4_addCloth 29 = .ok (.invokevirtual 129, 3) := dk_182 0 129 (dk_at dksX4_addCloth_1 5 rfl rfl)
theorem dX4_addCloth_32 : decode cX4_addCloth 32 = .ok (.ifCond .eq 5, 3) := dk_153 0 5 (dk_at dksX4_addCloth_1 8 rfl rfl)
theorem dX4_addCloth_35 : decode cX4_addCloth 35 = .ok (.iconst 0, 1) := dk_3 (dk_at dksX4_addCloth_1 11 rfl rfl)
theorem dX4_addCloth_36 : decode cX4_addCloth 36 = .ok (.ireturn, 1) := dk_172 (dk_at dksX4_addCloth_1 12 rfl rfl)
theorem dX4_addCloth_37 : decode cX4_addCloth 37 = .ok (.aload_n 0, 1) := dk_42 (dk_at dksX4_addCloth_1 13 rfl rfl)
theorem dX4_addCloth_38 : decode cX4_addCloth 38 = .ok (.dup, 1) := dk_89 (dk_at dksX4_addCloth_1 14 rfl rfl)
theorem dX4_addCloth_39 : decode cX4_addCloth 39 = .ok (.getfield 254, 3) := dk_180 0 254 (dk_at dksX4_addCloth_1 15 rfl rfl)
theorem dX4_addCloth_42 : decode cX4_addCloth 42 = .ok (.iload_n 1, 1) := dk_27 (dk_at dksX4_addCloth_1 18 rfl rfl)
theorem dX4_addCloth_43 : decode cX4_addCloth 43 = .ok (.iadd, 1) := dk_96 (dk_at dksX4_addCloth_1 19 rfl rfl)
theorem dX4_addCloth_44 : decode cX4_addCloth 44 = .ok (.putfield 254, 3) := dk_181 0 254 (dk_at dksX4_addCloth_1 20 rfl rfl)
theorem dX4_addCloth_47 : decode cX4_addCloth 47 = .ok (.aload_n 0, 1) := dk_42 (dk_at dksX4_addCloth_1 23 rfl rfl)
theorem dX4_addCloth_48 : decode cX4_addCloth 48 = .ok (.getfield 254, 3) := dk_180 0 254 (dk_at dksX4_addCloth_2 0 rfl rfl)
theorem dX4_addCloth_51 : decode cX4_addCloth 51 = .ok (.ireturn, 1) := dk_172 (dk_at dksX4_addCloth_2 3 rfl rfl)
abbrev cX4_roll : ByteArray := prog_18_method_58_code
def yX4_roll : MethodName := ⟨RX4, "roll", "()I"⟩
def dkwX4_roll_0 : List UInt8 := [42, 3, 181, 0, 109, 42, 180, 0, 254, 172]
abbrev dktX4_roll_0 : List UInt8 := dkwX4_roll_0 ++ []
theorem dksX4_roll_0 : cX4_roll.data.toList.drop 0 = dktX4_roll_0 := by decide +kernel
theorem dX4_roll_0 : decode cX4_roll 0 = .ok (.aload_n 0, 1) := dk_42 (dk_at dksX4_roll_0 0 rfl rfl)
theorem dX4_roll_1 : decode cX4_roll 1 = .ok (.iconst 0, 1) := dk_3 (dk_at dksX4_roll_0 1 rfl rfl)
theorem dX4_roll_2 : decode cX4_roll 2 = .ok (.putfield 109, 3) := dk_181 0 109 (dk_at dksX4_roll_0 2 rfl rfl)
theorem dX4_roll_5 : decode cX4_roll 5 = .ok (.aload_n 0, 1) := dk_42 (dk_at dksX4_roll_0 5 rfl rfl)
theorem dX4_roll_6 : decode cX4_roll 6 = .ok (.getfield 254, 3) := dk_180 0 254 (dk_at dksX4_roll_0 6 rfl rfl)
theorem dX4_roll_9 : decode cX4_roll 9 = .ok (.ireturn, 1) := dk_172 (dk_at dksX4_roll_0 9 rfl rfl)
abbrev cX4_spread : ByteArray := prog_18_method_62_code
def yX4_spread : MethodName := ⟨RX4, "spread", "(I)I"⟩
def dkwX4_spread_7 : List UInt8 := [172]
abbrev dktX4_spread_7 : List UInt8 := dkwX4_spread_7 ++ []
def dkwX4_spread_6 : List UInt8 := [51, 154, 0, 7, 29, 158, 0, 7, 4, 167, 0, 4, 3, 84, 132, 2, 1, 167, 255, 172, 42, 180, 0, 254]
abbrev dktX4_spread_6 : List UInt8 := dkwX4_spread_6 ++ dktX4_spread_7
def dkwX4_spread_5 : List UInt8 := [89, 180, 1, 12, 29, 133, 97, 181, 1, 12, 42, 180, 0, 40, 28, 5, 108, 42, 180, 0, 40, 28, 5, 108]
abbrev dktX4_spread_5 : List UInt8 := dkwX4_spread_5 ++ dktX4_spread_6
def dkwX4_spread_4 : List UInt8 := [160, 0, 7, 4, 167, 0, 4, 3, 182, 1, 2, 104, 62, 42, 180, 0, 43, 28, 92, 46, 29, 96, 79, 42]
abbrev dktX4_spread_4 : List UInt8 := dkwX4_spread_4 ++ dktX4_spread_5
def dkwX4_spread_3 : List UInt8 := [181, 0, 254, 3, 61, 28, 5, 42, 180, 0, 143, 104, 162, 0, 80, 27, 42, 28, 5, 108, 28, 5, 112, 4]
abbrev dktX4_spread_3 : List UInt8 := dkwX4_spread_3 ++ dktX4_spread_4
def dkwX4_spread_2 : List UInt8 := [167, 0, 4, 3, 182, 0, 129, 153, 0, 5, 3, 172, 42, 89, 180, 0, 254, 42, 27, 182, 1, 6, 100]
abbrev dktX4_spread_2 : List UInt8 := dkwX4_spread_2 ++ dktX4_spread_3
def dkwX4_spread_1 : List UInt8 := [167, 0, 28, 42, 27, 182, 1, 6, 42, 180, 0, 254, 163, 0, 11, 42, 27, 182, 1, 9, 153, 0, 7, 6]
abbrev dktX4_spread_1 : List UInt8 := dkwX4_spread_1 ++ dktX4_spread_2
def dkwX4_spread_0 : List UInt8 := [42, 27, 4, 16, 50, 184, 0, 122, 154, 0, 7, 4, 167, 0, 39, 42, 180, 0, 112, 154, 0, 7, 5]
abbrev dktX4_spread_0 : List UInt8 := dkwX4_spread_0 ++ dktX4_spread_1
theorem dksX4_spread_0 : cX4_spread.data.toList.drop 0 = dktX4_spread_0 := by decide +kernel
theorem dksX4_spread_1 : cX4_spread.data.toList.drop 23 = dktX4_spread_1 := dk_seg dksX4_spread_0 23 rfl rfl
theorem dksX4_spread_2 : cX4_spread.data.toList.drop 47 = dktX4_spread_2 := dk_seg dksX4_spread_1 24 rfl rfl
theorem dksX4_spread_3 : cX4_spread.data.toList.drop 70 = dktX4_spread_3 := dk_seg dksX4_spread_2 23 rfl rfl
theorem dksX4_spread_4 : cX4_spread.data.toList.drop 94 = dktX4_spread_4 := dk_seg dksX4_spread_3 24 rfl rfl
theorem dksX4_spread_5 : cX4_spread.data.toList.drop 118 = dktX4_spread_5 := dk_seg dksX4_spread_4 24 rfl rfl
theorem dksX4_spread_6 : cX4_spread.data.toList.drop 142 = dktX4_spread_6 := dk_seg dksX4_spread_5 24 rfl rfl
theorem dksX4_spread_7 : cX4_spread.data.toList.drop 166 = dktX4_spread_7 := dk_seg dksX4_spread_6 24 rfl rfl
theorem dX4_spread_0 : decode cX4_spread 0 = .ok (.aload_n 0, 1) := dk_42 (dk_at dksX4_spread_0 0 rfl rfl)
theorem dX4_spread_1 : decode cX4_spread 1 = .ok (.iload_n 1, 1) := dk_27 (dk_at dksX4_spread_0 1 rfl rfl)
theorem dX4_spread_2 : decode cX4_spread 2 = .ok (.iconst 1, 1) := dk_4 (dk_at dksX4_spread_0 2 rfl rfl)
theorem dX4_spread_3 : decode cX4_spread 3 = .ok (.bipush 50, 2) := dk_16 50 (dk_at dksX4_spread_0 3 rfl rfl)
theorem dX4_spread_5 : decode cX4_spread 5 = .ok (.invokestatic 122, 3) := dk_184 0 122 (dk_at dksX4_spread_0 5 rfl rfl)
theorem dX4_spread_8 : decode cX4_spread 8 = .ok (.ifCond .ne 7, 3) := dk_154 0 7 (dk_at dksX4_spread_0 8 rfl rfl)
theorem dX4_spread_11 : decode cX4_spread 11 = .ok (.iconst 1, 1) := dk_4 (dk_at dksX4_spread_0 11 rfl rfl)
theorem dX4_spread_12 : decode cX4_spread 12 = .ok (.goto 39, 3) := dk_167 0 39 (dk_at dksX4_spread_0 12 rfl rfl)
theorem dX4_spread_15 : decode cX4_spread 15 = .ok (.aload_n 0, 1) := dk_42 (dk_at dksX4_spread_0 15 rfl rfl)
theorem dX4_spread_16 : decode cX4_spread 16 = .ok (.getfield 112, 3) := dk_180 0 112 (dk_at dksX4_spread_0 16 rfl rfl)
theorem dX4_spread_19 : decode cX4_spread 19 = .ok (.ifCond .ne 7, 3) := dk_154 0 7 (dk_at dksX4_spread_0 19 rfl rfl)
theorem dX4_spread_22 : decode cX4_spread 22 = .ok (.iconst 2, 1) := dk_5 (dk_at dksX4_spread_0 22 rfl rfl)
theorem dX4_spread_23 : decode cX4_spread 23 = .ok (.goto 28, 3) := dk_167 0 28 (dk_at dksX4_spread_1 0 rfl rfl)
theorem dX4_spread_26 : decode cX4_spread 26 = .ok (.aload_n 0, 1) := dk_42 (dk_at dksX4_spread_1 3 rfl rfl)
theorem dX4_spread_27 : decode cX4_spread 27 = .ok (.iload_n 1, 1) := dk_27 (dk_at dksX4_spread_1 4 rfl rfl)
theorem dX4_spread_28 : decode cX4_spread 28 = .ok (.invokevirtual 262, 3) := dk_182 1 6 (dk_at dksX4_spread_1 5 rfl rfl)
theorem dX4_spread_31 : decode cX4_spread 31 = .ok (.aload_n 0, 1) := dk_42 (dk_at dksX4_spread_1 8 rfl rfl)
theorem dX4_spread_32 : decode cX4_spread 32 = .ok (.getfield 254, 3) := dk_180 0 254 (dk_at dksX4_spread_1 9 rfl rfl)
theorem dX4_spread_35 : decode cX4_spread 35 = .ok (.if_icmp .gt 11, 3) := dk_163 0 11 (dk_at dksX4_spread_1 12 rfl rfl)
theorem dX4_spread_38 : decode cX4_spread 38 = .ok (.aload_n 0, 1) := dk_42 (dk_at dksX4_spread_1 15 rfl rfl)
theorem dX4_spread_39 : decode cX4_spread 39 = .ok (.iload_n 1, 1) := dk_27 (dk_at dksX4_spread_1 16 rfl rfl)
theorem dX4_spread_40 : decode cX4_spread 40 = .ok (.invokevirtual 265, 3) := dk_182 1 9 (dk_at dksX4_spread_1 17 rfl rfl)
theorem dX4_spread_43 : decode cX4_spread 43 = .ok (.ifCond .eq 7, 3) := dk_153 0 7 (dk_at dksX4_spread_1 20 rfl rfl)
theorem dX4_spread_46 : decode cX4_spread 46 = .ok (.iconst 3, 1) := dk_6 (dk_at dksX4_spread_1 23 rfl rfl)
theorem dX4_spread_47 : decode cX4_spread 47 = .ok (.goto 4, 3) := dk_167 0 4 (dk_at dksX4_spread_2 0 rfl rfl)
theorem dX4_spread_50 : decode cX4_spread 50 = .ok (.iconst 0, 1) := dk_3 (dk_at dksX4_spread_2 3 rfl rfl)
theorem dX4_spread_51 : decode cX4_spread 51 = .ok (.invokevirtual 129, 3) := dk_182 0 129 (dk_at dksX4_spread_2 4 rfl rfl)
theorem dX4_spread_54 : decode cX4_spread 54 = .ok (.ifCond .eq 5, 3) := dk_153 0 5 (dk_at dksX4_spread_2 7 rfl rfl)
theorem dX4_spread_57 : decode cX4_spread 57 = .ok (.iconst 0, 1) := dk_3 (dk_at dksX4_spread_2 10 rfl rfl)
theorem dX4_spread_58 : decode cX4_spread 58 = .ok (.ireturn, 1) := dk_172 (dk_at dksX4_spread_2 11 rfl rfl)
theorem dX4_spread_59 : decode cX4_spread 59 = .ok (.aload_n 0, 1) := dk_42 (dk_at dksX4_spread_2 12 rfl rfl)
theorem dX4_spread_60 : decode cX4_spread 60 = .ok (.dup, 1) := dk_89 (dk_at dksX4_spread_2 13 rfl rfl)
theorem dX4_spread_61 : decode cX4_spread 61 = .ok (.getfield 254, 3) := dk_180 0 254 (dk_at dksX4_spread_2 14 rfl rfl)
theorem dX4_spread_64 : decode cX4_spread 64 = .ok (.aload_n 0, 1) := dk_42 (dk_at dksX4_spread_2 17 rfl rfl)
theorem dX4_spread_65 : decode cX4_spread 65 = .ok (.iload_n 1, 1) := dk_27 (dk_at dksX4_spread_2 18 rfl rfl)
theorem dX4_spread_66 : decode cX4_spread 66 = .ok (.invokevirtual 262, 3) := dk_182 1 6 (dk_at dksX4_spread_2 19 rfl rfl)
theorem dX4_spread_69 : decode cX4_spread 69 = .ok (.isub, 1) := dk_100 (dk_at dksX4_spread_2 22 rfl rfl)
theorem dX4_spread_70 : decode cX4_spread 70 = .ok (.putfield 254, 3) := dk_181 0 254 (dk_at dksX4_spread_3 0 rfl rfl)
theorem dX4_spread_73 : decode cX4_spread 73 = .ok (.iconst 0, 1) := dk_3 (dk_at dksX4_spread_3 3 rfl rfl)
theorem dX4_spread_74 : decode cX4_spread 74 = .ok (.istore_n 2, 1) := dk_61 (dk_at dksX4_spread_3 4 rfl rfl)
theorem dX4_spread_75 : decode cX4_spread 75 = .ok (.iload_n 2, 1) := dk_28 (dk_at dksX4_spread_3 5 rfl rfl)
theorem dX4_spread_76 : decode cX4_spread 76 = .ok (.iconst 2, 1) := dk_5 (dk_at dksX4_spread_3 6 rfl rfl)
theorem dX4_spread_77 : decode cX4_spread 77 = .ok (.aload_n 0, 1) := dk_42 (dk_at dksX4_spread_3 7 rfl rfl)
theorem dX4_spread_78 : decode cX4_spread 78 = .ok (.getfield 143, 3) := dk_180 0 143 (dk_at dksX4_spread_3 8 rfl rfl)
theorem dX4_spread_81 : decode cX4_spread 81 = .ok (.imul, 1) := dk_104 (dk_at dksX4_spread_3 11 rfl rfl)
theorem dX4_spread_82 : decode cX4_spread 82 = .ok (.if_icmp .ge 80, 3) := dk_162 0 80 (dk_at dksX4_spread_3 12 rfl rfl)
theorem dX4_spread_85 : decode cX4_spread 85 = .ok (.iload_n 1, 1) := dk_27 (dk_at dksX4_spread_3 15 rfl rfl)
theorem dX4_spread_86 : decode cX4_spread 86 = .ok (.aload_n 0, 1) := dk_42 (dk_at dksX4_spread_3 16 rfl rfl)
theorem dX4_spread_87 : decode cX4_spread 87 = .ok (.iload_n 2, 1) := dk_28 (dk_at dksX4_spread_3 17 rfl rfl)
theorem dX4_spread_88 : decode cX4_spread 88 = .ok (.iconst 2, 1) := dk_5 (dk_at dksX4_spread_3 18 rfl rfl)
theorem dX4_spread_89 : decode cX4_spread 89 = .ok (.idiv, 1) := dk_108 (dk_at dksX4_spread_3 19 rfl rfl)
theorem dX4_spread_90 : decode cX4_spread 90 = .ok (.iload_n 2, 1) := dk_28 (dk_at dksX4_spread_3 20 rfl rfl)
theorem dX4_spread_91 : decode cX4_spread 91 = .ok (.iconst 2, 1) := dk_5 (dk_at dksX4_spread_3 21 rfl rfl)
theorem dX4_spread_92 : decode cX4_spread 92 = .ok (.irem, 1) := dk_112 (dk_at dksX4_spread_3 22 rfl rfl)
theorem dX4_spread_93 : decode cX4_spread 93 = .ok (.iconst 1, 1) := dk_4 (dk_at dksX4_spread_3 23 rfl rfl)
theorem dX4_spread_94 : decode cX4_spread 94 = .ok (.if_icmp .ne 7, 3) := dk_160 0 7 (dk_at dksX4_spread_4 0 rfl rfl)
theorem dX4_spread_97 : decode cX4_spread 97 = .ok (.iconst 1, 1) := dk_4 (dk_at dksX4_spread_4 3 rfl rfl)
theorem dX4_spread_98 : decode cX4_spread 98 = .ok (.goto 4, 3) := dk_167 0 4 (dk_at dksX4_spread_4 4 rfl rfl)
theorem dX4_spread_101 : decode cX4_spread 101 = .ok (.iconst 0, 1) := dk_3 (dk_at dksX4_spread_4 7 rfl rfl)
theorem dX4_spread_102 : decode cX4_spread 102 = .ok (.invokevirtual 258, 3) := dk_182 1 2 (dk_at dksX4_spread_4 8 rfl rfl)
theorem dX4_spread_105 : decode cX4_spread 105 = .ok (.imul, 1) := dk_104 (dk_at dksX4_spread_4 11 rfl rfl)
theorem dX4_spread_106 : decode cX4_spread 106 = .ok (.istore_n 3, 1) := dk_62 (dk_at dksX4_spread_4 12 rfl rfl)
theorem dX4_spread_107 : decode cX4_spread 107 = .ok (.aload_n 0, 1) := dk_42 (dk_at dksX4_spread_4 13 rfl rfl)
theorem dX4_spread_108 : decode cX4_spread 108 = .ok (.getfield 43, 3) := dk_180 0 43 (dk_at dksX4_spread_4 14 rfl rfl)
theorem dX4_spread_111 : decode cX4_spread 111 = .ok (.iload_n 2, 1) := dk_28 (dk_at dksX4_spread_4 17 rfl rfl)
theorem dX4_spread_112 : decode cX4_spread 112 = .ok (.dup2, 1) := dk_92 (dk_at dksX4_spread_4 18 rfl rfl)
theorem dX4_spread_113 : decode cX4_spread 113 = .ok (.iaload, 1) := dk_46 (dk_at dksX4_spread_4 19 rfl rfl)
theorem dX4_spread_114 : decode cX4_spread 114 = .ok (.iload_n 3, 1) := dk_29 (dk_at dksX4_spread_4 20 rfl rfl)
theorem dX4_spread_115 : decode cX4_spread 115 = .ok (.iadd, 1) := dk_96 (dk_at dksX4_spread_4 21 rfl rfl)
theorem dX4_spread_116 : decode cX4_spread 116 = .ok (.iastore, 1) := dk_79 (dk_at dksX4_spread_4 22 rfl rfl)
theorem dX4_spread_117 : decode cX4_spread 117 = .ok (.aload_n 0, 1) := dk_42 (dk_at dksX4_spread_4 23 rfl rfl)
theorem dX4_spread_118 : decode cX4_spread 118 = .ok (.dup, 1) := dk_89 (dk_at dksX4_spread_5 0 rfl rfl)
theorem dX4_spread_119 : decode cX4_spread 119 = .ok (.getfield 268, 3) := dk_180 1 12 (dk_at dksX4_spread_5 1 rfl rfl)
theorem dX4_spread_122 : decode cX4_spread 122 = .ok (.iload_n 3, 1) := dk_29 (dk_at dksX4_spread_5 4 rfl rfl)
theorem dX4_spread_123 : decode cX4_spread 123 = .ok (.i2l, 1) := dk_133 (dk_at dksX4_spread_5 5 rfl rfl)
theorem dX4_spread_124 : decode cX4_spread 124 = .ok (.ladd, 1) := dk_97 (dk_at dksX4_spread_5 6 rfl rfl)
theorem dX4_spread_125 : decode cX4_spread 125 = .ok (.putfield 268, 3) := dk_181 1 12 (dk_at dksX4_spread_5 7 rfl rfl)
theorem dX4_spread_128 : decode cX4_spread 128 = .ok (.aload_n 0, 1) := dk_42 (dk_at dksX4_spread_5 10 rfl rfl)
theorem dX4_spread_129 : decode cX4_spread 129 = .ok (.getfield 40, 3) := dk_180 0 40 (dk_at dksX4_spread_5 11 rfl rfl)
theorem dX4_spread_132 : decode cX4_spread 132 = .ok (.iload_n 2, 1) := dk_28 (dk_at dksX4_spread_5 14 rfl rfl)
theorem dX4_spread_133 : decode cX4_spread 133 = .ok (.iconst 2, 1) := dk_5 (dk_at dksX4_spread_5 15 rfl rfl)
theorem dX4_spread_134 : decode cX4_spread 134 = .ok (.idiv, 1) := dk_108 (dk_at dksX4_spread_5 16 rfl rfl)
theorem dX4_spread_135 : decode cX4_spread 135 = .ok (.aload_n 0, 1) := dk_42 (dk_at dksX4_spread_5 17 rfl rfl)
theorem dX4_spread_136 : decode cX4_spread 136 = .ok (.getfield 40, 3) := dk_180 0 40 (dk_at dksX4_spread_5 18 rfl rfl)
theorem dX4_spread_139 : decode cX4_spread 139 = .ok (.iload_n 2, 1) := dk_28 (dk_at dksX4_spread_5 21 rfl rfl)
theorem dX4_spread_140 : decode cX4_spread 140 = .ok (.iconst 2, 1) := dk_5 (dk_at dksX4_spread_5 22 rfl rfl)
theorem dX4_spread_141 : decode cX4_spread 141 = .ok (.idiv, 1) := dk_108 (dk_at dksX4_spread_5 23 rfl rfl)
theorem dX4_spread_142 : decode cX4_spread 142 = .ok (.baload, 1) := dk_51 (dk_at dksX4_spread_6 0 rfl rfl)
theorem dX4_spread_143 : decode cX4_spread 143 = .ok (.ifCond .ne 7, 3) := dk_154 0 7 (dk_at dksX4_spread_6 1 rfl rfl)
theorem dX4_spread_146 : decode cX4_spread 146 = .ok (.iload_n 3, 1) := dk_29 (dk_at dksX4_spread_6 4 rfl rfl)
theorem dX4_spread_147 : decode cX4_spread 147 = .ok (.ifCond .le 7, 3) := dk_158 0 7 (dk_at dksX4_spread_6 5 rfl rfl)
theorem dX4_spread_150 : decode cX4_spread 150 = .ok (.iconst 1, 1) := dk_4 (dk_at dksX4_spread_6 8 rfl rfl)
theorem dX4_spread_151 : decode cX4_spread 151 = .ok (.goto 4, 3) := dk_167 0 4 (dk_at dksX4_spread_6 9 rfl rfl)
theorem dX4_spread_154 : decode cX4_spread 154 = .ok (.iconst 0, 1) := dk_3 (dk_at dksX4_spread_6 12 rfl rfl)
theorem dX4_spread_155 : decode cX4_spread 155 = .ok (.bastore, 1) := dk_84 (dk_at dksX4_spread_6 13 rfl rfl)
theorem dX4_spread_156 : decode cX4_spread 156 = .ok (.iinc 2 1, 3) := dk_132 2 1 (dk_at dksX4_spread_6 14 rfl rfl)
theorem dX4_spread_159 : decode cX4_spread 159 = .ok (.goto (-84), 3) := dk_167 255 172 (dk_at dksX4_spread_6 17 rfl rfl)
theorem dX4_spread_162 : decode cX4_spread 162 = .ok (.aload_n 0, 1) := dk_42 (dk_at dksX4_spread_6 20 rfl rfl)
theorem dX4_spread_163 : decode cX4_spread 163 = .ok (.getfield 254, 3) := dk_180 0 254 (dk_at dksX4_spread_6 21 rfl rfl)
theorem dX4_spread_166 : decode cX4_spread 166 = .ok (.ireturn, 1) := dk_172 (dk_at dksX4_spread_7 0 rfl rfl)
abbrev cX4_takenFromRoll : ByteArray := prog_18_method_61_code
def yX4_takenFromRoll : MethodName := ⟨RX4, "takenFromRoll", "(I)I"⟩
def dkwX4_takenFromRoll_0 : List UInt8 := [27, 42, 182, 0, 218, 104, 42, 180, 0, 118, 153, 0, 7, 5, 167, 0, 4, 4, 104, 172]
abbrev dktX4_takenFromRoll_0 : List UInt8 := dkwX4_takenFromRoll_0 ++ []
theorem dksX4_takenFromRoll_0 : cX4_takenFromRoll.data.toList.drop 0 = dktX4_takenFromRoll_0 := by decide +kernel
theorem dX4_takenFromRoll_0 : decode cX4_takenFromRoll 0 = .ok (.iload_n 1, 1) := dk_27 (dk_at dksX4_takenFromRoll_0 0 rfl rfl)
theorem dX4_takenFromRoll_1 : decode cX4_takenFromRoll 1 = .ok (.aload_n 0, 1) := dk_42 (dk_at dksX4_takenFromRoll_0 1 rfl rfl)
theorem dX4_takenFromRoll_2 : decode cX4_takenFromRoll 2 = .ok (.invokevirtual 218, 3) := dk_182 0 218 (dk_at dksX4_takenFromRoll_0 2 rfl rfl)
theorem dX4_takenFromRoll_5 : decode cX4_takenFromRoll 5 = .ok (.imul, 1) := dk_104 (dk_at dksX4_takenFromRoll_0 5 rfl rfl)
theorem dX4_takenFromRoll_6 : decode cX4_takenFromRoll 6 = .ok (.aload_n 0, 1) := dk_42 (dk_at dksX4_takenFromRoll_0 6 rfl rfl)
theorem dX4_takenFromRoll_7 : decode cX4_takenFromRoll 7 = .ok (.getfield 118, 3) := dk_180 0 118 (dk_at dksX4_takenFromRoll_0 7 rfl rfl)
theorem dX4_takenFromRoll_10 : decode cX4_takenFromRoll 10 = .ok (.ifCond .eq 7, 3) := dk_153 0 7 (dk_at dksX4_takenFromRoll_0 10 rfl rfl)
theorem dX4_takenFromRoll_13 : decode cX4_takenFromRoll 13 = .ok (.iconst 2, 1) := dk_5 (dk_at dksX4_takenFromRoll_0 13 rfl rfl)
theorem dX4_takenFromRoll_14 : decode cX4_takenFromRoll 14 = .ok (.goto 4, 3) := dk_167 0 4 (dk_at dksX4_takenFromRoll_0 14 rfl rfl)
theorem dX4_takenFromRoll_17 : decode cX4_takenFromRoll 17 = .ok (.iconst 1, 1) := dk_4 (dk_at dksX4_takenFromRoll_0 17 rfl rfl)
theorem dX4_takenFromRoll_18 : decode cX4_takenFromRoll 18 = .ok (.imul, 1) := dk_104 (dk_at dksX4_takenFromRoll_0 18 rfl rfl)
theorem dX4_takenFromRoll_19 : decode cX4_takenFromRoll 19 = .ok (.ireturn, 1) := dk_172 (dk_at dksX4_takenFromRoll_0 19 rfl rfl)
abbrev cX4_isMuch : ByteArray := prog_18_method_60_code
def yX4_isMuch : MethodName := ⟨RX4, "isMuch", "(I)Z"⟩
def dkwX4_isMuch_2 : List UInt8 := [17, 39, 15, 164, 0, 7, 4, 167, 0, 4, 3, 61, 132, 3, 1, 167, 255, 199, 28, 172]
abbrev dktX4_isMuch_2 : List UInt8 := dkwX4_isMuch_2 ++ []
def dkwX4_isMuch_1 : List UInt8 := [27, 42, 29, 5, 108, 29, 5, 112, 4, 160, 0, 7, 4, 167, 0, 4, 3, 182, 1, 2, 104, 96]
abbrev dktX4_isMuch_1 : List UInt8 := dkwX4_isMuch_1 ++ dktX4_isMuch_2
def dkwX4_isMuch_0 : List UInt8 := [3, 61, 3, 62, 29, 5, 42, 180, 0, 143, 104, 162, 0, 53, 28, 154, 0, 37, 42, 180, 0, 43, 29, 46]
abbrev dktX4_isMuch_0 : List UInt8 := dkwX4_isMuch_0 ++ dktX4_isMuch_1
theorem dksX4_isMuch_0 : cX4_isMuch.data.toList.drop 0 = dktX4_isMuch_0 := by decide +kernel
theorem dksX4_isMuch_1 : cX4_isMuch.data.toList.drop 24 = dktX4_isMuch_1 := dk_seg dksX4_isMuch_0 24 rfl rfl
theorem dksX4_isMuch_2 : cX4_isMuch.data.toList.drop 46 = dktX4_isMuch_2 := dk_seg dksX4_isMuch_1 22 rfl rfl
theorem dX4_isMuch_0 : decode cX4_isMuch 0 = .ok (.iconst 0, 1) := dk_3 (dk_at dksX4_isMuch_0 0 rfl rfl)
theorem dX4_isMuch_1 : decode cX4_isMuch 1 = .ok (.istore_n 2, 1) := dk_61 (dk_at dksX4_isMuch_0 1 rfl rfl)
theorem dX4_isMuch_2 : decode cX4_isMuch 2 = .ok (.iconst 0, 1) := dk_3 (dk_at dksX4_isMuch_0 2 rfl rfl)
theorem dX4_isMuch_3 : decode cX4_isMuch 3 = .ok (.istore_n 3, 1) := dk_62 (dk_at dksX4_isMuch_0 3 rfl rfl)
theorem dX4_isMuch_4 : decode cX4_isMuch 4 = .ok (.iload_n 3, 1) := dk_29 (dk_at dksX4_isMuch_0 4 rfl rfl)
theorem dX4_isMuch_5 : decode cX4_isMuch 5 = .ok (.iconst 2, 1) := dk_5 (dk_at dksX4_isMuch_0 5 rfl rfl)
theorem dX4_isMuch_6 : decode cX4_isMuch 6 = .ok (.aload_n 0, 1) := dk_42 (dk_at dksX4_isMuch_0 6 rfl rfl)
theorem dX4_isMuch_7 : decode cX4_isMuch 7 = .ok (.getfield 143, 3) := dk_180 0 143 (dk_at dksX4_isMuch_0 7 rfl rfl)
theorem dX4_isMuch_10 : decode cX4_isMuch 10 = .ok (.imul, 1) := dk_104 (dk_at dksX4_isMuch_0 10 rfl rfl)
theorem dX4_isMuch_11 : decode cX4_isMuch 11 = .ok (.if_icmp .ge 53, 3) := dk_162 0 53 (dk_at dksX4_isMuch_0 11 rfl rfl)
theorem dX4_isMuch_14 : decode cX4_isMuch 14 = .ok (.iload_n 2, 1) := dk_28 (dk_at dksX4_isMuch_0 14 rfl rfl)
theorem dX4_isMuch_15 : decode cX4_isMuch 15 = .ok (.ifCond .ne 37, 3) := dk_154 0 37 (dk_at dksX4_isMuch_0 15 rfl rfl)
theorem dX4_isMuch_18 : decode cX4_isMuch 18 = .ok (.aload_n 0, 1) := dk_42 (dk_at dksX4_isMuch_0 18 rfl rfl)
theorem dX4_isMuch_19 : decode cX4_isMuch 19 = .ok (.getfield 43, 3) := dk_180 0 43 (dk_at dksX4_isMuch_0 19 rfl rfl)
theorem dX4_isMuch_22 : decode cX4_isMuch 22 = .ok (.iload_n 3, 1) := dk_29 (dk_at dksX4_isMuch_0 22 rfl rfl)
theorem dX4_isMuch_23 : decode cX4_isMuch 23 = .ok (.iaload, 1) := dk_46 (dk_at dksX4_isMuch_0 23 rfl rfl)
theorem dX4_isMuch_24 : decode cX4_isMuch 24 = .ok (.iload_n 1, 1) := dk_27 (dk_at dksX4_isMuch_1 0 rfl rfl)
theorem dX4_isMuch_25 : decode cX4_isMuch 25 = .ok (.aload_n 0, 1) := dk_42 (dk_at dksX4_isMuch_1 1 rfl rfl)
theorem dX4_isMuch_26 : decode cX4_isMuch 26 = .ok (.iload_n 3, 1) := dk_29 (dk_at dksX4_isMuch_1 2 rfl rfl)
theorem dX4_isMuch_27 : decode cX4_isMuch 27 = .ok (.iconst 2, 1) := dk_5 (dk_at dksX4_isMuch_1 3 rfl rfl)
theorem dX4_isMuch_28 : decode cX4_isMuch 28 = .ok (.idiv, 1) := dk_108 (dk_at dksX4_isMuch_1 4 rfl rfl)
theorem dX4_isMuch_29 : decode cX4_isMuch 29 = .ok (.iload_n 3, 1) := dk_29 (dk_at dksX4_isMuch_1 5 rfl rfl)
theorem dX4_isMuch_30 : decode cX4_isMuch 30 = .ok (.iconst 2, 1) := dk_5 (dk_at dksX4_isMuch_1 6 rfl rfl)
theorem dX4_isMuch_31 : decode cX4_isMuch 31 = .ok (.irem, 1) := dk_112 (dk_at dksX4_isMuch_1 7 rfl rfl)
theorem dX4_isMuch_32 : decode cX4_isMuch 32 = .ok (.iconst 1, 1) := dk_4 (dk_at dksX4_isMuch_1 8 rfl rfl)
theorem dX4_isMuch_33 : decode cX4_isMuch 33 = .ok (.if_icmp .ne 7, 3) := dk_160 0 7 (dk_at dksX4_isMuch_1 9 rfl rfl)
theorem dX4_isMuch_36 : decode cX4_isMuch 36 = .ok (.iconst 1, 1) := dk_4 (dk_at dksX4_isMuch_1 12 rfl rfl)
theorem dX4_isMuch_37 : decode cX4_isMuch 37 = .ok (.goto 4, 3) := dk_167 0 4 (dk_at dksX4_isMuch_1 13 rfl rfl)
theorem dX4_isMuch_40 : decode cX4_isMuch 40 = .ok (.iconst 0, 1) := dk_3 (dk_at dksX4_isMuch_1 16 rfl rfl)
theorem dX4_isMuch_41 : decode cX4_isMuch 41 = .ok (.invokevirtual 258, 3) := dk_182 1 2 (dk_at dksX4_isMuch_1 17 rfl rfl)
theorem dX4_isMuch_44 : decode cX4_isMuch 44 = .ok (.imul, 1) := dk_104 (dk_at dksX4_isMuch_1 20 rfl rfl)
theorem dX4_isMuch_45 : decode cX4_isMuch 45 = .ok (.iadd, 1) := dk_96 (dk_at dksX4_isMuch_1 21 rfl rfl)
theorem dX4_isMuch_46 : decode cX4_isMuch 46 = .ok (.sipush 9999, 3) := dk_17 39 15 (dk_at dksX4_isMuch_2 0 rfl rfl)
theorem dX4_isMuch_49 : decode cX4_isMuch 49 = .ok (.if_icmp .le 7, 3) := dk_164 0 7 (dk_at dksX4_isMuch_2 3 rfl rfl)
theorem dX4_isMuch_52 : decode cX4_isMuch 52 = .ok (.iconst 1, 1) := dk_4 (dk_at dksX4_isMuch_2 6 rfl rfl)
theorem dX4_isMuch_53 : decode cX4_isMuch 53 = .ok (.goto 4, 3) := dk_167 0 4 (dk_at dksX4_isMuch_2 7 rfl rfl)
theorem dX4_isMuch_56 : decode cX4_isMuch 56 = .ok (.iconst 0, 1) := dk_3 (dk_at dksX4_isMuch_2 10 rfl rfl)
theorem dX4_isMuch_57 : decode cX4_isMuch 57 = .ok (.istore_n 2, 1) := dk_61 (dk_at dksX4_isMuch_2 11 rfl rfl)
theorem dX4_isMuch_58 : decode cX4_isMuch 58 = .ok (.iinc 3 1, 3) := dk_132 3 1 (dk_at dksX4_isMuch_2 12 rfl rfl)
theorem dX4_isMuch_61 : decode cX4_isMuch 61 = .ok (.goto (-57), 3) := dk_167 255 199 (dk_at dksX4_isMuch_2 15 rfl rfl)
theorem dX4_isMuch_64 : decode cX4_isMuch 64 = .ok (.iload_n 2, 1) := dk_28 (dk_at dksX4_isMuch_2 18 rfl rfl)
theorem dX4_isMuch_65 : decode cX4_isMuch 65 = .ok (.ireturn, 1) := dk_172 (dk_at dksX4_isMuch_2 19 rfl rfl)
abbrev cX4_givenBy : ByteArray := prog_18_method_59_code
def yX4_givenBy : MethodName := ⟨RX4, "givenBy", "(IZ)I"⟩
def dkwX4_givenBy_4 : List UInt8 := [167, 0, 4, 3, 96, 62, 132, 4, 1, 167, 255, 162, 29, 172]
abbrev dktX4_givenBy_4 : List UInt8 := dkwX4_givenBy_4 ++ []
def dkwX4_givenBy_3 : List UInt8 := [167, 0, 12, 28, 153, 0, 7, 3, 167, 0, 4, 5, 54, 6, 29, 21, 5, 153, 0, 8, 21, 6]
abbrev dktX4_givenBy_3 : List UInt8 := dkwX4_givenBy_3 ++ dktX4_givenBy_4
def dkwX4_givenBy_2 : List UInt8 := [28, 160, 0, 7, 4, 167, 0, 29, 3, 167, 0, 25, 42, 180, 0, 21, 27, 51, 153, 0, 7, 4]
abbrev dktX4_givenBy_2 : List UInt8 := dkwX4_givenBy_2 ++ dktX4_givenBy_3
def dkwX4_givenBy_1 : List UInt8 := [160, 0, 7, 4, 167, 0, 4, 3, 54, 5, 42, 180, 0, 118, 154, 0, 22, 42, 180, 0, 61, 21, 4, 51]
abbrev dktX4_givenBy_1 : List UInt8 := dkwX4_givenBy_1 ++ dktX4_givenBy_2
def dkwX4_givenBy_0 : List UInt8 := [3, 62, 3, 54, 4, 21, 4, 42, 180, 0, 112, 162, 0, 91, 42, 180, 0, 49, 21, 4, 46, 27]
abbrev dktX4_givenBy_0 : List UInt8 := dkwX4_givenBy_0 ++ dktX4_givenBy_1
theorem dksX4_givenBy_0 : cX4_givenBy.data.toList.drop 0 = dktX4_givenBy_0 := by decide +kernel
theorem dksX4_givenBy_1 : cX4_givenBy.data.toList.drop 22 = dktX4_givenBy_1 := dk_seg dksX4_givenBy_0 22 rfl rfl
theorem dksX4_givenBy_2 : cX4_givenBy.data.toList.drop 46 = dktX4_givenBy_2 := dk_seg dksX4_givenBy_1 24 rfl rfl
theorem dksX4_givenBy_3 : cX4_givenBy.data.toList.drop 68 = dktX4_givenBy_3 := dk_seg dksX4_givenBy_2 22 rfl rfl
theorem dksX4_givenBy_4 : cX4_givenBy.data.toList.drop 90 = dktX4_givenBy_4 := dk_seg dksX4_givenBy_3 22 rfl rfl
theorem dX4_givenBy_0 : decode cX4_givenBy 0 = .ok (.iconst 0, 1) := dk_3 (dk_at dksX4_givenBy_0 0 rfl rfl)
theorem dX4_givenBy_1 : decode cX4_givenBy 1 = .ok (.istore_n 3, 1) := dk_62 (dk_at dksX4_givenBy_0 1 rfl rfl)
theorem dX4_givenBy_2 : decode cX4_givenBy 2 = .ok (.iconst 0, 1) := dk_3 (dk_at dksX4_givenBy_0 2 rfl rfl)
theorem dX4_givenBy_3 : decode cX4_givenBy 3 = .ok (.istore 4, 2) := dk_54 4 (dk_at dksX4_givenBy_0 3 rfl rfl)
theorem dX4_givenBy_5 : decode cX4_givenBy 5 = .ok (.iload 4, 2) := dk_21 4 (dk_at dksX4_givenBy_0 5 rfl rfl)
theorem dX4_givenBy_7 : decode cX4_givenBy 7 = .ok (.aload_n 0, 1) := dk_42 (dk_at dksX4_givenBy_0 7 rfl rfl)
theorem dX4_givenBy_8 : decode cX4_givenBy 8 = .ok (.getfield 112, 3) := dk_180 0 112 (dk_at dksX4_givenBy_0 8 rfl rfl)
theorem dX4_givenBy_11 : decode cX4_givenBy 11 = .ok (.if_icmp .ge 91, 3) := dk_162 0 91 (dk_at dksX4_givenBy_0 11 rfl rfl)
theorem dX4_givenBy_14 : decode cX4_givenBy 14 = .ok (.aload_n 0, 1) := dk_42 (dk_at dksX4_givenBy_0 14 rfl rfl)
theorem dX4_givenBy_15 : decode cX4_givenBy 15 = .ok (.getfield 49, 3) := dk_180 0 49 (dk_at dksX4_givenBy_0 15 rfl rfl)
theorem dX4_givenBy_18 : decode cX4_givenBy 18 = .ok (.iload 4, 2) := dk_21 4 (dk_at dksX4_givenBy_0 18 rfl rfl)
theorem dX4_givenBy_20 : decode cX4_givenBy 20 = .ok (.iaload, 1) := dk_46 (dk_at dksX4_givenBy_0 20 rfl rfl)
theorem dX4_givenBy_21 : decode cX4_givenBy 21 = .ok (.iload_n 1, 1) := dk_27 (dk_at dksX4_givenBy_0 21 rfl rfl)
theorem dX4_givenBy_22 : decode cX4_givenBy 22 = .ok (.if_icmp .ne 7, 3) := dk_160 0 7 (dk_at dksX4_givenBy_1 0 rfl rfl)
theorem dX4_givenBy_25 : decode cX4_givenBy 25 = .ok (.iconst 1, 1) := dk_4 (dk_at dksX4_givenBy_1 3 rfl rfl)
theorem dX4_givenBy_26 : decode cX4_givenBy 26 = .ok (.goto 4, 3) := dk_167 0 4 (dk_at dksX4_givenBy_1 4 rfl rfl)
theorem dX4_givenBy_29 : decode cX4_givenBy 29 = .ok (.iconst 0, 1) := dk_3 (dk_at dksX4_givenBy_1 7 rfl rfl)
theorem dX4_givenBy_30 : decode cX4_givenBy 30 = .ok (.istore 5, 2) := dk_54 5 (dk_at dksX4_givenBy_1 8 rfl rfl)
theorem dX4_givenBy_32 : decode cX4_givenBy 32 = .ok (.aload_n 0, 1) := dk_42 (dk_at dksX4_givenBy_1 10 rfl rfl)
theorem dX4_givenBy_33 : decode cX4_givenBy 33 = .ok (.getfield 118, 3) := dk_180 0 118 (dk_at dksX4_givenBy_1 11 rfl rfl)
theorem dX4_givenBy_36 : decode cX4_givenBy 36 = .ok (.ifCond .ne 22, 3) := dk_154 0 22 (dk_at dksX4_givenBy_1 14 rfl rfl)
theorem dX4_givenBy_39 : decode cX4_givenBy 39 = .ok (.aload_n 0, 1) := dk_42 (dk_at dksX4_givenBy_1 17 rfl rfl)
theorem dX4_givenBy_40 : decode cX4_givenBy 40 = .ok (.getfield 61, 3) := dk_180 0 61 (dk_at dksX4_givenBy_1 18 rfl rfl)
theorem dX4_givenBy_43 : decode cX4_givenBy 43 = .ok (.iload 4, 2) := dk_21 4 (dk_at dksX4_givenBy_1 21 rfl rfl)
theorem dX4_givenBy_45 : decode cX4_givenBy 45 = .ok (.baload, 1) := dk_51 (dk_at dksX4_givenBy_1 23 rfl rfl)
theorem dX4_givenBy_46 : decode cX4_givenBy 46 = .ok (.iload_n 2, 1) := dk_28 (dk_at dksX4_givenBy_2 0 rfl rfl)
theorem dX4_givenBy_47 : decode cX4_givenBy 47 = .ok (.if_icmp .ne 7, 3) := dk_160 0 7 (dk_at dksX4_givenBy_2 1 rfl rfl)
theorem dX4_givenBy_50 : decode cX4_givenBy 50 = .ok (.iconst 1, 1) := dk_4 (dk_at dksX4_givenBy_2 4 rfl rfl)
theorem dX4_givenBy_51 : decode cX4_givenBy 51 = .ok (.goto 29, 3) := dk_167 0 29 (dk_at dksX4_givenBy_2 5 rfl rfl)
theorem dX4_givenBy_54 : decode cX4_givenBy 54 = .ok (.iconst 0, 1) := dk_3 (dk_at dksX4_givenBy_2 8 rfl rfl)
theorem dX4_givenBy_55 : decode cX4_givenBy 55 = .ok (.goto 25, 3) := dk_167 0 25 (dk_at dksX4_givenBy_2 9 rfl rfl)
theorem dX4_givenBy_58 : decode cX4_givenBy 58 = .ok (.aload_n 0, 1) := dk_42 (dk_at dksX4_givenBy_2 12 rfl rfl)
theorem dX4_givenBy_59 : decode cX4_givenBy 59 = .ok (.getfield 21, 3) := dk_180 0 21 (dk_at dksX4_givenBy_2 13 rfl rfl)
theorem dX4_givenBy_62 : decode cX4_givenBy 62 = .ok (.iload_n 1, 1) := dk_27 (dk_at dksX4_givenBy_2 16 rfl rfl)
theorem dX4_givenBy_63 : decode cX4_givenBy 63 = .ok (.baload, 1) := dk_51 (dk_at dksX4_givenBy_2 17 rfl rfl)
theorem dX4_givenBy_64 : decode cX4_givenBy 64 = .ok (.ifCond .eq 7, 3) := dk_153 0 7 (dk_at dksX4_givenBy_2 18 rfl rfl)
theorem dX4_givenBy_67 : decode cX4_givenBy 67 = .ok (.iconst 1, 1) := dk_4 (dk_at dksX4_givenBy_2 21 rfl rfl)
theorem dX4_givenBy_68 : decode cX4_givenBy 68 = .ok (.goto 12, 3) := dk_167 0 12 (dk_at dksX4_givenBy_3 0 rfl rfl)
theorem dX4_givenBy_71 : decode cX4_givenBy 71 = .ok (.iload_n 2, 1) := dk_28 (dk_at dksX4_givenBy_3 3 rfl rfl)
theorem dX4_givenBy_72 : decode cX4_givenBy 72 = .ok (.ifCond .eq 7, 3) := dk_153 0 7 (dk_at dksX4_givenBy_3 4 rfl rfl)
theorem dX4_givenBy_75 : decode cX4_givenBy 75 = .ok (.iconst 0, 1) := dk_3 (dk_at dksX4_givenBy_3 7 rfl rfl)
theorem dX4_givenBy_76 : decode cX4_givenBy 76 = .ok (.goto 4, 3) := dk_167 0 4 (dk_at dksX4_givenBy_3 8 rfl rfl)
theorem dX4_givenBy_79 : decode cX4_givenBy 79 = .ok (.iconst 2, 1) := dk_5 (dk_at dksX4_givenBy_3 11 rfl rfl)
theorem dX4_givenBy_80 : decode cX4_givenBy 80 = .ok (.istore 6, 2) := dk_54 6 (dk_at dksX4_givenBy_3 12 rfl rfl)
theorem dX4_givenBy_82 : decode cX4_givenBy 82 = .ok (.iload_n 3, 1) := dk_29 (dk_at dksX4_givenBy_3 14 rfl rfl)
theorem dX4_givenBy_83 : decode cX4_givenBy 83 = .ok (.iload 5, 2) := dk_21 5 (dk_at dksX4_givenBy_3 15 rfl rfl)
theorem dX4_givenBy_85 : decode cX4_givenBy 85 = .ok (.ifCond .eq 8, 3) := dk_153 0 8 (dk_at dksX4_givenBy_3 17 rfl rfl)
theorem dX4_givenBy_88 : decode cX4_givenBy 88 = .ok (.iload 6, 2) := dk_21 6 (dk_at dksX4_givenBy_3 20 rfl rfl)
theorem dX4_givenBy_90 : decode cX4_givenBy 90 = .ok (.goto 4, 3) := dk_167 0 4 (dk_at dksX4_givenBy_4 0 rfl rfl)
theorem dX4_givenBy_93 : decode cX4_givenBy 93 = .ok (.iconst 0, 1) := dk_3 (dk_at dksX4_givenBy_4 3 rfl rfl)
theorem dX4_givenBy_94 : decode cX4_givenBy 94 = .ok (.iadd, 1) := dk_96 (dk_at dksX4_givenBy_4 4 rfl rfl)
theorem dX4_givenBy_95 : decode cX4_givenBy 95 = .ok (.istore_n 3, 1) := dk_62 (dk_at dksX4_givenBy_4 5 rfl rfl)
theorem dX4_givenBy_96 : decode cX4_givenBy 96 = .ok (.iinc 4 1, 3) := dk_132 4 1 (dk_at dksX4_givenBy_4 6 rfl rfl)
theorem dX4_givenBy_99 : decode cX4_givenBy 99 = .ok (.goto (-94), 3) := dk_167 255 162 (dk_at dksX4_givenBy_4 9 rfl rfl)
theorem dX4_givenBy_102 : decode cX4_givenBy 102 = .ok (.iload_n 3, 1) := dk_29 (dk_at dksX4_givenBy_4 12 rfl rfl)
theorem dX4_givenBy_103 : decode cX4_givenBy 103 = .ok (.ireturn, 1) := dk_172 (dk_at dksX4_givenBy_4 13 rfl rfl)
abbrev cX4_pieces : ByteArray := prog_18_method_63_code
def yX4_pieces : MethodName := ⟨RX4, "pieces", "(IZ)I"⟩
def dkwX4_pieces_2 : List UInt8 := [104, 28, 153, 0, 7, 4, 167, 0, 4, 3, 96, 46, 172]
abbrev dktX4_pieces_2 : List UInt8 := dkwX4_pieces_2 ++ []
def dkwX4_pieces_1 : List UInt8 := [154, 0, 7, 5, 167, 0, 4, 3, 182, 0, 129, 153, 0, 7, 3, 167, 0, 21, 42, 180, 0, 43, 5, 27]
abbrev dktX4_pieces_1 : List UInt8 := dkwX4_pieces_1 ++ dktX4_pieces_2
def dkwX4_pieces_0 : List UInt8 := [42, 42, 27, 182, 0, 146, 154, 0, 7, 4, 167, 0, 21, 28, 153, 0, 16, 42, 180, 0, 21, 27, 51]
abbrev dktX4_pieces_0 : List UInt8 := dkwX4_pieces_0 ++ dktX4_pieces_1
theorem dksX4_pieces_0 : cX4_pieces.data.toList.drop 0 = dktX4_pieces_0 := by decide +kernel
theorem dksX4_pieces_1 : cX4_pieces.data.toList.drop 23 = dktX4_pieces_1 := dk_seg dksX4_pieces_0 23 rfl rfl
theorem dksX4_pieces_2 : cX4_pieces.data.toList.drop 47 = dktX4_pieces_2 := dk_seg dksX4_pieces_1 24 rfl rfl
theorem dX4_pieces_0 : decode cX4_pieces 0 = .ok (.aload_n 0, 1) := dk_42 (dk_at dksX4_pieces_0 0 rfl rfl)
theorem dX4_pieces_1 : decode cX4_pieces 1 = .ok (.aload_n 0, 1) := dk_42 (dk_at dksX4_pieces_0 1 rfl rfl)
theorem dX4_pieces_2 : decode cX4_pieces 2 = .ok (.iload_n 1, 1) := dk_27 (dk_at dksX4_pieces_0 2 rfl rfl)
theorem dX4_pieces_3 : decode cX4_pieces 3 = .ok (.invokevirtual 146, 3) := dk_182 0 146 (dk_at dksX4_pieces_0 3 rfl rfl)
theorem dX4_pieces_6 : decode cX4_pieces 6 = .ok (.ifCond .ne 7, 3) := dk_154 0 7 (dk_at dksX4_pieces_0 6 rfl rfl)
theorem dX4_pieces_9 : decode cX4_pieces 9 = .ok (.iconst 1, 1) := dk_4 (dk_at dksX4_pieces_0 9 rfl rfl)
theorem dX4_pieces_10 : decode cX4_pieces 10 = .ok (.goto 21, 3) := dk_167 0 21 (dk_at dksX4_pieces_0 10 rfl rfl)
theorem dX4_pieces_13 : decode cX4_pieces 13 = .ok (.iload_n 2, 1) := dk_28 (dk_at dksX4_pieces_0 13 rfl rfl)
theorem dX4_pieces_14 : decode cX4_pieces 14 = .ok (.ifCond .eq 16, 3) := dk_153 0 16 (dk_at dksX4_pieces_0 14 rfl rfl)
theorem dX4_pieces_17 : decode cX4_pieces 17 = .ok (.aload_n 0, 1) := dk_42 (dk_at dksX4_pieces_0 17 rfl rfl)
theorem dX4_pieces_18 : decode cX4_pieces 18 = .ok (.getfield 21, 3) := dk_180 0 21 (dk_at dksX4_pieces_0 18 rfl rfl)
theorem dX4_pieces_21 : decode cX4_pieces 21 = .ok (.iload_n 1, 1) := dk_27 (dk_at dksX4_pieces_0 21 rfl rfl)
theorem dX4_pieces_22 : decode cX4_pieces 22 = .ok (.baload, 1) := dk_51 (dk_at dksX4_pieces_0 22 rfl rfl)
theorem dX4_pieces_23 : decode cX4_pieces 23 = .ok (.ifCond .ne 7, 3) := dk_154 0 7 (dk_at dksX4_pieces_1 0 rfl rfl)
theorem dX4_pieces_26 : decode cX4_pieces 26 = .ok (.iconst 2, 1) := dk_5 (dk_at dksX4_pieces_1 3 rfl rfl)
theorem dX4_pieces_27 : decode cX4_pieces 27 = .ok (.goto 4, 3) := dk_167 0 4 (dk_at dksX4_pieces_1 4 rfl rfl)
theorem dX4_pieces_30 : decode cX4_pieces 30 = .ok (.iconst 0, 1) := dk_3 (dk_at dksX4_pieces_1 7 rfl rfl)
theorem dX4_pieces_31 : decode cX4_pieces 31 = .ok (.invokevirtual 129, 3) := dk_182 0 129 (dk_at dksX4_pieces_1 8 rfl rfl)
theorem dX4_pieces_34 : decode cX4_pieces 34 = .ok (.ifCond .eq 7, 3) := dk_153 0 7 (dk_at dksX4_pieces_1 11 rfl rfl)
theorem dX4_pieces_37 : decode cX4_pieces 37 = .ok (.iconst 0, 1) := dk_3 (dk_at dksX4_pieces_1 14 rfl rfl)
theorem dX4_pieces_38 : decode cX4_pieces 38 = .ok (.goto 21, 3) := dk_167 0 21 (dk_at dksX4_pieces_1 15 rfl rfl)
theorem dX4_pieces_41 : decode cX4_pieces 41 = .ok (.aload_n 0, 1) := dk_42 (dk_at dksX4_pieces_1 18 rfl rfl)
theorem dX4_pieces_42 : decode cX4_pieces 42 = .ok (.getfield 43, 3) := dk_180 0 43 (dk_at dksX4_pieces_1 19 rfl rfl)
theorem dX4_pieces_45 : decode cX4_pieces 45 = .ok (.iconst 2, 1) := dk_5 (dk_at dksX4_pieces_1 22 rfl rfl)
theorem dX4_pieces_46 : decode cX4_pieces 46 = .ok (.iload_n 1, 1) := dk_27 (dk_at dksX4_pieces_1 23 rfl rfl)
theorem dX4_pieces_47 : decode cX4_pieces 47 = .ok (.imul, 1) := dk_104 (dk_at dksX4_pieces_2 0 rfl rfl)
theorem dX4_pieces_48 : decode cX4_pieces 48 = .ok (.iload_n 2, 1) := dk_28 (dk_at dksX4_pieces_2 1 rfl rfl)
theorem dX4_pieces_49 : decode cX4_pieces 49 = .ok (.ifCond .eq 7, 3) := dk_153 0 7 (dk_at dksX4_pieces_2 2 rfl rfl)
theorem dX4_pieces_52 : decode cX4_pieces 52 = .ok (.iconst 1, 1) := dk_4 (dk_at dksX4_pieces_2 5 rfl rfl)
theorem dX4_pieces_53 : decode cX4_pieces 53 = .ok (.goto 4, 3) := dk_167 0 4 (dk_at dksX4_pieces_2 6 rfl rfl)
theorem dX4_pieces_56 : decode cX4_pieces 56 = .ok (.iconst 0, 1) := dk_3 (dk_at dksX4_pieces_2 9 rfl rfl)
theorem dX4_pieces_57 : decode cX4_pieces 57 = .ok (.iadd, 1) := dk_96 (dk_at dksX4_pieces_2 10 rfl rfl)
theorem dX4_pieces_58 : decode cX4_pieces 58 = .ok (.iaload, 1) := dk_46 (dk_at dksX4_pieces_2 11 rfl rfl)
theorem dX4_pieces_59 : decode cX4_pieces 59 = .ok (.ireturn, 1) := dk_172 (dk_at dksX4_pieces_2 12 rfl rfl)
abbrev cX4_canMake : ByteArray := prog_18_method_65_code
def yX4_canMake : MethodName := ⟨RX4, "canMake", "(I)I"⟩
def dkwX4_canMake_1 : List UInt8 := [167, 0, 4, 3, 182, 0, 129, 153, 0, 7, 3, 167, 0, 9, 42, 27, 3, 182, 1, 19, 172]
abbrev dktX4_canMake_1 : List UInt8 := dkwX4_canMake_1 ++ []
def dkwX4_canMake_0 : List UInt8 := [42, 42, 27, 182, 0, 230, 154, 0, 7, 4, 167, 0, 16, 42, 27, 182, 0, 233, 154, 0, 7, 5]
abbrev dktX4_canMake_0 : List UInt8 := dkwX4_canMake_0 ++ dktX4_canMake_1
theorem dksX4_canMake_0 : cX4_canMake.data.toList.drop 0 = dktX4_canMake_0 := by decide +kernel
theorem dksX4_canMake_1 : cX4_canMake.data.toList.drop 22 = dktX4_canMake_1 := dk_seg dksX4_canMake_0 22 rfl rfl
theorem dX4_canMake_0 : decode cX4_canMake 0 = .ok (.aload_n 0, 1) := dk_42 (dk_at dksX4_canMake_0 0 rfl rfl)
theorem dX4_canMake_1 : decode cX4_canMake 1 = .ok (.aload_n 0, 1) := dk_42 (dk_at dksX4_canMake_0 1 rfl rfl)
theorem dX4_canMake_2 : decode cX4_canMake 2 = .ok (.iload_n 1, 1) := dk_27 (dk_at dksX4_canMake_0 2 rfl rfl)
theorem dX4_canMake_3 : decode cX4_canMake 3 = .ok (.invokevirtual 230, 3) := dk_182 0 230 (dk_at dksX4_canMake_0 3 rfl rfl)
theorem dX4_canMake_6 : decode cX4_canMake 6 = .ok (.ifCond .ne 7, 3) := dk_154 0 7 (dk_at dksX4_canMake_0 6 rfl rfl)
theorem dX4_canMake_9 : decode cX4_canMake 9 = .ok (.iconst 1, 1) := dk_4 (dk_at dksX4_canMake_0 9 rfl rfl)
theorem dX4_canMake_10 : decode cX4_canMake 10 = .ok (.goto 16, 3) := dk_167 0 16 (dk_at dksX4_canMake_0 10 rfl rfl)
theorem dX4_canMake_13 : decode cX4_canMake 13 = .ok (.aload_n 0, 1) := dk_42 (dk_at dksX4_canMake_0 13 rfl rfl)
theorem dX4_canMake_14 : decode cX4_canMake 14 = .ok (.iload_n 1, 1) := dk_27 (dk_at dksX4_canMake_0 14 rfl rfl)
theorem dX4_canMake_15 : decode cX4_canMake 15 = .ok (.invokevirtual 233, 3) := dk_182 0 233 (dk_at dksX4_canMake_0 15 rfl rfl)
theorem dX4_canMake_18 : decode cX4_canMake 18 = .ok (.ifCond .ne 7, 3) := dk_154 0 7 (dk_at dksX4_canMake_0 18 rfl rfl)
theorem dX4_canMake_21 : decode cX4_canMake 21 = .ok (.iconst 2, 1) := dk_5 (dk_at dksX4_canMake_0 21 rfl rfl)
theorem dX4_canMake_22 : decode cX4_canMake 22 = .ok (.goto 4, 3) := dk_167 0 4 (dk_at dksX4_canMake_1 0 rfl rfl)
theorem dX4_canMake_25 : decode cX4_canMake 25 = .ok (.iconst 0, 1) := dk_3 (dk_at dksX4_canMake_1 3 rfl rfl)
theorem dX4_canMake_26 : decode cX4_canMake 26 = .ok (.invokevirtual 129, 3) := dk_182 0 129 (dk_at dksX4_canMake_1 4 rfl rfl)
theorem dX4_canMake_29 : decode cX4_canMake 29 = .ok (.ifCond .eq 7, 3) := dk_153 0 7 (dk_at dksX4_canMake_1 7 rfl rfl)
theorem dX4_canMake_32 : decode cX4_canMake 32 = .ok (.iconst 0, 1) := dk_3 (dk_at dksX4_canMake_1 10 rfl rfl)
theorem dX4_canMake_33 : decode cX4_canMake 33 = .ok (.goto 9, 3) := dk_167 0 9 (dk_at dksX4_canMake_1 11 rfl rfl)
theorem dX4_canMake_36 : decode cX4_canMake 36 = .ok (.aload_n 0, 1) := dk_42 (dk_at dksX4_canMake_1 14 rfl rfl)
theorem dX4_canMake_37 : decode cX4_canMake 37 = .ok (.iload_n 1, 1) := dk_27 (dk_at dksX4_canMake_1 15 rfl rfl)
theorem dX4_canMake_38 : decode cX4_canMake 38 = .ok (.iconst 0, 1) := dk_3 (dk_at dksX4_canMake_1 16 rfl rfl)
theorem dX4_canMake_39 : decode cX4_canMake 39 = .ok (.invokevirtual 275, 3) := dk_182 1 19 (dk_at dksX4_canMake_1 17 rfl rfl)
theorem dX4_canMake_42 : decode cX4_canMake 42 = .ok (.ireturn, 1) := dk_172 (dk_at dksX4_canMake_1 20 rfl rfl)
abbrev cX4_makes : ByteArray := prog_18_method_64_code
def yX4_makes : MethodName := ⟨RX4, "makes", "(II)I"⟩
def dkwX4_makes_5 : List UInt8 := [162, 0, 8, 21, 7, 167, 0, 4, 29, 62, 132, 4, 1, 167, 255, 134, 29, 172]
abbrev dktX4_makes_5 : List UInt8 := dkwX4_makes_5 ++ []
def dkwX4_makes_4 : List UInt8 := [167, 0, 5, 21, 6, 54, 7, 21, 6, 29, 162, 0, 8, 21, 6, 167, 0, 4, 29, 62, 21, 7, 29]
abbrev dktX4_makes_4 : List UInt8 := dkwX4_makes_4 ++ dktX4_makes_5
def dkwX4_makes_3 : List UInt8 := [180, 0, 43, 5, 21, 4, 104, 4, 96, 46, 28, 42, 21, 4, 4, 182, 1, 2, 104, 96, 21, 5, 108]
abbrev dktX4_makes_3 : List UInt8 := dkwX4_makes_3 ++ dktX4_makes_4
def dkwX4_makes_2 : List UInt8 := [3, 182, 1, 2, 104, 96, 21, 5, 108, 54, 6, 42, 180, 0, 21, 21, 4, 51, 153, 0, 30, 42]
abbrev dktX4_makes_2 : List UInt8 := dkwX4_makes_2 ++ dktX4_makes_3
def dkwX4_makes_1 : List UInt8 := [21, 4, 96, 46, 54, 5, 21, 5, 158, 0, 94, 42, 180, 0, 43, 5, 21, 4, 104, 46, 28, 42, 21, 4]
abbrev dktX4_makes_1 : List UInt8 := dkwX4_makes_1 ++ dktX4_makes_2
def dkwX4_makes_0 : List UInt8 := [19, 1, 18, 62, 3, 54, 4, 21, 4, 42, 180, 0, 143, 162, 0, 119, 42, 180, 0, 73, 16, 8, 27, 104]
abbrev dktX4_makes_0 : List UInt8 := dkwX4_makes_0 ++ dktX4_makes_1
theorem dksX4_makes_0 : cX4_makes.data.toList.drop 0 = dktX4_makes_0 := by decide +kernel
theorem dksX4_makes_1 : cX4_makes.data.toList.drop 24 = dktX4_makes_1 := dk_seg dksX4_makes_0 24 rfl rfl
theorem dksX4_makes_2 : cX4_makes.data.toList.drop 48 = dktX4_makes_2 := dk_seg dksX4_makes_1 24 rfl rfl
theorem dksX4_makes_3 : cX4_makes.data.toList.drop 70 = dktX4_makes_3 := dk_seg dksX4_makes_2 22 rfl rfl
theorem dksX4_makes_4 : cX4_makes.data.toList.drop 93 = dktX4_makes_4 := dk_seg dksX4_makes_3 23 rfl rfl
theorem dksX4_makes_5 : cX4_makes.data.toList.drop 116 = dktX4_makes_5 := dk_seg dksX4_makes_4 23 rfl rfl
theorem dX4_makes_0 : decode cX4_makes 0 = .ok (.ldc_w 274, 3) := dk_19 1 18 (dk_at dksX4_makes_0 0 rfl rfl)
theorem dX4_makes_3 : decode cX4_makes 3 = .ok (.istore_n 3, 1) := dk_62 (dk_at dksX4_makes_0 3 rfl rfl)
theorem dX4_makes_4 : decode cX4_makes 4 = .ok (.iconst 0, 1) := dk_3 (dk_at dksX4_makes_0 4 rfl rfl)
theorem dX4_makes_5 : decode cX4_makes 5 = .ok (.istore 4, 2) := dk_54 4 (dk_at dksX4_makes_0 5 rfl rfl)
theorem dX4_makes_7 : decode cX4_makes 7 = .ok (.iload 4, 2) := dk_21 4 (dk_at dksX4_makes_0 7 rfl rfl)
theorem dX4_makes_9 : decode cX4_makes 9 = .ok (.aload_n 0, 1) := dk_42 (dk_at dksX4_makes_0 9 rfl rfl)
theorem dX4_makes_10 : decode cX4_makes 10 = .ok (.getfield 143, 3) := dk_180 0 143 (dk_at dksX4_makes_0 10 rfl rfl)
theorem dX4_makes_13 : decode cX4_makes 13 = .ok (.if_icmp .ge 119, 3) := dk_162 0 119 (dk_at dksX4_makes_0 13 rfl rfl)
theorem dX4_makes_16 : decode cX4_makes 16 = .ok (.aload_n 0, 1) := dk_42 (dk_at dksX4_makes_0 16 rfl rfl)
theorem dX4_makes_17 : decode cX4_makes 17 = .ok (.getfield 73, 3) := dk_180 0 73 (dk_at dksX4_makes_0 17 rfl rfl)
theorem dX4_makes_20 : decode cX4_makes 20 = .ok (.bipush 8, 2) := dk_16 8 (dk_at dksX4_makes_0 20 rfl rfl)
theorem dX4_makes_22 : decode cX4_makes 22 = .ok (.iload_n 1, 1) := dk_27 (dk_at dksX4_makes_0 22 rfl rfl)
theorem dX4_makes_23 : decode cX4_makes 23 = .ok (.imul, 1) := dk_104 (dk_at dksX4_makes_0 23 rfl rfl)
theorem dX4_makes_24 : decode cX4_makes 24 = .ok (.iload 4, 2) := dk_21 4 (dk_at dksX4_makes_1 0 rfl rfl)
theorem dX4_makes_26 : decode cX4_makes 26 = .ok (.iadd, 1) := dk_96 (dk_at dksX4_makes_1 2 rfl rfl)
theorem dX4_makes_27 : decode cX4_makes 27 = .ok (.iaload, 1) := dk_46 (dk_at dksX4_makes_1 3 rfl rfl)
theorem dX4_makes_28 : decode cX4_makes 28 = .ok (.istore 5, 2) := dk_54 5 (dk_at dksX4_makes_1 4 rfl rfl)
theorem dX4_makes_30 : decode cX4_makes 30 = .ok (.iload 5, 2) := dk_21 5 (dk_at dksX4_makes_1 6 rfl rfl)
theorem dX4_makes_32 : decode cX4_makes 32 = .ok (.ifCond .le 94, 3) := dk_158 0 94 (dk_at dksX4_makes_1 8 rfl rfl)
theorem dX4_makes_35 : decode cX4_makes 35 = .ok (.aload_n 0, 1) := dk_42 (dk_at dksX4_makes_1 11 rfl rfl)
theorem dX4_makes_36 : decode cX4_makes 36 = .ok (.getfield 43, 3) := dk_180 0 43 (dk_at dksX4_makes_1 12 rfl rfl)
theorem dX4_makes_39 : decode cX4_makes 39 = .ok (.iconst 2, 1) := dk_5 (dk_at dksX4_makes_1 15 rfl rfl)
theorem dX4_makes_40 : decode cX4_makes 40 = .ok (.iload 4, 2) := dk_21 4 (dk_at dksX4_makes_1 16 rfl rfl)
theorem dX4_makes_42 : decode cX4_makes 42 = .ok (.imul, 1) := dk_104 (dk_at dksX4_makes_1 18 rfl rfl)
theorem dX4_makes_43 : decode cX4_makes 43 = .ok (.iaload, 1) := dk_46 (dk_at dksX4_makes_1 19 rfl rfl)
theorem dX4_makes_44 : decode cX4_makes 44 = .ok (.iload_n 2, 1) := dk_28 (dk_at dksX4_makes_1 20 rfl rfl)
theorem dX4_makes_45 : decode cX4_makes 45 = .ok (.aload_n 0, 1) := dk_42 (dk_at dksX4_makes_1 21 rfl rfl)
theorem dX4_makes_46 : decode cX4_makes 46 = .ok (.iload 4, 2) := dk_21 4 (dk_at dksX4_makes_1 22 rfl rfl)
theorem dX4_makes_48 : decode cX4_makes 48 = .ok (.iconst 0, 1) := dk_3 (dk_at dksX4_makes_2 0 rfl rfl)
theorem dX4_makes_49 : decode cX4_makes 49 = .ok (.invokevirtual 258, 3) := dk_182 1 2 (dk_at dksX4_makes_2 1 rfl rfl)
theorem dX4_makes_52 : decode cX4_makes 52 = .ok (.imul, 1) := dk_104 (dk_at dksX4_makes_2 4 rfl rfl)
theorem dX4_makes_53 : decode cX4_makes 53 = .ok (.iadd, 1) := dk_96 (dk_at dksX4_makes_2 5 rfl rfl)
theorem dX4_makes_54 : decode cX4_makes 54 = .ok (.iload 5, 2) := dk_21 5 (dk_at dksX4_makes_2 6 rfl rfl)
theorem dX4_makes_56 : decode cX4_makes 56 = .ok (.idiv, 1) := dk_108 (dk_at dksX4_makes_2 8 rfl rfl)
theorem dX4_makes_57 : decode cX4_makes 57 = .ok (.istore 6, 2) := dk_54 6 (dk_at dksX4_makes_2 9 rfl rfl)
theorem dX4_makes_59 : decode cX4_makes 59 = .ok (.aload_n 0, 1) := dk_42 (dk_at dksX4_makes_2 11 rfl rfl)
theorem dX4_makes_60 : decode cX4_makes 60 = .ok (.getfield 21, 3) := dk_180 0 21 (dk_at dksX4_makes_2 12 rfl rfl)
theorem dX4_makes_63 : decode cX4_makes 63 = .ok (.iload 4, 2) := dk_21 4 (dk_at dksX4_makes_2 15 rfl rfl)
theorem dX4_makes_65 : decode cX4_makes 65 = .ok (.baload, 1) := dk_51 (dk_at dksX4_makes_2 17 rfl rfl)
theorem dX4_makes_66 : decode cX4_makes 66 = .ok (.ifCond .eq 30, 3) := dk_153 0 30 (dk_at dksX4_makes_2 18 rfl rfl)
theorem dX4_makes_69 : decode cX4_makes 69 = .ok (.aload_n 0, 1) := dk_42 (dk_at dksX4_makes_2 21 rfl rfl)
theorem dX4_makes_70 : decode cX4_makes 70 = .ok (.getfield 43, 3) := dk_180 0 43 (dk_at dksX4_makes_3 0 rfl rfl)
theorem dX4_makes_73 : decode cX4_makes 73 = .ok (.iconst 2, 1) := dk_5 (dk_at dksX4_makes_3 3 rfl rfl)
theorem dX4_makes_74 : decode cX4_makes 74 = .ok (.iload 4, 2) := dk_21 4 (dk_at dksX4_makes_3 4 rfl rfl)
theorem dX4_makes_76 : decode cX4_makes 76 = .ok (.imul, 1) := dk_104 (dk_at dksX4_makes_3 6 rfl rfl)
theorem dX4_makes_77 : decode cX4_makes 77 = .ok (.iconst 1, 1) := dk_4 (dk_at dksX4_makes_3 7 rfl rfl)
theorem dX4_makes_78 : decode cX4_makes 78 = .ok (.iadd, 1) := dk_96 (dk_at dksX4_makes_3 8 rfl rfl)
theorem dX4_makes_79 : decode cX4_makes 79 = .ok (.iaload, 1) := dk_46 (dk_at dksX4_makes_3 9 rfl rfl)
theorem dX4_makes_80 : decode cX4_makes 80 = .ok (.iload_n 2, 1) := dk_28 (dk_at dksX4_makes_3 10 rfl rfl)
theorem dX4_makes_81 : decode cX4_makes 81 = .ok (.aload_n 0, 1) := dk_42 (dk_at dksX4_makes_3 11 rfl rfl)
theorem dX4_makes_82 : decode cX4_makes 82 = .ok (.iload 4, 2) := dk_21 4 (dk_at dksX4_makes_3 12 rfl rfl)
theorem dX4_makes_84 : decode cX4_makes 84 = .ok (.iconst 1, 1) := dk_4 (dk_at dksX4_makes_3 14 rfl rfl)
theorem dX4_makes_85 : decode cX4_makes 85 = .ok (.invokevirtual 258, 3) := dk_182 1 2 (dk_at dksX4_makes_3 15 rfl rfl)
theorem dX4_makes_88 : decode cX4_makes 88 = .ok (.imul, 1) := dk_104 (dk_at dksX4_makes_3 18 rfl rfl)
theorem dX4_makes_89 : decode cX4_makes 89 = .ok (.iadd, 1) := dk_96 (dk_at dksX4_makes_3 19 rfl rfl)
theorem dX4_makes_90 : decode cX4_makes 90 = .ok (.iload 5, 2) := dk_21 5 (dk_at dksX4_makes_3 20 rfl rfl)
theorem dX4_makes_92 : decode cX4_makes 92 = .ok (.idiv, 1) := dk_108 (dk_at dksX4_makes_3 22 rfl rfl)
theorem dX4_makes_93 : decode cX4_makes 93 = .ok (.goto 5, 3) := dk_167 0 5 (dk_at dksX4_makes_4 0 rfl rfl)
theorem dX4_makes_96 : decode cX4_makes 96 = .ok (.iload 6, 2) := dk_21 6 (dk_at dksX4_makes_4 3 rfl rfl)
theorem dX4_makes_98 : decode cX4_makes 98 = .ok (.istore 7, 2) := dk_54 7 (dk_at dksX4_makes_4 5 rfl rfl)
theorem dX4_makes_100 : decode cX4_makes 100 = .ok (.iload 6, 2) := dk_21 6 (dk_at dksX4_makes_4 7 rfl rfl)
theorem dX4_makes_102 : decode cX4_makes 102 = .ok (.iload_n 3, 1) := dk_29 (dk_at dksX4_makes_4 9 rfl rfl)
theorem dX4_makes_103 : decode cX4_makes 103 = .ok (.if_icmp .ge 8, 3) := dk_162 0 8 (dk_at dksX4_makes_4 10 rfl rfl)
theorem dX4_makes_106 : decode cX4_makes 106 = .ok (.iload 6, 2) := dk_21 6 (dk_at dksX4_makes_4 13 rfl rfl)
theorem dX4_makes_108 : decode cX4_makes 108 = .ok (.goto 4, 3) := dk_167 0 4 (dk_at dksX4_makes_4 15 rfl rfl)
theorem dX4_makes_111 : decode cX4_makes 111 = .ok (.iload_n 3, 1) := dk_29 (dk_at dksX4_makes_4 18 rfl rfl)
theorem dX4_makes_112 : decode cX4_makes 112 = .ok (.istore_n 3, 1) := dk_62 (dk_at dksX4_makes_4 19 rfl rfl)
theorem dX4_makes_113 : decode cX4_makes 113 = .ok (.iload 7, 2) := dk_21 7 (dk_at dksX4_makes_4 20 rfl rfl)
theorem dX4_makes_115 : decode cX4_makes 115 = .ok (.iload_n 3, 1) := dk_29 (dk_at dksX4_makes_4 22 rfl rfl)
theorem dX4_makes_116 : decode cX4_makes 116 = .ok (.if_icmp .ge 8, 3) := dk_162 0 8 (dk_at dksX4_makes_5 0 rfl rfl)
theorem dX4_makes_119 : decode cX4_makes 119 = .ok (.iload 7, 2) := dk_21 7 (dk_at dksX4_makes_5 3 rfl rfl)
theorem dX4_makes_121 : decode cX4_makes 121 = .ok (.goto 4, 3) := dk_167 0 4 (dk_at dksX4_makes_5 5 rfl rfl)
theorem dX4_makes_124 : decode cX4_makes 124 = .ok (.iload_n 3, 1) := dk_29 (dk_at dksX4_makes_5 8 rfl rfl)
theorem dX4_makes_125 : decode cX4_makes 125 = .ok (.istore_n 3, 1) := dk_62 (dk_at dksX4_makes_5 9 rfl rfl)
theorem dX4_makes_126 : decode cX4_makes 126 = .ok (.iinc 4 1, 3) := dk_132 4 1 (dk_at dksX4_makes_5 10 rfl rfl)
theorem dX4_makes_129 : decode cX4_makes 129 = .ok (.goto (-122), 3) := dk_167 255 134 (dk_at dksX4_makes_5 13 rfl rfl)
theorem dX4_makes_132 : decode cX4_makes 132 = .ok (.iload_n 3, 1) := dk_29 (dk_at dksX4_makes_5 16 rfl rfl)
theorem dX4_makes_133 : decode cX4_makes 133 = .ok (.ireturn, 1) := dk_172 (dk_at dksX4_makes_5 17 rfl rfl)
abbrev cX4_canMakeByTaking : ByteArray := prog_18_method_66_code
def yX4_canMakeByTaking : MethodName := ⟨RX4, "canMakeByTaking", "(I)I"⟩
def dkwX4_canMakeByTaking_0 : List UInt8 := [42, 27, 182, 1, 22, 172]
abbrev dktX4_canMakeByTaking_0 : List UInt8 := dkwX4_canMakeByTaking_0 ++ []
theorem dksX4_canMakeByTaking_0 : cX4_canMakeByTaking.data.toList.drop 0 = dktX4_canMakeByTaking_0 := by decide +kernel
theorem dX4_canMakeByTaking_0 : decode cX4_canMakeByTaking 0 = .ok (.aload_n 0, 1) := dk_42 (dk_at dksX4_canMakeByTaking_0 0 rfl rfl)
theorem dX4_canMakeByTaking_1 : decode cX4_canMakeByTaking 1 = .ok (.iload_n 1, 1) := dk_27 (dk_at dksX4_canMakeByTaking_0 1 rfl rfl)
theorem dX4_canMakeByTaking_2 : decode cX4_canMakeByTaking 2 = .ok (.invokevirtual 278, 3) := dk_182 1 22 (dk_at dksX4_canMakeByTaking_0 2 rfl rfl)
theorem dX4_canMakeByTaking_5 : decode cX4_canMakeByTaking 5 = .ok (.ireturn, 1) := dk_172 (dk_at dksX4_canMakeByTaking_0 5 rfl rfl)
abbrev cX4_make : ByteArray := prog_18_method_67_code
def yX4_make : MethodName := ⟨RX4, "make", "(II)I"⟩
def dkwX4_make_6 : List UInt8 := [28, 96, 79, 42, 180, 0, 76, 27, 46, 172]
abbrev dktX4_make_6 : List UInt8 := dkwX4_make_6 ++ []
def dkwX4_make_5 : List UInt8 := [153, 0, 8, 21, 4, 167, 0, 4, 3, 100, 79, 132, 3, 1, 167, 255, 189, 42, 180, 0, 76, 27, 92, 46]
abbrev dktX4_make_5 : List UInt8 := dkwX4_make_5 ++ dktX4_make_6
def dkwX4_make_4 : List UInt8 := [104, 92, 46, 21, 4, 100, 79, 42, 180, 0, 43, 5, 29, 104, 4, 96, 92, 46, 42, 180, 0, 21, 29, 51]
abbrev dktX4_make_4 : List UInt8 := dkwX4_make_4 ++ dktX4_make_5
def dkwX4_make_3 : List UInt8 := [162, 0, 65, 28, 42, 180, 0, 73, 16, 8, 27, 104, 29, 96, 46, 104, 54, 4, 42, 180, 0, 43, 5, 29]
abbrev dktX4_make_3 : List UInt8 := dkwX4_make_3 ++ dktX4_make_4
def dkwX4_make_2 : List UInt8 := [162, 0, 7, 7, 167, 0, 4, 3, 182, 0, 129, 153, 0, 5, 3, 172, 3, 62, 29, 42, 180, 0, 143]
abbrev dktX4_make_2 : List UInt8 := dkwX4_make_2 ++ dktX4_make_3
def dkwX4_make_1 : List UInt8 := [167, 0, 30, 42, 27, 182, 0, 233, 154, 0, 7, 6, 167, 0, 18, 42, 27, 3, 182, 1, 19, 28]
abbrev dktX4_make_1 : List UInt8 := dkwX4_make_1 ++ dktX4_make_2
def dkwX4_make_0 : List UInt8 := [42, 42, 27, 182, 0, 230, 154, 0, 7, 4, 167, 0, 44, 28, 4, 16, 99, 184, 0, 122, 154, 0, 7, 5]
abbrev dktX4_make_0 : List UInt8 := dkwX4_make_0 ++ dktX4_make_1
theorem dksX4_make_0 : cX4_make.data.toList.drop 0 = dktX4_make_0 := by decide +kernel
theorem dksX4_make_1 : cX4_make.data.toList.drop 24 = dktX4_make_1 := dk_seg dksX4_make_0 24 rfl rfl
theorem dksX4_make_2 : cX4_make.data.toList.drop 46 = dktX4_make_2 := dk_seg dksX4_make_1 22 rfl rfl
theorem dksX4_make_3 : cX4_make.data.toList.drop 69 = dktX4_make_3 := dk_seg dksX4_make_2 23 rfl rfl
theorem dksX4_make_4 : cX4_make.data.toList.drop 93 = dktX4_make_4 := dk_seg dksX4_make_3 24 rfl rfl
theorem dksX4_make_5 : cX4_make.data.toList.drop 117 = dktX4_make_5 := dk_seg dksX4_make_4 24 rfl rfl
theorem dksX4_make_6 : cX4_make.data.toList.drop 141 = dktX4_make_6 := dk_seg dksX4_make_5 24 rfl rfl
theorem dX4_make_0 : decode cX4_make 0 = .ok (.aload_n 0, 1) := dk_42 (dk_at dksX4_make_0 0 rfl rfl)
theorem dX4_make_1 : decode cX4_make 1 = .ok (.aload_n 0, 1) := dk_42 (dk_at dksX4_make_0 1 rfl rfl)
theorem dX4_make_2 : decode cX4_make 2 = .ok (.iload_n 1, 1) := dk_27 (dk_at dksX4_make_0 2 rfl rfl)
theorem dX4_make_3 : decode cX4_make 3 = .ok (.invokevirtual 230, 3) := dk_182 0 230 (dk_at dksX4_make_0 3 rfl rfl)
theorem dX4_make_6 : decode cX4_make 6 = .ok (.ifCond .ne 7, 3) := dk_154 0 7 (dk_at dksX4_make_0 6 rfl rfl)
theorem dX4_make_9 : decode cX4_make 9 = .ok (.iconst 1, 1) := dk_4 (dk_at dksX4_make_0 9 rfl rfl)
theorem dX4_make_10 : decode cX4_make 10 = .ok (.goto 44, 3) := dk_167 0 44 (dk_at dksX4_make_0 10 rfl rfl)
theorem dX4_make_13 : decode cX4_make 13 = .ok (.iload_n 2, 1) := dk_28 (dk_at dksX4_make_0 13 rfl rfl)
theorem dX4_make_14 : decode cX4_make 14 = .ok (.iconst 1, 1) := dk_4 (dk_at dksX4_make_0 14 rfl rfl)
theorem dX4_make_15 : decode cX4_make 15 = .ok (.bipush 99, 2) := dk_16 99 (dk_at dksX4_make_0 15 rfl rfl)
theorem dX4_make_17 : decode cX4_make 17 = .ok (.invokestatic 122, 3) := dk_184 0 122 (dk_at dksX4_make_0 17 rfl rfl)
theorem dX4_make_20 : decode cX4_make 20 = .ok (.ifCond .ne 7, 3) := dk_154 0 7 (dk_at dksX4_make_0 20 rfl rfl)
theorem dX4_make_23 : decode cX4_make 23 = .ok (.iconst 2, 1) := dk_5 (dk_at dksX4_make_0 23 rfl rfl)
theorem dX4_make_24 : decode cX4_make 24 = .ok (.goto 30, 3) := dk_167 0 30 (dk_at dksX4_make_1 0 rfl rfl)
theorem dX4_make_27 : decode cX4_make 27 = .ok (.aload_n 0, 1) := dk_42 (dk_at dksX4_make_1 3 rfl rfl)
theorem dX4_make_28 : decode cX4_make 28 = .ok (.iload_n 1, 1) := dk_27 (dk_at dksX4_make_1 4 rfl rfl)
theorem dX4_make_29 : decode cX4_make 29 = .ok (.invokevirtual 233, 3) := dk_182 0 233 (dk_at dksX4_make_1 5 rfl rfl)
theorem dX4_make_32 : decode cX4_make 32 = .ok (.ifCond .ne 7, 3) := dk_154 0 7 (dk_at dksX4_make_1 8 rfl rfl)
theorem dX4_make_35 : decode cX4_make 35 = .ok (.iconst 3, 1) := dk_6 (dk_at dksX4_make_1 11 rfl rfl)
theorem dX4_make_36 : decode cX4_make 36 = .ok (.goto 18, 3) := dk_167 0 18 (dk_at dksX4_make_1 12 rfl rfl)
theorem dX4_make_39 : decode cX4_make 39 = .ok (.aload_n 0, 1) := dk_42 (dk_at dksX4_make_1 15 rfl rfl)
theorem dX4_make_40 : decode cX4_make 40 = .ok (.iload_n 1, 1) := dk_27 (dk_at dksX4_make_1 16 rfl rfl)
theorem dX4_make_41 : decode cX4_make 41 = .ok (.iconst 0, 1) := dk_3 (dk_at dksX4_make_1 17 rfl rfl)
theorem dX4_make_42 : decode cX4_make 42 = .ok (.invokevirtual 275, 3) := dk_182 1 19 (dk_at dksX4_make_1 18 rfl rfl)
theorem dX4_make_45 : decode cX4_make 45 = .ok (.iload_n 2, 1) := dk_28 (dk_at dksX4_make_1 21 rfl rfl)
theorem dX4_make_46 : decode cX4_make 46 = .ok (.if_icmp .ge 7, 3) := dk_162 0 7 (dk_at dksX4_make_2 0 rfl rfl)
theorem dX4_make_49 : decode cX4_make 49 = .ok (.iconst 4, 1) := dk_7 (dk_at dksX4_make_2 3 rfl rfl)
theorem dX4_make_50 : decode cX4_make 50 = .ok (.goto 4, 3) := dk_167 0 4 (dk_at dksX4_make_2 4 rfl rfl)
theorem dX4_make_53 : decode cX4_make 53 = .ok (.iconst 0, 1) := dk_3 (dk_at dksX4_make_2 7 rfl rfl)
theorem dX4_make_54 : decode cX4_make 54 = .ok (.invokevirtual 129, 3) := dk_182 0 129 (dk_at dksX4_make_2 8 rfl rfl)
theorem dX4_make_57 : decode cX4_make 57 = .ok (.ifCond .eq 5, 3) := dk_153 0 5 (dk_at dksX4_make_2 11 rfl rfl)
theorem dX4_make_60 : decode cX4_make 60 = .ok (.iconst 0, 1) := dk_3 (dk_at dksX4_make_2 14 rfl rfl)
theorem dX4_make_61 : decode cX4_make 61 = .ok (.ireturn, 1) := dk_172 (dk_at dksX4_make_2 15 rfl rfl)
theorem dX4_make_62 : decode cX4_make 62 = .ok (.iconst 0, 1) := dk_3 (dk_at dksX4_make_2 16 rfl rfl)
theorem dX4_make_63 : decode cX4_make 63 = .ok (.istore_n 3, 1) := dk_62 (dk_at dksX4_make_2 17 rfl rfl)
theorem dX4_make_64 : decode cX4_make 64 = .ok (.iload_n 3, 1) := dk_29 (dk_at dksX4_make_2 18 rfl rfl)
theorem dX4_make_65 : decode cX4_make 65 = .ok (.aload_n 0, 1) := dk_42 (dk_at dksX4_make_2 19 rfl rfl)
theorem dX4_make_66 : decode cX4_make 66 = .ok (.getfield 143, 3) := dk_180 0 143 (dk_at dksX4_make_2 20 rfl rfl)
theorem dX4_make_69 : decode cX4_make 69 = .ok (.if_icmp .ge 65, 3) := dk_162 0 65 (dk_at dksX4_make_3 0 rfl rfl)
theorem dX4_make_72 : decode cX4_make 72 = .ok (.iload_n 2, 1) := dk_28 (dk_at dksX4_make_3 3 rfl rfl)
theorem dX4_make_73 : decode cX4_make 73 = .ok (.aload_n 0, 1) := dk_42 (dk_at dksX4_make_3 4 rfl rfl)
theorem dX4_make_74 : decode cX4_make 74 = .ok (.getfield 73, 3) := dk_180 0 73 (dk_at dksX4_make_3 5 rfl rfl)
theorem dX4_make_77 : decode cX4_make 77 = .ok (.bipush 8, 2) := dk_16 8 (dk_at dksX4_make_3 8 rfl rfl)
theorem dX4_make_79 : decode cX4_make 79 = .ok (.iload_n 1, 1) := dk_27 (dk_at dksX4_make_3 10 rfl rfl)
theorem dX4_make_80 : decode cX4_make 80 = .ok (.imul, 1) := dk_104 (dk_at dksX4_make_3 11 rfl rfl)
theorem dX4_make_81 : decode cX4_make 81 = .ok (.iload_n 3, 1) := dk_29 (dk_at dksX4_make_3 12 rfl rfl)
theorem dX4_make_82 : decode cX4_make 82 = .ok (.iadd, 1) := dk_96 (dk_at dksX4_make_3 13 rfl rfl)
theorem dX4_make_83 : decode cX4_make 83 = .ok (.iaload, 1) := dk_46 (dk_at dksX4_make_3 14 rfl rfl)
theorem dX4_make_84 : decode cX4_make 84 = .ok (.imul, 1) := dk_104 (dk_at dksX4_make_3 15 rfl rfl)
theorem dX4_make_85 : decode cX4_make 85 = .ok (.istore 4, 2) := dk_54 4 (dk_at dksX4_make_3 16 rfl rfl)
theorem dX4_make_87 : decode cX4_make 87 = .ok (.aload_n 0, 1) := dk_42 (dk_at dksX4_make_3 18 rfl rfl)
theorem dX4_make_88 : decode cX4_make 88 = .ok (.getfield 43, 3) := dk_180 0 43 (dk_at dksX4_make_3 19 rfl rfl)
theorem dX4_make_91 : decode cX4_make 91 = .ok (.iconst 2, 1) := dk_5 (dk_at dksX4_make_3 22 rfl rfl)
theorem dX4_make_92 : decode cX4_make 92 = .ok (.iload_n 3, 1) := dk_29 (dk_at dksX4_make_3 23 rfl rfl)
theorem dX4_make_93 : decode cX4_make 93 = .ok (.imul, 1) := dk_104 (dk_at dksX4_make_4 0 rfl rfl)
theorem dX4_make_94 : decode cX4_make 94 = .ok (.dup2, 1) := dk_92 (dk_at dksX4_make_4 1 rfl rfl)
theorem dX4_make_95 : decode cX4_make 95 = .ok (.iaload, 1) := dk_46 (dk_at dksX4_make_4 2 rfl rfl)
theorem dX4_make_96 : decode cX4_make 96 = .ok (.iload 4, 2) := dk_21 4 (dk_at dksX4_make_4 3 rfl rfl)
theorem dX4_make_98 : decode cX4_make 98 = .ok (.isub, 1) := dk_100 (dk_at dksX4_make_4 5 rfl rfl)
theorem dX4_make_99 : decode cX4_make 99 = .ok (.iastore, 1) := dk_79 (dk_at dksX4_make_4 6 rfl rfl)
theorem dX4_make_100 : decode cX4_make 100 = .ok (.aload_n 0, 1) := dk_42 (dk_at dksX4_make_4 7 rfl rfl)
theorem dX4_make_101 : decode cX4_make 101 = .ok (.getfield 43, 3) := dk_180 0 43 (dk_at dksX4_make_4 8 rfl rfl)
theorem dX4_make_104 : decode cX4_make 104 = .ok (.iconst 2, 1) := dk_5 (dk_at dksX4_make_4 11 rfl rfl)
theorem dX4_make_105 : decode cX4_make 105 = .ok (.iload_n 3, 1) := dk_29 (dk_at dksX4_make_4 12 rfl rfl)
theorem dX4_make_106 : decode cX4_make 106 = .ok (.imul, 1) := dk_104 (dk_at dksX4_make_4 13 rfl rfl)
theorem dX4_make_107 : decode cX4_make 107 = .ok (.iconst 1, 1) := dk_4 (dk_at dksX4_make_4 14 rfl rfl)
theorem dX4_make_108 : decode cX4_make 108 = .ok (.iadd, 1) := dk_96 (dk_at dksX4_make_4 15 rfl rfl)
theorem dX4_make_109 : decode cX4_make 109 = .ok (.dup2, 1) := dk_92 (dk_at dksX4_make_4 16 rfl rfl)
theorem dX4_make_110 : decode cX4_make 110 = .ok (.iaload, 1) := dk_46 (dk_at dksX4_make_4 17 rfl rfl)
theorem dX4_make_111 : decode cX4_make 111 = .ok (.aload_n 0, 1) := dk_42 (dk_at dksX4_make_4 18 rfl rfl)
theorem dX4_make_112 : decode cX4_make 112 = .ok (.getfield 21, 3) := dk_180 0 21 (dk_at dksX4_make_4 19 rfl rfl)
theorem dX4_make_115 : decode cX4_make 115 = .ok (.iload_n 3, 1) := dk_29 (dk_at dksX4_make_4 22 rfl rfl)
theorem dX4_make_116 : decode cX4_make 116 = .ok (.baload, 1) := dk_51 (dk_at dksX4_make_4 23 rfl rfl)
theorem dX4_make_117 : decode cX4_make 117 = .ok (.ifCond .eq 8, 3) := dk_153 0 8 (dk_at dksX4_make_5 0 rfl rfl)
theorem dX4_make_120 : decode cX4_make 120 = .ok (.iload 4, 2) := dk_21 4 (dk_at dksX4_make_5 3 rfl rfl)
theorem dX4_make_122 : decode cX4_make 122 = .ok (.goto 4, 3) := dk_167 0 4 (dk_at dksX4_make_5 5 rfl rfl)
theorem dX4_make_125 : decode cX4_make 125 = .ok (.iconst 0, 1) := dk_3 (dk_at dksX4_make_5 8 rfl rfl)
theorem dX4_make_126 : decode cX4_make 126 = .ok (.isub, 1) := dk_100 (dk_at dksX4_make_5 9 rfl rfl)
theorem dX4_make_127 : decode cX4_make 127 = .ok (.iastore, 1) := dk_79 (dk_at dksX4_make_5 10 rfl rfl)
theorem dX4_make_128 : decode cX4_make 128 = .ok (.iinc 3 1, 3) := dk_132 3 1 (dk_at dksX4_make_5 11 rfl rfl)
theorem dX4_make_131 : decode cX4_make 131 = .ok (.goto (-67), 3) := dk_167 255 189 (dk_at dksX4_make_5 14 rfl rfl)
theorem dX4_make_134 : decode cX4_make 134 = .ok (.aload_n 0, 1) := dk_42 (dk_at dksX4_make_5 17 rfl rfl)
theorem dX4_make_135 : decode cX4_make 135 = .ok (.getfield 76, 3) := dk_180 0 76 (dk_at dksX4_make_5 18 rfl rfl)
theorem dX4_make_138 : decode cX4_make 138 = .ok (.iload_n 1, 1) := dk_27 (dk_at dksX4_make_5 21 rfl rfl)
theorem dX4_make_139 : decode cX4_make 139 = .ok (.dup2, 1) := dk_92 (dk_at dksX4_make_5 22 rfl rfl)
theorem dX4_make_140 : decode cX4_make 140 = .ok (.iaload, 1) := dk_46 (dk_at dksX4_make_5 23 rfl rfl)
theorem dX4_make_141 : decode cX4_make 141 = .ok (.iload_n 2, 1) := dk_28 (dk_at dksX4_make_6 0 rfl rfl)
theorem dX4_make_142 : decode cX4_make 142 = .ok (.iadd, 1) := dk_96 (dk_at dksX4_make_6 1 rfl rfl)
theorem dX4_make_143 : decode cX4_make 143 = .ok (.iastore, 1) := dk_79 (dk_at dksX4_make_6 2 rfl rfl)
theorem dX4_make_144 : decode cX4_make 144 = .ok (.aload_n 0, 1) := dk_42 (dk_at dksX4_make_6 3 rfl rfl)
theorem dX4_make_145 : decode cX4_make 145 = .ok (.getfield 76, 3) := dk_180 0 76 (dk_at dksX4_make_6 4 rfl rfl)
theorem dX4_make_148 : decode cX4_make 148 = .ok (.iload_n 1, 1) := dk_27 (dk_at dksX4_make_6 7 rfl rfl)
theorem dX4_make_149 : decode cX4_make 149 = .ok (.iaload, 1) := dk_46 (dk_at dksX4_make_6 8 rfl rfl)
theorem dX4_make_150 : decode cX4_make 150 = .ok (.ireturn, 1) := dk_172 (dk_at dksX4_make_6 9 rfl rfl)
abbrev cX4_made : ByteArray := prog_18_method_68_code
def yX4_made : MethodName := ⟨RX4, "made", "(I)I"⟩
def dkwX4_made_1 : List UInt8 := [42, 180, 0, 76, 27, 46, 172]
abbrev dktX4_made_1 : List UInt8 := dkwX4_made_1 ++ []
def dkwX4_made_0 : List UInt8 := [42, 42, 27, 182, 0, 230, 153, 0, 7, 3, 167, 0, 4, 4, 182, 0, 129, 153, 0, 7, 3, 167, 0, 9]
abbrev dktX4_made_0 : List UInt8 := dkwX4_made_0 ++ dktX4_made_1
theorem dksX4_made_0 : cX4_made.data.toList.drop 0 = dktX4_made_0 := by decide +kernel
theorem dksX4_made_1 : cX4_made.data.toList.drop 24 = dktX4_made_1 := dk_seg dksX4_made_0 24 rfl rfl
theorem dX4_made_0 : decode cX4_made 0 = .ok (.aload_n 0, 1) := dk_42 (dk_at dksX4_made_0 0 rfl rfl)
theorem dX4_made_1 : decode cX4_made 1 = .ok (.aload_n 0, 1) := dk_42 (dk_at dksX4_made_0 1 rfl rfl)
theorem dX4_made_2 : decode cX4_made 2 = .ok (.iload_n 1, 1) := dk_27 (dk_at dksX4_made_0 2 rfl rfl)
theorem dX4_made_3 : decode cX4_made 3 = .ok (.invokevirtual 230, 3) := dk_182 0 230 (dk_at dksX4_made_0 3 rfl rfl)
theorem dX4_made_6 : decode cX4_made 6 = .ok (.ifCond .eq 7, 3) := dk_153 0 7 (dk_at dksX4_made_0 6 rfl rfl)
theorem dX4_made_9 : decode cX4_made 9 = .ok (.iconst 0, 1) := dk_3 (dk_at dksX4_made_0 9 rfl rfl)
theorem dX4_made_10 : decode cX4_made 10 = .ok (.goto 4, 3) := dk_167 0 4 (dk_at dksX4_made_0 10 rfl rfl)
theorem dX4_made_13 : decode cX4_made 13 = .ok (.iconst 1, 1) := dk_4 (dk_at dksX4_made_0 13 rfl rfl)
theorem dX4_made_14 : decode cX4_made 14 = .ok (.invokevirtual 129, 3) := dk_182 0 129 (dk_at dksX4_made_0 14 rfl rfl)
theorem dX4_made_17 : decode cX4_made 17 = .ok (.ifCond .eq 7, 3) := dk_153 0 7 (dk_at dksX4_made_0 17 rfl rfl)
theorem dX4_made_20 : decode cX4_made 20 = .ok (.iconst 0, 1) := dk_3 (dk_at dksX4_made_0 20 rfl rfl)
theorem dX4_made_21 : decode cX4_made 21 = .ok (.goto 9, 3) := dk_167 0 9 (dk_at dksX4_made_0 21 rfl rfl)
theorem dX4_made_24 : decode cX4_made 24 = .ok (.aload_n 0, 1) := dk_42 (dk_at dksX4_made_1 0 rfl rfl)
theorem dX4_made_25 : decode cX4_made 25 = .ok (.getfield 76, 3) := dk_180 0 76 (dk_at dksX4_made_1 1 rfl rfl)
theorem dX4_made_28 : decode cX4_made 28 = .ok (.iload_n 1, 1) := dk_27 (dk_at dksX4_made_1 4 rfl rfl)
theorem dX4_made_29 : decode cX4_made 29 = .ok (.iaload, 1) := dk_46 (dk_at dksX4_made_1 5 rfl rfl)
theorem dX4_made_30 : decode cX4_made 30 = .ok (.ireturn, 1) := dk_172 (dk_at dksX4_made_1 6 rfl rfl)
abbrev cX4_pliesFor : ByteArray := prog_18_method_69_code
def yX4_pliesFor : MethodName := ⟨RX4, "pliesFor", "(II)I"⟩
def dkwX4_pliesFor_4 : List UInt8 := [167, 0, 4, 29, 172]
abbrev dktX4_pliesFor_4 : List UInt8 := dkwX4_pliesFor_4 ++ []
def dkwX4_pliesFor_3 : List UInt8 := [167, 255, 236, 42, 29, 17, 1, 144, 164, 0, 7, 7, 167, 0, 4, 3, 182, 0, 129, 153, 0, 7, 3]
abbrev dktX4_pliesFor_3 : List UInt8 := dkwX4_pliesFor_3 ++ dktX4_pliesFor_4
def dkwX4_pliesFor_2 : List UInt8 := [3, 62, 29, 17, 1, 144, 163, 0, 19, 42, 27, 29, 182, 1, 19, 28, 162, 0, 9, 132, 3, 1]
abbrev dktX4_pliesFor_2 : List UInt8 := dkwX4_pliesFor_2 ++ dktX4_pliesFor_3
def dkwX4_pliesFor_1 : List UInt8 := [167, 0, 16, 42, 27, 182, 0, 233, 154, 0, 7, 6, 167, 0, 4, 3, 182, 0, 129, 153, 0, 5, 3, 172]
abbrev dktX4_pliesFor_1 : List UInt8 := dkwX4_pliesFor_1 ++ dktX4_pliesFor_2
def dkwX4_pliesFor_0 : List UInt8 := [42, 42, 27, 182, 0, 230, 154, 0, 7, 4, 167, 0, 30, 28, 4, 16, 99, 184, 0, 122, 154, 0, 7, 5]
abbrev dktX4_pliesFor_0 : List UInt8 := dkwX4_pliesFor_0 ++ dktX4_pliesFor_1
theorem dksX4_pliesFor_0 : cX4_pliesFor.data.toList.drop 0 = dktX4_pliesFor_0 := by decide +kernel
theorem dksX4_pliesFor_1 : cX4_pliesFor.data.toList.drop 24 = dktX4_pliesFor_1 := dk_seg dksX4_pliesFor_0 24 rfl rfl
theorem dksX4_pliesFor_2 : cX4_pliesFor.data.toList.drop 48 = dktX4_pliesFor_2 := dk_seg dksX4_pliesFor_1 24 rfl rfl
theorem dksX4_pliesFor_3 : cX4_pliesFor.data.toList.drop 70 = dktX4_pliesFor_3 := dk_seg dksX4_pliesFor_2 22 rfl rfl
theorem dksX4_pliesFor_4 : cX4_pliesFor.data.toList.drop 93 = dktX4_pliesFor_4 := dk_seg dksX4_pliesFor_3 23 rfl rfl
theorem dX4_pliesFor_0 : decode cX4_pliesFor 0 = .ok (.aload_n 0, 1) := dk_42 (dk_at dksX4_pliesFor_0 0 rfl rfl)
theorem dX4_pliesFor_1 : decode cX4_pliesFor 1 = .ok (.aload_n 0, 1) := dk_42 (dk_at dksX4_pliesFor_0 1 rfl rfl)
theorem dX4_pliesFor_2 : decode cX4_pliesFor 2 = .ok (.iload_n 1, 1) := dk_27 (dk_at dksX4_pliesFor_0 2 rfl rfl)
theorem dX4_pliesFor_3 : decode cX4_pliesFor 3 = .ok (.invokevirtual 230, 3) := dk_182 0 230 (dk_at dksX4_pliesFor_0 3 rfl rfl)
theorem dX4_pliesFor_6 : decode cX4_pliesFor 6 = .ok (.ifCond .ne 7, 3) := dk_154 0 7 (dk_at dksX4_pliesFor_0 6 rfl rfl)
theorem dX4_pliesFor_9 : decode cX4_pliesFor 9 = .ok (.iconst 1, 1) := dk_4 (dk_at dksX4_pliesFor_0 9 rfl rfl)
theorem dX4_pliesFor_10 : decode cX4_pliesFor 10 = .ok (.goto 30, 3) := dk_167 0 30 (dk_at dksX4_pliesFor_0 10 rfl rfl)
theorem dX4_pliesFor_13 : decode cX4_pliesFor 13 = .ok (.iload_n 2, 1) := dk_28 (dk_at dksX4_pliesFor_0 13 rfl rfl)
theorem dX4_pliesFor_14 : decode cX4_pliesFor 14 = .ok (.iconst 1, 1) := dk_4 (dk_at dksX4_pliesFor_0 14 rfl rfl)
theorem dX4_pliesFor_15 : decode cX4_pliesFor 15 = .ok (.bipush 99, 2) := dk_16 99 (dk_at dksX4_pliesFor_0 15 rfl rfl)
theorem dX4_pliesFor_17 : decode cX4_pliesFor 17 = .ok (.invokestatic 122, 3) := dk_184 0 122 (dk_at dksX4_pliesFor_0 17 rfl rfl)
theorem dX4_pliesFor_20 : decode cX4_pliesFor 20 = .ok (.ifCond .ne 7, 3) := dk_154 0 7 (dk_at dksX4_pliesFor_0 20 rfl rfl)
theorem dX4_pliesFor_23 : decode cX4_pliesFor 23 = .ok (.iconst 2, 1) := dk_5 (dk_at dksX4_pliesFor_0 23 rfl rfl)
theorem dX4_pliesFor_24 : decode cX4_pliesFor 24 = .ok (.goto 16, 3) := dk_167 0 16 (dk_at dksX4_pliesFor_1 0 rfl rfl)
theorem dX4_pliesFor_27 : decode cX4_pliesFor 27 = .ok (.aload_n 0, 1) := dk_42 (dk_at dksX4_pliesFor_1 3 rfl rfl)
theorem dX4_pliesFor_28 : decode cX4_pliesFor 28 = .ok (.iload_n 1, 1) := dk_27 (dk_at dksX4_pliesFor_1 4 rfl rfl)
theorem dX4_pliesFor_29 : decode cX4_pliesFor 29 = .ok (.invokevirtual 233, 3) := dk_182 0 233 (dk_at dksX4_pliesFor_1 5 rfl rfl)
theorem dX4_pliesFor_32 : decode cX4_pliesFor 32 = .ok (.ifCond .ne 7, 3) := dk_154 0 7 (dk_at dksX4_pliesFor_1 8 rfl rfl)
theorem dX4_pliesFor_35 : decode cX4_pliesFor 35 = .ok (.iconst 3, 1) := dk_6 (dk_at dksX4_pliesFor_1 11 rfl rfl)
theorem dX4_pliesFor_36 : decode cX4_pliesFor 36 = .ok (.goto 4, 3) := dk_167 0 4 (dk_at dksX4_pliesFor_1 12 rfl rfl)
theorem dX4_pliesFor_39 : decode cX4_pliesFor 39 = .ok (.iconst 0, 1) := dk_3 (dk_at dksX4_pliesFor_1 15 rfl rfl)
theorem dX4_pliesFor_40 : decode cX4_pliesFor 40 = .ok (.invokevirtual 129, 3) := dk_182 0 129 (dk_at dksX4_pliesFor_1 16 rfl rfl)
theorem dX4_pliesFor_43 : decode cX4_pliesFor 43 = .ok (.ifCond .eq 5, 3) := dk_153 0 5 (dk_at dksX4_pliesFor_1 19 rfl rfl)
theorem dX4_pliesFor_46 : decode cX4_pliesFor 46 = .ok (.iconst 0, 1) := dk_3 (dk_at dksX4_pliesFor_1 22 rfl rfl)
theorem dX4_pliesFor_47 : decode cX4_pliesFor 47 = .ok (.ireturn, 1) := dk_172 (dk_at dksX4_pliesFor_1 23 rfl rfl)
theorem dX4_pliesFor_48 : decode cX4_pliesFor 48 = .ok (.iconst 0, 1) := dk_3 (dk_at dksX4_pliesFor_2 0 rfl rfl)
theorem dX4_pliesFor_49 : decode cX4_pliesFor 49 = .ok (.istore_n 3, 1) := dk_62 (dk_at dksX4_pliesFor_2 1 rfl rfl)
theorem dX4_pliesFor_50 : decode cX4_pliesFor 50 = .ok (.iload_n 3, 1) := dk_29 (dk_at dksX4_pliesFor_2 2 rfl rfl)
theorem dX4_pliesFor_51 : decode cX4_pliesFor 51 = .ok (.sipush 400, 3) := dk_17 1 144 (dk_at dksX4_pliesFor_2 3 rfl rfl)
theorem dX4_pliesFor_54 : decode cX4_pliesFor 54 = .ok (.if_icmp .gt 19, 3) := dk_163 0 19 (dk_at dksX4_pliesFor_2 6 rfl rfl)
theorem dX4_pliesFor_57 : decode cX4_pliesFor 57 = .ok (.aload_n 0, 1) := dk_42 (dk_at dksX4_pliesFor_2 9 rfl rfl)
theorem dX4_pliesFor_58 : decode cX4_pliesFor 58 = .ok (.iload_n 1, 1) := dk_27 (dk_at dksX4_pliesFor_2 10 rfl rfl)
theorem dX4_pliesFor_59 : decode cX4_pliesFor 59 = .ok (.iload_n 3, 1) := dk_29 (dk_at dksX4_pliesFor_2 11 rfl rfl)
theorem dX4_pliesFor_60 : decode cX4_pliesFor 60 = .ok (.invokevirtual 275, 3) := dk_182 1 19 (dk_at dksX4_pliesFor_2 12 rfl rfl)
theorem dX4_pliesFor_63 : decode cX4_pliesFor 63 = .ok (.iload_n 2, 1) := dk_28 (dk_at dksX4_pliesFor_2 15 rfl rfl)
theorem dX4_pliesFor_64 : decode cX4_pliesFor 64 = .ok (.if_icmp .ge 9, 3) := dk_162 0 9 (dk_at dksX4_pliesFor_2 16 rfl rfl)
theorem dX4_pliesFor_67 : decode cX4_pliesFor 67 = .ok (.iinc 3 1, 3) := dk_132 3 1 (dk_at dksX4_pliesFor_2 19 rfl rfl)
theorem dX4_pliesFor_70 : decode cX4_pliesFor 70 = .ok (.goto (-20), 3) := dk_167 255 236 (dk_at dksX4_pliesFor_3 0 rfl rfl)
theorem dX4_pliesFor_73 : decode cX4_pliesFor 73 = .ok (.aload_n 0, 1) := dk_42 (dk_at dksX4_pliesFor_3 3 rfl rfl)
theorem dX4_pliesFor_74 : decode cX4_pliesFor 74 = .ok (.iload_n 3, 1) := dk_29 (dk_at dksX4_pliesFor_3 4 rfl rfl)
theorem dX4_pliesFor_75 : decode cX4_pliesFor 75 = .ok (.sipush 400, 3) := dk_17 1 144 (dk_at dksX4_pliesFor_3 5 rfl rfl)
theorem dX4_pliesFor_78 : decode cX4_pliesFor 78 = .ok (.if_icmp .le 7, 3) := dk_164 0 7 (dk_at dksX4_pliesFor_3 8 rfl rfl)
theorem dX4_pliesFor_81 : decode cX4_pliesFor 81 = .ok (.iconst 4, 1) := dk_7 (dk_at dksX4_pliesFor_3 11 rfl rfl)
theorem dX4_pliesFor_82 : decode cX4_pliesFor 82 = .ok (.goto 4, 3) := dk_167 0 4 (dk_at dksX4_pliesFor_3 12 rfl rfl)
theorem dX4_pliesFor_85 : decode cX4_pliesFor 85 = .ok (.iconst 0, 1) := dk_3 (dk_at dksX4_pliesFor_3 15 rfl rfl)
theorem dX4_pliesFor_86 : decode cX4_pliesFor 86 = .ok (.invokevirtual 129, 3) := dk_182 0 129 (dk_at dksX4_pliesFor_3 16 rfl rfl)
theorem dX4_pliesFor_89 : decode cX4_pliesFor 89 = .ok (.ifCond .eq 7, 3) := dk_153 0 7 (dk_at dksX4_pliesFor_3 19 rfl rfl)
theorem dX4_pliesFor_92 : decode cX4_pliesFor 92 = .ok (.iconst 0, 1) := dk_3 (dk_at dksX4_pliesFor_3 22 rfl rfl)
theorem dX4_pliesFor_93 : decode cX4_pliesFor 93 = .ok (.goto 4, 3) := dk_167 0 4 (dk_at dksX4_pliesFor_4 0 rfl rfl)
theorem dX4_pliesFor_96 : decode cX4_pliesFor 96 = .ok (.iload_n 3, 1) := dk_29 (dk_at dksX4_pliesFor_4 3 rfl rfl)
theorem dX4_pliesFor_97 : decode cX4_pliesFor 97 = .ok (.ireturn, 1) := dk_172 (dk_at dksX4_pliesFor_4 4 rfl rfl)
abbrev cX4_cut : ByteArray := prog_18_method_70_code
def yX4_cut : MethodName := ⟨RX4, "cut", "()J"⟩
def dkwX4_cut_0 : List UInt8 := [42, 3, 181, 0, 109, 42, 180, 1, 12, 173]
abbrev dktX4_cut_0 : List UInt8 := dkwX4_cut_0 ++ []
theorem dksX4_cut_0 : cX4_cut.data.toList.drop 0 = dktX4_cut_0 := by decide +kernel
theorem dX4_cut_0 : decode cX4_cut 0 = .ok (.aload_n 0, 1) := dk_42 (dk_at dksX4_cut_0 0 rfl rfl)
theorem dX4_cut_1 : decode cX4_cut 1 = .ok (.iconst 0, 1) := dk_3 (dk_at dksX4_cut_0 1 rfl rfl)
theorem dX4_cut_2 : decode cX4_cut 2 = .ok (.putfield 109, 3) := dk_181 0 109 (dk_at dksX4_cut_0 2 rfl rfl)
theorem dX4_cut_5 : decode cX4_cut 5 = .ok (.aload_n 0, 1) := dk_42 (dk_at dksX4_cut_0 5 rfl rfl)
theorem dX4_cut_6 : decode cX4_cut 6 = .ok (.getfield 268, 3) := dk_180 1 12 (dk_at dksX4_cut_0 6 rfl rfl)
theorem dX4_cut_9 : decode cX4_cut 9 = .ok (.lreturn, 1) := dk_173 (dk_at dksX4_cut_0 9 rfl rfl)
abbrev cX4_density : ByteArray := prog_18_method_71_code
def yX4_density : MethodName := ⟨RX4, "density", "()F"⟩
def dkwX4_density_1 : List UInt8 := [182, 0, 224, 134, 42, 182, 0, 218, 42, 182, 0, 165, 104, 134, 110, 174]
abbrev dktX4_density_1 : List UInt8 := dkwX4_density_1 ++ []
def dkwX4_density_0 : List UInt8 := [42, 42, 180, 0, 112, 154, 0, 7, 4, 167, 0, 4, 3, 182, 0, 129, 153, 0, 7, 11, 167, 0, 19, 42]
abbrev dktX4_density_0 : List UInt8 := dkwX4_density_0 ++ dktX4_density_1
theorem dksX4_density_0 : cX4_density.data.toList.drop 0 = dktX4_density_0 := by decide +kernel
theorem dksX4_density_1 : cX4_density.data.toList.drop 24 = dktX4_density_1 := dk_seg dksX4_density_0 24 rfl rfl
theorem dX4_density_0 : decode cX4_density 0 = .ok (.aload_n 0, 1) := dk_42 (dk_at dksX4_density_0 0 rfl rfl)
theorem dX4_density_1 : decode cX4_density 1 = .ok (.aload_n 0, 1) := dk_42 (dk_at dksX4_density_0 1 rfl rfl)
theorem dX4_density_2 : decode cX4_density 2 = .ok (.getfield 112, 3) := dk_180 0 112 (dk_at dksX4_density_0 2 rfl rfl)
theorem dX4_density_5 : decode cX4_density 5 = .ok (.ifCond .ne 7, 3) := dk_154 0 7 (dk_at dksX4_density_0 5 rfl rfl)
theorem dX4_density_8 : decode cX4_density 8 = .ok (.iconst 1, 1) := dk_4 (dk_at dksX4_density_0 8 rfl rfl)
theorem dX4_density_9 : decode cX4_density 9 = .ok (.goto 4, 3) := dk_167 0 4 (dk_at dksX4_density_0 9 rfl rfl)
theorem dX4_density_12 : decode cX4_density 12 = .ok (.iconst 0, 1) := dk_3 (dk_at dksX4_density_0 12 rfl rfl)
theorem dX4_density_13 : decode cX4_density 13 = .ok (.invokevirtual 129, 3) := dk_182 0 129 (dk_at dksX4_density_0 13 rfl rfl)
theorem dX4_density_16 : decode cX4_density 16 = .ok (.ifCond .eq 7, 3) := dk_153 0 7 (dk_at dksX4_density_0 16 rfl rfl)
theorem dX4_density_19 : decode cX4_density 19 = .ok (.fconst 0, 1) := dk_11 (dk_at dksX4_density_0 19 rfl rfl)
theorem dX4_density_20 : decode cX4_density 20 = .ok (.goto 19, 3) := dk_167 0 19 (dk_at dksX4_density_0 20 rfl rfl)
theorem dX4_density_23 : decode cX4_density 23 = .ok (.aload_n 0, 1) := dk_42 (dk_at dksX4_density_0 23 rfl rfl)
theorem dX4_density_24 : decode cX4_density 24 = .ok (.invokevirtual 224, 3) := dk_182 0 224 (dk_at dksX4_density_1 0 rfl rfl)
theorem dX4_density_27 : decode cX4_density 27 = .ok (.i2f, 1) := dk_134 (dk_at dksX4_density_1 3 rfl rfl)
theorem dX4_density_28 : decode cX4_density 28 = .ok (.aload_n 0, 1) := dk_42 (dk_at dksX4_density_1 4 rfl rfl)
theorem dX4_density_29 : decode cX4_density 29 = .ok (.invokevirtual 218, 3) := dk_182 0 218 (dk_at dksX4_density_1 5 rfl rfl)
theorem dX4_density_32 : decode cX4_density 32 = .ok (.aload_n 0, 1) := dk_42 (dk_at dksX4_density_1 8 rfl rfl)
theorem dX4_density_33 : decode cX4_density 33 = .ok (.invokevirtual 165, 3) := dk_182 0 165 (dk_at dksX4_density_1 9 rfl rfl)
theorem dX4_density_36 : decode cX4_density 36 = .ok (.imul, 1) := dk_104 (dk_at dksX4_density_1 12 rfl rfl)
theorem dX4_density_37 : decode cX4_density 37 = .ok (.i2f, 1) := dk_134 (dk_at dksX4_density_1 13 rfl rfl)
theorem dX4_density_38 : decode cX4_density 38 = .ok (.fdiv, 1) := dk_110 (dk_at dksX4_density_1 14 rfl rfl)
theorem dX4_density_39 : decode cX4_density 39 = .ok (.freturn, 1) := dk_174 (dk_at dksX4_density_1 15 rfl rfl)
abbrev cX4_meanCells : ByteArray := prog_18_method_72_code
def yX4_meanCells : MethodName := ⟨RX4, "meanCells", "()D"⟩
def dkwX4_meanCells_1 : List UInt8 := [182, 0, 224, 135, 42, 180, 0, 112, 135, 111, 175]
abbrev dktX4_meanCells_1 : List UInt8 := dkwX4_meanCells_1 ++ []
def dkwX4_meanCells_0 : List UInt8 := [42, 42, 180, 0, 112, 154, 0, 7, 4, 167, 0, 4, 3, 182, 0, 129, 153, 0, 7, 14, 167, 0, 14, 42]
abbrev dktX4_meanCells_0 : List UInt8 := dkwX4_meanCells_0 ++ dktX4_meanCells_1
theorem dksX4_meanCells_0 : cX4_meanCells.data.toList.drop 0 = dktX4_meanCells_0 := by decide +kernel
theorem dksX4_meanCells_1 : cX4_meanCells.data.toList.drop 24 = dktX4_meanCells_1 := dk_seg dksX4_meanCells_0 24 rfl rfl
theorem dX4_meanCells_0 : decode cX4_meanCells 0 = .ok (.aload_n 0, 1) := dk_42 (dk_at dksX4_meanCells_0 0 rfl rfl)
theorem dX4_meanCells_1 : decode cX4_meanCells 1 = .ok (.aload_n 0, 1) := dk_42 (dk_at dksX4_meanCells_0 1 rfl rfl)
theorem dX4_meanCells_2 : decode cX4_meanCells 2 = .ok (.getfield 112, 3) := dk_180 0 112 (dk_at dksX4_meanCells_0 2 rfl rfl)
theorem dX4_meanCells_5 : decode cX4_meanCells 5 = .ok (.ifCond .ne 7, 3) := dk_154 0 7 (dk_at dksX4_meanCells_0 5 rfl rfl)
theorem dX4_meanCells_8 : decode cX4_meanCells 8 = .ok (.iconst 1, 1) := dk_4 (dk_at dksX4_meanCells_0 8 rfl rfl)
theorem dX4_meanCells_9 : decode cX4_meanCells 9 = .ok (.goto 4, 3) := dk_167 0 4 (dk_at dksX4_meanCells_0 9 rfl rfl)
theorem dX4_meanCells_12 : decode cX4_meanCells 12 = .ok (.iconst 0, 1) := dk_3 (dk_at dksX4_meanCells_0 12 rfl rfl)
theorem dX4_meanCells_13 : decode cX4_meanCells 13 = .ok (.invokevirtual 129, 3) := dk_182 0 129 (dk_at dksX4_meanCells_0 13 rfl rfl)
theorem dX4_meanCells_16 : decode cX4_meanCells 16 = .ok (.ifCond .eq 7, 3) := dk_153 0 7 (dk_at dksX4_meanCells_0 16 rfl rfl)
theorem dX4_meanCells_19 : decode cX4_meanCells 19 = .ok (.dconst 0, 1) := dk_14 (dk_at dksX4_meanCells_0 19 rfl rfl)
theorem dX4_meanCells_20 : decode cX4_meanCells 20 = .ok (.goto 14, 3) := dk_167 0 14 (dk_at dksX4_meanCells_0 20 rfl rfl)
theorem dX4_meanCells_23 : decode cX4_meanCells 23 = .ok (.aload_n 0, 1) := dk_42 (dk_at dksX4_meanCells_0 23 rfl rfl)
theorem dX4_meanCells_24 : decode cX4_meanCells 24 = .ok (.invokevirtual 224, 3) := dk_182 0 224 (dk_at dksX4_meanCells_1 0 rfl rfl)
theorem dX4_meanCells_27 : decode cX4_meanCells 27 = .ok (.i2d, 1) := dk_135 (dk_at dksX4_meanCells_1 3 rfl rfl)
theorem dX4_meanCells_28 : decode cX4_meanCells 28 = .ok (.aload_n 0, 1) := dk_42 (dk_at dksX4_meanCells_1 4 rfl rfl)
theorem dX4_meanCells_29 : decode cX4_meanCells 29 = .ok (.getfield 112, 3) := dk_180 0 112 (dk_at dksX4_meanCells_1 5 rfl rfl)
theorem dX4_meanCells_32 : decode cX4_meanCells 32 = .ok (.i2d, 1) := dk_135 (dk_at dksX4_meanCells_1 8 rfl rfl)
theorem dX4_meanCells_33 : decode cX4_meanCells 33 = .ok (.ddiv, 1) := dk_111 (dk_at dksX4_meanCells_1 9 rfl rfl)
theorem dX4_meanCells_34 : decode cX4_meanCells 34 = .ok (.dreturn, 1) := dk_175 (dk_at dksX4_meanCells_1 10 rfl rfl)
abbrev cX4_isSound : ByteArray := prog_18_method_73_code
def yX4_isSound : MethodName := ⟨RX4, "isSound", "()Z"⟩
def dkwX4_isSound_5 : List UInt8 := [32, 42, 180, 1, 12, 148, 154, 0, 7, 4, 167, 0, 4, 3, 172]
abbrev dktX4_isSound_5 : List UInt8 := dkwX4_isSound_5 ++ []
def dkwX4_isSound_4 : List UInt8 := [42, 21, 4, 182, 0, 233, 133, 105, 97, 65, 132, 4, 1, 167, 255, 225, 27, 42, 182, 0, 224, 160, 0, 16]
abbrev dktX4_isSound_4 : List UInt8 := dkwX4_isSound_4 ++ dktX4_isSound_5
def dkwX4_isSound_3 : List UInt8 := [167, 255, 231, 3, 54, 4, 21, 4, 42, 180, 0, 227, 162, 0, 28, 32, 42, 180, 0, 76, 21, 4, 46, 133]
abbrev dktX4_isSound_3 : List UInt8 := dkwX4_isSound_3 ++ dktX4_isSound_4
def dkwX4_isSound_2 : List UInt8 := [42, 180, 0, 143, 104, 162, 0, 20, 32, 42, 180, 0, 43, 21, 4, 46, 133, 97, 65, 132, 4, 1]
abbrev dktX4_isSound_2 : List UInt8 := dkwX4_isSound_2 ++ dktX4_isSound_3
def dkwX4_isSound_1 : List UInt8 := [160, 0, 7, 3, 167, 0, 4, 4, 96, 60, 132, 2, 1, 167, 255, 228, 9, 65, 3, 54, 4, 21, 4, 5]
abbrev dktX4_isSound_1 : List UInt8 := dkwX4_isSound_1 ++ dktX4_isSound_2
def dkwX4_isSound_0 : List UInt8 := [42, 3, 181, 0, 109, 3, 60, 3, 61, 28, 17, 2, 208, 162, 0, 27, 27, 42, 180, 0, 64, 28, 46, 2]
abbrev dktX4_isSound_0 : List UInt8 := dkwX4_isSound_0 ++ dktX4_isSound_1
theorem dksX4_isSound_0 : cX4_isSound.data.toList.drop 0 = dktX4_isSound_0 := by decide +kernel
theorem dksX4_isSound_1 : cX4_isSound.data.toList.drop 24 = dktX4_isSound_1 := dk_seg dksX4_isSound_0 24 rfl rfl
theorem dksX4_isSound_2 : cX4_isSound.data.toList.drop 48 = dktX4_isSound_2 := dk_seg dksX4_isSound_1 24 rfl rfl
theorem dksX4_isSound_3 : cX4_isSound.data.toList.drop 70 = dktX4_isSound_3 := dk_seg dksX4_isSound_2 22 rfl rfl
theorem dksX4_isSound_4 : cX4_isSound.data.toList.drop 94 = dktX4_isSound_4 := dk_seg dksX4_isSound_3 24 rfl rfl
theorem dksX4_isSound_5 : cX4_isSound.data.toList.drop 118 = dktX4_isSound_5 := dk_seg dksX4_isSound_4 24 rfl rfl
theorem dX4_isSound_0 : decode cX4_isSound 0 = .ok (.aload_n 0, 1) := dk_42 (dk_at dksX4_isSound_0 0 rfl rfl)
theorem dX4_isSound_1 : decode cX4_isSound 1 = .ok (.iconst 0, 1) := dk_3 (dk_at dksX4_isSound_0 1 rfl rfl)
theorem dX4_isSound_2 : decode cX4_isSound 2 = .ok (.putfield 109, 3) := dk_181 0 109 (dk_at dksX4_isSound_0 2 rfl rfl)
theorem dX4_isSound_5 : decode cX4_isSound 5 = .ok (.iconst 0, 1) := dk_3 (dk_at dksX4_isSound_0 5 rfl rfl)
theorem dX4_isSound_6 : decode cX4_isSound 6 = .ok (.istore_n 1, 1) := dk_60 (dk_at dksX4_isSound_0 6 rfl rfl)
theorem dX4_isSound_7 : decode cX4_isSound 7 = .ok (.iconst 0, 1) := dk_3 (dk_at dksX4_isSound_0 7 rfl rfl)
theorem dX4_isSound_8 : decode cX4_isSound 8 = .ok (.istore_n 2, 1) := dk_61 (dk_at dksX4_isSound_0 8 rfl rfl)
theorem dX4_isSound_9 : decode cX4_isSound 9 = .ok (.iload_n 2, 1) := dk_28 (dk_at dksX4_isSound_0 9 rfl rfl)
theorem dX4_isSound_10 : decode cX4_isSound 10 = .ok (.sipush 720, 3) := dk_17 2 208 (dk_at dksX4_isSound_0 10 rfl rfl)
theorem dX4_isSound_13 : decode cX4_isSound 13 = .ok (.if_icmp .ge 27, 3) := dk_162 0 27 (dk_at dksX4_isSound_0 13 rfl rfl)
theorem dX4_isSound_16 : decode cX4_isSound 16 = .ok (.iload_n 1, 1) := dk_27 (dk_at dksX4_isSound_0 16 rfl rfl)
theorem dX4_isSound_17 : decode cX4_isSound 17 = .ok (.aload_n 0, 1) := dk_42 (dk_at dksX4_isSound_0 17 rfl rfl)
theorem dX4_isSound_18 : decode cX4_isSound 18 = .ok (.getfield 64, 3) := dk_180 0 64 (dk_at dksX4_isSound_0 18 rfl rfl)
theorem dX4_isSound_21 : decode cX4_isSound 21 = .ok (.iload_n 2, 1) := dk_28 (dk_at dksX4_isSound_0 21 rfl rfl)
theorem dX4_isSound_22 : decode cX4_isSound 22 = .ok (.iaload, 1) := dk_46 (dk_at dksX4_isSound_0 22 rfl rfl)
theorem dX4_isSound_23 : decode cX4_isSound 23 = .ok (.iconst (-1), 1) := dk_2 (dk_at dksX4_isSound_0 23 rfl rfl)
theorem dX4_isSound_24 : decode cX4_isSound 24 = .ok (.if_icmp .ne 7, 3) := dk_160 0 7 (dk_at dksX4_isSound_1 0 rfl rfl)
theorem dX4_isSound_27 : decode cX4_isSound 27 = .ok (.iconst 0, 1) := dk_3 (dk_at dksX4_isSound_1 3 rfl rfl)
theorem dX4_isSound_28 : decode cX4_isSound 28 = .ok (.goto 4, 3) := dk_167 0 4 (dk_at dksX4_isSound_1 4 rfl rfl)
theorem dX4_isSound_31 : decode cX4_isSound 31 = .ok (.iconst 1, 1) := dk_4 (dk_at dksX4_isSound_1 7 rfl rfl)
theorem dX4_isSound_32 : decode cX4_isSound 32 = .ok (.iadd, 1) := dk_96 (dk_at dksX4_isSound_1 8 rfl rfl)
theorem dX4_isSound_33 : decode cX4_isSound 33 = .ok (.istore_n 1, 1) := dk_60 (dk_at dksX4_isSound_1 9 rfl rfl)
theorem dX4_isSound_34 : decode cX4_isSound 34 = .ok (.iinc 2 1, 3) := dk_132 2 1 (dk_at dksX4_isSound_1 10 rfl rfl)
theorem dX4_isSound_37 : decode cX4_isSound 37 = .ok (.goto (-28), 3) := dk_167 255 228 (dk_at dksX4_isSound_1 13 rfl rfl)
theorem dX4_isSound_40 : decode cX4_isSound 40 = .ok (.lconst 0, 1) := dk_9 (dk_at dksX4_isSound_1 16 rfl rfl)
theorem dX4_isSound_41 : decode cX4_isSound 41 = .ok (.lstore_n 2, 1) := dk_65 (dk_at dksX4_isSound_1 17 rfl rfl)
theorem dX4_isSound_42 : decode cX4_isSound 42 = .ok (.iconst 0, 1) := dk_3 (dk_at dksX4_isSound_1 18 rfl rfl)
theorem dX4_isSound_43 : decode cX4_isSound 43 = .ok (.istore 4, 2) := dk_54 4 (dk_at dksX4_isSound_1 19 rfl rfl)
theorem dX4_isSound_45 : decode cX4_isSound 45 = .ok (.iload 4, 2) := dk_21 4 (dk_at dksX4_isSound_1 21 rfl rfl)
theorem dX4_isSound_47 : decode cX4_isSound 47 = .ok (.iconst 2, 1) := dk_5 (dk_at dksX4_isSound_1 23 rfl rfl)
theorem dX4_isSound_48 : decode cX4_isSound 48 = .ok (.aload_n 0, 1) := dk_42 (dk_at dksX4_isSound_2 0 rfl rfl)
theorem dX4_isSound_49 : decode cX4_isSound 49 = .ok (.getfield 143, 3) := dk_180 0 143 (dk_at dksX4_isSound_2 1 rfl rfl)
theorem dX4_isSound_52 : decode cX4_isSound 52 = .ok (.imul, 1) := dk_104 (dk_at dksX4_isSound_2 4 rfl rfl)
theorem dX4_isSound_53 : decode cX4_isSound 53 = .ok (.if_icmp .ge 20, 3) := dk_162 0 20 (dk_at dksX4_isSound_2 5 rfl rfl)
theorem dX4_isSound_56 : decode cX4_isSound 56 = .ok (.lload_n 2, 1) := dk_32 (dk_at dksX4_isSound_2 8 rfl rfl)
theorem dX4_isSound_57 : decode cX4_isSound 57 = .ok (.aload_n 0, 1) := dk_42 (dk_at dksX4_isSound_2 9 rfl rfl)
theorem dX4_isSound_58 : decode cX4_isSound 58 = .ok (.getfield 43, 3) := dk_180 0 43 (dk_at dksX4_isSound_2 10 rfl rfl)
theorem dX4_isSound_61 : decode cX4_isSound 61 = .ok (.iload 4, 2) := dk_21 4 (dk_at dksX4_isSound_2 13 rfl rfl)
theorem dX4_isSound_63 : decode cX4_isSound 63 = .ok (.iaload, 1) := dk_46 (dk_at dksX4_isSound_2 15 rfl rfl)
theorem dX4_isSound_64 : decode cX4_isSound 64 = .ok (.i2l, 1) := dk_133 (dk_at dksX4_isSound_2 16 rfl rfl)
theorem dX4_isSound_65 : decode cX4_isSound 65 = .ok (.ladd, 1) := dk_97 (dk_at dksX4_isSound_2 17 rfl rfl)
theorem dX4_isSound_66 : decode cX4_isSound 66 = .ok (.lstore_n 2, 1) := dk_65 (dk_at dksX4_isSound_2 18 rfl rfl)
theorem dX4_isSound_67 : decode cX4_isSound 67 = .ok (.iinc 4 1, 3) := dk_132 4 1 (dk_at dksX4_isSound_2 19 rfl rfl)
theorem dX4_isSound_70 : decode cX4_isSound 70 = .ok (.goto (-25), 3) := dk_167 255 231 (dk_at dksX4_isSound_3 0 rfl rfl)
theorem dX4_isSound_73 : decode cX4_isSound 73 = .ok (.iconst 0, 1) := dk_3 (dk_at dksX4_isSound_3 3 rfl rfl)
theorem dX4_isSound_74 : decode cX4_isSound 74 = .ok (.istore 4, 2) := dk_54 4 (dk_at dksX4_isSound_3 4 rfl rfl)
theorem dX4_isSound_76 : decode cX4_isSound 76 = .ok (.iload 4, 2) := dk_21 4 (dk_at dksX4_isSound_3 6 rfl rfl)
theorem dX4_isSound_78 : decode cX4_isSound 78 = .ok (.aload_n 0, 1) := dk_42 (dk_at dksX4_isSound_3 8 rfl rfl)
theorem dX4_isSound_79 : decode cX4_isSound 79 = .ok (.getfield 227, 3) := dk_180 0 227 (dk_at dksX4_isSound_3 9 rfl rfl)
theorem dX4_isSound_82 : decode cX4_isSound 82 = .ok (.if_icmp .ge 28, 3) := dk_162 0 28 (dk_at dksX4_isSound_3 12 rfl rfl)
theorem dX4_isSound_85 : decode cX4_isSound 85 = .ok (.lload_n 2, 1) := dk_32 (dk_at dksX4_isSound_3 15 rfl rfl)
theorem dX4_isSound_86 : decode cX4_isSound 86 = .ok (.aload_n 0, 1) := dk_42 (dk_at dksX4_isSound_3 16 rfl rfl)
theorem dX4_isSound_87 : decode cX4_isSound 87 = .ok (.getfield 76, 3) := dk_180 0 76 (dk_at dksX4_isSound_3 17 rfl rfl)
theorem dX4_isSound_90 : decode cX4_isSound 90 = .ok (.iload 4, 2) := dk_21 4 (dk_at dksX4_isSound_3 20 rfl rfl)
theorem dX4_isSound_92 : decode cX4_isSound 92 = .ok (.iaload, 1) := dk_46 (dk_at dksX4_isSound_3 22 rfl rfl)
theorem dX4_isSound_93 : decode cX4_isSound 93 = .ok (.i2l, 1) := dk_133 (dk_at dksX4_isSound_3 23 rfl rfl)
theorem dX4_isSound_94 : decode cX4_isSound 94 = .ok (.aload_n 0, 1) := dk_42 (dk_at dksX4_isSound_4 0 rfl rfl)
theorem dX4_isSound_95 : decode cX4_isSound 95 = .ok (.iload 4, 2) := dk_21 4 (dk_at dksX4_isSound_4 1 rfl rfl)
theorem dX4_isSound_97 : decode cX4_isSound 97 = .ok (.invokevirtual 233, 3) := dk_182 0 233 (dk_at dksX4_isSound_4 3 rfl rfl)
theorem dX4_isSound_100 : decode cX4_isSound 100 = .ok (.i2l, 1) := dk_133 (dk_at dksX4_isSound_4 6 rfl rfl)
theorem dX4_isSound_101 : decode cX4_isSound 101 = .ok (.lmul, 1) := dk_105 (dk_at dksX4_isSound_4 7 rfl rfl)
theorem dX4_isSound_102 : decode cX4_isSound 102 = .ok (.ladd, 1) := dk_97 (dk_at dksX4_isSound_4 8 rfl rfl)
theorem dX4_isSound_103 : decode cX4_isSound 103 = .ok (.lstore_n 2, 1) := dk_65 (dk_at dksX4_isSound_4 9 rfl rfl)
theorem dX4_isSound_104 : decode cX4_isSound 104 = .ok (.iinc 4 1, 3) := dk_132 4 1 (dk_at dksX4_isSound_4 10 rfl rfl)
theorem dX4_isSound_107 : decode cX4_isSound 107 = .ok (.goto (-31), 3) := dk_167 255 225 (dk_at dksX4_isSound_4 13 rfl rfl)
theorem dX4_isSound_110 : decode cX4_isSound 110 = .ok (.iload_n 1, 1) := dk_27 (dk_at dksX4_isSound_4 16 rfl rfl)
theorem dX4_isSound_111 : decode cX4_isSound 111 = .ok (.aload_n 0, 1) := dk_42 (dk_at dksX4_isSound_4 17 rfl rfl)
theorem dX4_isSound_112 : decode cX4_isSound 112 = .ok (.invokevirtual 224, 3) := dk_182 0 224 (dk_at dksX4_isSound_4 18 rfl rfl)
theorem dX4_isSound_115 : decode cX4_isSound 115 = .ok (.if_icmp .ne 16, 3) := dk_160 0 16 (dk_at dksX4_isSound_4 21 rfl rfl)
theorem dX4_isSound_118 : decode cX4_isSound 118 = .ok (.lload_n 2, 1) := dk_32 (dk_at dksX4_isSound_5 0 rfl rfl)
theorem dX4_isSound_119 : decode cX4_isSound 119 = .ok (.aload_n 0, 1) := dk_42 (dk_at dksX4_isSound_5 1 rfl rfl)
theorem dX4_isSound_120 : decode cX4_isSound 120 = .ok (.getfield 268, 3) := dk_180 1 12 (dk_at dksX4_isSound_5 2 rfl rfl)
theorem dX4_isSound_123 : decode cX4_isSound 123 = .ok (.lcmp, 1) := dk_148 (dk_at dksX4_isSound_5 5 rfl rfl)
theorem dX4_isSound_124 : decode cX4_isSound 124 = .ok (.ifCond .ne 7, 3) := dk_154 0 7 (dk_at dksX4_isSound_5 6 rfl rfl)
theorem dX4_isSound_127 : decode cX4_isSound 127 = .ok (.iconst 1, 1) := dk_4 (dk_at dksX4_isSound_5 9 rfl rfl)
theorem dX4_isSound_128 : decode cX4_isSound 128 = .ok (.goto 4, 3) := dk_167 0 4 (dk_at dksX4_isSound_5 10 rfl rfl)
theorem dX4_isSound_131 : decode cX4_isSound 131 = .ok (.iconst 0, 1) := dk_3 (dk_at dksX4_isSound_5 13 rfl rfl)
theorem dX4_isSound_132 : decode cX4_isSound 132 = .ok (.ireturn, 1) := dk_172 (dk_at dksX4_isSound_5 14 rfl rfl)
theorem q73 : (Jvm.Cond.initialized "CuttingRoomModel") ∈ lw_all := lw_g (lw_at lw_m1 8 rfl) rfl
theorem q795 : (Jvm.Cond.selects "CuttingRoomModel" ({ cls := "java/lang/Object", name := "getClass", desc := "()Ljava/lang/Class;" } : Jvm.MethodName) ({ cls := "java/lang/Object", name := "getClass", desc := "()Ljava/lang/Class;" } : Jvm.MethodName)) ∈ lw_all := lw_g (lw_at lw_m4 10 rfl) rfl
theorem q1040 : (Jvm.Cond.selects "CuttingRoomModel" ({ cls := "java/lang/Object", name := "equals", desc := "(Ljava/lang/Object;)Z" } : Jvm.MethodName) ({ cls := "java/lang/Object", name := "equals", desc := "(Ljava/lang/Object;)Z" } : Jvm.MethodName)) ∈ lw_all := lw_g (lw_at lw_m5 15 rfl) rfl
theorem q1384 : (Jvm.Cond.instantiable "CuttingRoomModel" (49 : Nat)) ∈ lw_all := lw_g (lw_at lw_m6 119 rfl) rfl
theorem q1386 : (Jvm.Cond.instanceMethod ({ cls := "CuttingRoomModel", name := "<init>", desc := "()V" } : Jvm.MethodName)) ∈ lw_all := lw_g (lw_at lw_m6 121 rfl) rfl
theorem q1387 : (Jvm.Cond.code ({ cls := "CuttingRoomModel", name := "<init>", desc := "()V" } : Jvm.MethodName) prog_18_method_1_code (2 : Nat) (Option.none : Option Jvm.ClassFile.FieldType)) ∈ lw_all := lw_g (lw_at lw_m6 122 rfl) rfl
theorem q1388 : (Jvm.Cond.methodLink "CuttingRoomModel" (1 : Nat) ({ cls := "java/lang/Object", name := "<init>", desc := "()V" } : Jvm.MethodName)) ∈ lw_all := lw_g (lw_at lw_m6 123 rfl) rfl
theorem q1389 : (Jvm.Cond.methodLink "CuttingRoomModel" (106 : Nat) ({ cls := "CuttingRoomModel", name := "empties", desc := "()V" } : Jvm.MethodName)) ∈ lw_all := lw_g (lw_at lw_m6 124 rfl) rfl
theorem q1390 : (Jvm.Cond.privateMethod ({ cls := "CuttingRoomModel", name := "empties", desc := "()V" } : Jvm.MethodName)) ∈ lw_tbl := lw_at lw_m6 125 rfl
theorem q1391 : (Jvm.Cond.instanceMethod ({ cls := "CuttingRoomModel", name := "empties", desc := "()V" } : Jvm.MethodName)) ∈ lw_all := lw_g (lw_at lw_m6 126 rfl) rfl
theorem q1392 : (Jvm.Cond.code ({ cls := "CuttingRoomModel", name := "empties", desc := "()V" } : Jvm.MethodName) prog_18_method_5_code (2 : Nat) (Option.none : Option Jvm.ClassFile.FieldType)) ∈ lw_all := lw_g (lw_at lw_m6 127 rfl) rfl
theorem q1393 : (Jvm.Cond.fieldLink "CuttingRoomModel" (109 : Nat) "CuttingRoomModel" "thrown" "I") ∈ lw_all := lw_g (lw_at lw_m6 128 rfl) rfl
theorem q1394 : (Jvm.Cond.fieldLink "CuttingRoomModel" (7 : Nat) "CuttingRoomModel" "width" "I") ∈ lw_all := lw_g (lw_at lw_m6 129 rfl) rfl
theorem q1395 : (Jvm.Cond.fieldLink "CuttingRoomModel" (133 : Nat) "CuttingRoomModel" "nap" "Z") ∈ lw_all := lw_g (lw_at lw_m6 130 rfl) rfl
theorem q1396 : (Jvm.Cond.fieldLink "CuttingRoomModel" (118 : Nat) "CuttingRoomModel" "folded" "Z") ∈ lw_all := lw_g (lw_at lw_m6 131 rfl) rfl
theorem q1397 : (Jvm.Cond.fieldLink "CuttingRoomModel" (136 : Nat) "CuttingRoomModel" "stripes" "I") ∈ lw_all := lw_g (lw_at lw_m6 132 rfl) rfl
theorem q1398 : (Jvm.Cond.fieldLink "CuttingRoomModel" (126 : Nat) "CuttingRoomModel" "flaws" "I") ∈ lw_all := lw_g (lw_at lw_m6 133 rfl) rfl
theorem q1399 : (Jvm.Cond.fieldLink "CuttingRoomModel" (13 : Nat) "CuttingRoomModel" "flaw" "[Z") ∈ lw_all := lw_g (lw_at lw_m6 134 rfl) rfl
theorem q1400 : (Jvm.Cond.fieldLink "CuttingRoomModel" (143 : Nat) "CuttingRoomModel" "shapes" "I") ∈ lw_all := lw_g (lw_at lw_m6 135 rfl) rfl
theorem q1401 : (Jvm.Cond.fieldLink "CuttingRoomModel" (17 : Nat) "CuttingRoomModel" "rule" "[C") ∈ lw_all := lw_g (lw_at lw_m6 136 rfl) rfl
theorem q1402 : (Jvm.Cond.fieldLink "CuttingRoomModel" (21 : Nat) "CuttingRoomModel" "paired" "[Z") ∈ lw_all := lw_g (lw_at lw_m6 137 rfl) rfl
theorem q1403 : (Jvm.Cond.fieldLink "CuttingRoomModel" (24 : Nat) "CuttingRoomModel" "drawn" "[Z") ∈ lw_all := lw_g (lw_at lw_m6 138 rfl) rfl
theorem q1404 : (Jvm.Cond.fieldLink "CuttingRoomModel" (27 : Nat) "CuttingRoomModel" "size" "[I") ∈ lw_all := lw_g (lw_at lw_m6 139 rfl) rfl
theorem q1405 : (Jvm.Cond.fieldLink "CuttingRoomModel" (31 : Nat) "CuttingRoomModel" "group" "[I") ∈ lw_all := lw_g (lw_at lw_m6 140 rfl) rfl
theorem q1406 : (Jvm.Cond.fieldLink "CuttingRoomModel" (34 : Nat) "CuttingRoomModel" "markRow" "[I") ∈ lw_all := lw_g (lw_at lw_m6 141 rfl) rfl
theorem q1407 : (Jvm.Cond.fieldLink "CuttingRoomModel" (37 : Nat) "CuttingRoomModel" "markColumn" "[I") ∈ lw_all := lw_g (lw_at lw_m6 142 rfl) rfl
theorem q1408 : (Jvm.Cond.fieldLink "CuttingRoomModel" (40 : Nat) "CuttingRoomModel" "everCut" "[Z") ∈ lw_all := lw_g (lw_at lw_m6 143 rfl) rfl
theorem q1409 : (Jvm.Cond.fieldLink "CuttingRoomModel" (43 : Nat) "CuttingRoomModel" "stock" "[I") ∈ lw_all := lw_g (lw_at lw_m6 144 rfl) rfl
theorem q1410 : (Jvm.Cond.fieldLink "CuttingRoomModel" (112 : Nat) "CuttingRoomModel" "many" "I") ∈ lw_all := lw_g (lw_at lw_m6 145 rfl) rfl
theorem q1411 : (Jvm.Cond.fieldLink "CuttingRoomModel" (115 : Nat) "CuttingRoomModel" "next" "I") ∈ lw_all := lw_g (lw_at lw_m6 146 rfl) rfl
theorem q1412 : (Jvm.Cond.fieldLink "CuttingRoomModel" (46 : Nat) "CuttingRoomModel" "number" "[I") ∈ lw_all := lw_g (lw_at lw_m6 147 rfl) rfl
theorem q1413 : (Jvm.Cond.fieldLink "CuttingRoomModel" (49 : Nat) "CuttingRoomModel" "shapeOf" "[I") ∈ lw_all := lw_g (lw_at lw_m6 148 rfl) rfl
theorem q1414 : (Jvm.Cond.fieldLink "CuttingRoomModel" (52 : Nat) "CuttingRoomModel" "rowAt" "[I") ∈ lw_all := lw_g (lw_at lw_m6 149 rfl) rfl
theorem q1415 : (Jvm.Cond.fieldLink "CuttingRoomModel" (55 : Nat) "CuttingRoomModel" "columnAt" "[I") ∈ lw_all := lw_g (lw_at lw_m6 150 rfl) rfl
theorem q1416 : (Jvm.Cond.fieldLink "CuttingRoomModel" (58 : Nat) "CuttingRoomModel" "turned" "[I") ∈ lw_all := lw_g (lw_at lw_m6 151 rfl) rfl
theorem q1417 : (Jvm.Cond.fieldLink "CuttingRoomModel" (61 : Nat) "CuttingRoomModel" "mirrored" "[Z") ∈ lw_all := lw_g (lw_at lw_m6 152 rfl) rfl
theorem q1418 : (Jvm.Cond.fieldLink "CuttingRoomModel" (64 : Nat) "CuttingRoomModel" "cloth" "[I") ∈ lw_all := lw_g (lw_at lw_m6 153 rfl) rfl
theorem q1419 : (Jvm.Cond.fieldLink "CuttingRoomModel" (67 : Nat) "CuttingRoomModel" "phase" "[I") ∈ lw_all := lw_g (lw_at lw_m6 154 rfl) rfl
theorem q1420 : (Jvm.Cond.fieldLink "CuttingRoomModel" (70 : Nat) "CuttingRoomModel" "ofGroup" "[I") ∈ lw_all := lw_g (lw_at lw_m6 155 rfl) rfl
theorem q1421 : (Jvm.Cond.fieldLink "CuttingRoomModel" (227 : Nat) "CuttingRoomModel" "styles" "I") ∈ lw_all := lw_g (lw_at lw_m6 156 rfl) rfl
theorem q1422 : (Jvm.Cond.fieldLink "CuttingRoomModel" (73 : Nat) "CuttingRoomModel" "count" "[I") ∈ lw_all := lw_g (lw_at lw_m6 157 rfl) rfl
theorem q1423 : (Jvm.Cond.fieldLink "CuttingRoomModel" (76 : Nat) "CuttingRoomModel" "made" "[I") ∈ lw_all := lw_g (lw_at lw_m6 158 rfl) rfl
theorem q1424 : (Jvm.Cond.fieldLink "CuttingRoomModel" (254 : Nat) "CuttingRoomModel" "roll" "I") ∈ lw_all := lw_g (lw_at lw_m6 159 rfl) rfl
theorem q1425 : (Jvm.Cond.fieldLink "CuttingRoomModel" (268 : Nat) "CuttingRoomModel" "cutAll" "J") ∈ lw_all := lw_g (lw_at lw_m6 160 rfl) rfl
theorem q1426 : (Jvm.Cond.fieldLink "CuttingRoomModel" (152 : Nat) "CuttingRoomModel" "cellMany" "I") ∈ lw_all := lw_g (lw_at lw_m6 161 rfl) rfl
theorem q1427 : (Jvm.Cond.fieldLink "CuttingRoomModel" (79 : Nat) "CuttingRoomModel" "cellRow" "[I") ∈ lw_all := lw_g (lw_at lw_m6 162 rfl) rfl
theorem q1428 : (Jvm.Cond.fieldLink "CuttingRoomModel" (82 : Nat) "CuttingRoomModel" "cellColumn" "[I") ∈ lw_all := lw_g (lw_at lw_m6 163 rfl) rfl
theorem q1429 : (Jvm.Cond.fieldLink "CuttingRoomModel" (162 : Nat) "CuttingRoomModel" "markBehind" "I") ∈ lw_all := lw_g (lw_at lw_m6 164 rfl) rfl
theorem q1430 : (Jvm.Cond.fieldLink "CuttingRoomModel" (198 : Nat) "CuttingRoomModel" "nestRow" "I") ∈ lw_all := lw_g (lw_at lw_m6 165 rfl) rfl
theorem q1431 : (Jvm.Cond.fieldLink "CuttingRoomModel" (201 : Nat) "CuttingRoomModel" "nestColumn" "I") ∈ lw_all := lw_g (lw_at lw_m6 166 rfl) rfl
theorem q1432 : (Jvm.Cond.fieldLink "CuttingRoomModel" (204 : Nat) "CuttingRoomModel" "nestTurns" "I") ∈ lw_all := lw_g (lw_at lw_m6 167 rfl) rfl
theorem q1433 : (Jvm.Cond.fieldLink "CuttingRoomModel" (85 : Nat) "CuttingRoomModel" "queue" "[I") ∈ lw_all := lw_g (lw_at lw_m6 168 rfl) rfl
theorem q1434 : (Jvm.Cond.fieldLink "CuttingRoomModel" (236 : Nat) "CuttingRoomModel" "queued" "I") ∈ lw_all := lw_g (lw_at lw_m6 169 rfl) rfl
theorem q1435 : (Jvm.Cond.fieldLink "CuttingRoomModel" (88 : Nat) "CuttingRoomModel" "keptNumber" "[I") ∈ lw_all := lw_g (lw_at lw_m6 170 rfl) rfl
theorem q1436 : (Jvm.Cond.fieldLink "CuttingRoomModel" (91 : Nat) "CuttingRoomModel" "keptShape" "[I") ∈ lw_all := lw_g (lw_at lw_m6 171 rfl) rfl
theorem q1437 : (Jvm.Cond.fieldLink "CuttingRoomModel" (94 : Nat) "CuttingRoomModel" "keptRow" "[I") ∈ lw_all := lw_g (lw_at lw_m6 172 rfl) rfl
theorem q1438 : (Jvm.Cond.fieldLink "CuttingRoomModel" (97 : Nat) "CuttingRoomModel" "keptColumn" "[I") ∈ lw_all := lw_g (lw_at lw_m6 173 rfl) rfl
theorem q1439 : (Jvm.Cond.fieldLink "CuttingRoomModel" (100 : Nat) "CuttingRoomModel" "keptTurns" "[I") ∈ lw_all := lw_g (lw_at lw_m6 174 rfl) rfl
theorem q1440 : (Jvm.Cond.fieldLink "CuttingRoomModel" (103 : Nat) "CuttingRoomModel" "keptMirror" "[Z") ∈ lw_all := lw_g (lw_at lw_m6 175 rfl) rfl
theorem q1441 : (Jvm.Cond.fieldLink "CuttingRoomModel" (239 : Nat) "CuttingRoomModel" "least" "I") ∈ lw_all := lw_g (lw_at lw_m6 176 rfl) rfl
theorem q1442 : (Jvm.Cond.lays "CuttingRoomModel" "CuttingRoomModel" "thrown" "I") ∈ lw_all := lw_g (lw_at lw_m6 177 rfl) rfl
theorem q1443 : (Jvm.Cond.soleField "CuttingRoomModel" "thrown") ∈ lw_all := lw_g (lw_at lw_m6 178 rfl) rfl
theorem q1444 : (Jvm.Cond.lays "CuttingRoomModel" "CuttingRoomModel" "width" "I") ∈ lw_all := lw_g (lw_at lw_m6 179 rfl) rfl
theorem q1445 : (Jvm.Cond.soleField "CuttingRoomModel" "width") ∈ lw_all := lw_g (lw_at lw_m6 180 rfl) rfl
theorem q1446 : (Jvm.Cond.lays "CuttingRoomModel" "CuttingRoomModel" "nap" "Z") ∈ lw_all := lw_g (lw_at lw_m6 181 rfl) rfl
theorem q1447 : (Jvm.Cond.soleField "CuttingRoomModel" "nap") ∈ lw_all := lw_g (lw_at lw_m6 182 rfl) rfl
theorem q1448 : (Jvm.Cond.lays "CuttingRoomModel" "CuttingRoomModel" "folded" "Z") ∈ lw_all := lw_g (lw_at lw_m6 183 rfl) rfl
theorem q1449 : (Jvm.Cond.soleField "CuttingRoomModel" "folded") ∈ lw_all := lw_g (lw_at lw_m6 184 rfl) rfl
theorem q1450 : (Jvm.Cond.lays "CuttingRoomModel" "CuttingRoomModel" "stripes" "I") ∈ lw_all := lw_g (lw_at lw_m6 185 rfl) rfl
theorem q1451 : (Jvm.Cond.soleField "CuttingRoomModel" "stripes") ∈ lw_all := lw_g (lw_at lw_m6 186 rfl) rfl
theorem q1452 : (Jvm.Cond.lays "CuttingRoomModel" "CuttingRoomModel" "flaws" "I") ∈ lw_all := lw_g (lw_at lw_m6 187 rfl) rfl
theorem q1453 : (Jvm.Cond.soleField "CuttingRoomModel" "flaws") ∈ lw_all := lw_g (lw_at lw_m6 188 rfl) rfl
theorem q1454 : (Jvm.Cond.laysFinal "CuttingRoomModel" "CuttingRoomModel" "flaw" "[Z") ∈ lw_all := lw_g (lw_at lw_m6 189 rfl) rfl
theorem q1455 : (Jvm.Cond.soleField "CuttingRoomModel" "flaw") ∈ lw_all := lw_g (lw_at lw_m6 190 rfl) rfl
theorem q1456 : (Jvm.Cond.lays "CuttingRoomModel" "CuttingRoomModel" "shapes" "I") ∈ lw_all := lw_g (lw_at lw_m6 191 rfl) rfl
theorem q1457 : (Jvm.Cond.soleField "CuttingRoomModel" "shapes") ∈ lw_all := lw_g (lw_at lw_m6 192 rfl) rfl
theorem q1458 : (Jvm.Cond.laysFinal "CuttingRoomModel" "CuttingRoomModel" "rule" "[C") ∈ lw_all := lw_g (lw_at lw_m6 193 rfl) rfl
theorem q1459 : (Jvm.Cond.soleField "CuttingRoomModel" "rule") ∈ lw_all := lw_g (lw_at lw_m6 194 rfl) rfl
theorem q1460 : (Jvm.Cond.laysFinal "CuttingRoomModel" "CuttingRoomModel" "paired" "[Z") ∈ lw_all := lw_g (lw_at lw_m6 195 rfl) rfl
theorem q1461 : (Jvm.Cond.soleField "CuttingRoomModel" "paired") ∈ lw_all := lw_g (lw_at lw_m6 196 rfl) rfl
theorem q1462 : (Jvm.Cond.laysFinal "CuttingRoomModel" "CuttingRoomModel" "drawn" "[Z") ∈ lw_all := lw_g (lw_at lw_m6 197 rfl) rfl
theorem q1463 : (Jvm.Cond.soleField "CuttingRoomModel" "drawn") ∈ lw_all := lw_g (lw_at lw_m6 198 rfl) rfl
theorem q1464 : (Jvm.Cond.laysFinal "CuttingRoomModel" "CuttingRoomModel" "size" "[I") ∈ lw_all := lw_g (lw_at lw_m6 199 rfl) rfl
theorem q1465 : (Jvm.Cond.soleField "CuttingRoomModel" "size") ∈ lw_all := lw_g (lw_at lw_m6 200 rfl) rfl
theorem q1466 : (Jvm.Cond.laysFinal "CuttingRoomModel" "CuttingRoomModel" "group" "[I") ∈ lw_all := lw_g (lw_at lw_m6 201 rfl) rfl
theorem q1467 : (Jvm.Cond.soleField "CuttingRoomModel" "group") ∈ lw_all := lw_g (lw_at lw_m6 202 rfl) rfl
theorem q1468 : (Jvm.Cond.laysFinal "CuttingRoomModel" "CuttingRoomModel" "markRow" "[I") ∈ lw_all := lw_g (lw_at lw_m6 203 rfl) rfl
theorem q1469 : (Jvm.Cond.soleField "CuttingRoomModel" "markRow") ∈ lw_all := lw_g (lw_at lw_m6 204 rfl) rfl
theorem q1470 : (Jvm.Cond.laysFinal "CuttingRoomModel" "CuttingRoomModel" "markColumn" "[I") ∈ lw_all := lw_g (lw_at lw_m6 205 rfl) rfl
theorem q1471 : (Jvm.Cond.soleField "CuttingRoomModel" "markColumn") ∈ lw_all := lw_g (lw_at lw_m6 206 rfl) rfl
theorem q1472 : (Jvm.Cond.laysFinal "CuttingRoomModel" "CuttingRoomModel" "everCut" "[Z") ∈ lw_all := lw_g (lw_at lw_m6 207 rfl) rfl
theorem q1473 : (Jvm.Cond.soleField "CuttingRoomModel" "everCut") ∈ lw_all := lw_g (lw_at lw_m6 208 rfl) rfl
theorem q1474 : (Jvm.Cond.laysFinal "CuttingRoomModel" "CuttingRoomModel" "stock" "[I") ∈ lw_all := lw_g (lw_at lw_m6 209 rfl) rfl
theorem q1475 : (Jvm.Cond.soleField "CuttingRoomModel" "stock") ∈ lw_all := lw_g (lw_at lw_m6 210 rfl) rfl
theorem q1476 : (Jvm.Cond.lays "CuttingRoomModel" "CuttingRoomModel" "many" "I") ∈ lw_all := lw_g (lw_at lw_m6 211 rfl) rfl
theorem q1477 : (Jvm.Cond.soleField "CuttingRoomModel" "many") ∈ lw_all := lw_g (lw_at lw_m6 212 rfl) rfl
theorem q1478 : (Jvm.Cond.lays "CuttingRoomModel" "CuttingRoomModel" "next" "I") ∈ lw_all := lw_g (lw_at lw_m6 213 rfl) rfl
theorem q1479 : (Jvm.Cond.soleField "CuttingRoomModel" "next") ∈ lw_all := lw_g (lw_at lw_m6 214 rfl) rfl
theorem q1480 : (Jvm.Cond.laysFinal "CuttingRoomModel" "CuttingRoomModel" "number" "[I") ∈ lw_all := lw_g (lw_at lw_m6 215 rfl) rfl
theorem q1481 : (Jvm.Cond.soleField "CuttingRoomModel" "number") ∈ lw_all := lw_g (lw_at lw_m6 216 rfl) rfl
theorem q1482 : (Jvm.Cond.laysFinal "CuttingRoomModel" "CuttingRoomModel" "shapeOf" "[I") ∈ lw_all := lw_g (lw_at lw_m6 217 rfl) rfl
theorem q1483 : (Jvm.Cond.soleField "CuttingRoomModel" "shapeOf") ∈ lw_all := lw_g (lw_at lw_m6 218 rfl) rfl
theorem q1484 : (Jvm.Cond.laysFinal "CuttingRoomModel" "CuttingRoomModel" "rowAt" "[I") ∈ lw_all := lw_g (lw_at lw_m6 219 rfl) rfl
theorem q1485 : (Jvm.Cond.soleField "CuttingRoomModel" "rowAt") ∈ lw_all := lw_g (lw_at lw_m6 220 rfl) rfl
theorem q1486 : (Jvm.Cond.laysFinal "CuttingRoomModel" "CuttingRoomModel" "columnAt" "[I") ∈ lw_all := lw_g (lw_at lw_m6 221 rfl) rfl
theorem q1487 : (Jvm.Cond.soleField "CuttingRoomModel" "columnAt") ∈ lw_all := lw_g (lw_at lw_m6 222 rfl) rfl
theorem q1488 : (Jvm.Cond.laysFinal "CuttingRoomModel" "CuttingRoomModel" "turned" "[I") ∈ lw_all := lw_g (lw_at lw_m6 223 rfl) rfl
theorem q1489 : (Jvm.Cond.soleField "CuttingRoomModel" "turned") ∈ lw_all := lw_g (lw_at lw_m6 224 rfl) rfl
theorem q1490 : (Jvm.Cond.laysFinal "CuttingRoomModel" "CuttingRoomModel" "mirrored" "[Z") ∈ lw_all := lw_g (lw_at lw_m6 225 rfl) rfl
theorem q1491 : (Jvm.Cond.soleField "CuttingRoomModel" "mirrored") ∈ lw_all := lw_g (lw_at lw_m6 226 rfl) rfl
theorem q1492 : (Jvm.Cond.laysFinal "CuttingRoomModel" "CuttingRoomModel" "cloth" "[I") ∈ lw_all := lw_g (lw_at lw_m6 227 rfl) rfl
theorem q1493 : (Jvm.Cond.soleField "CuttingRoomModel" "cloth") ∈ lw_all := lw_g (lw_at lw_m6 228 rfl) rfl
theorem q1494 : (Jvm.Cond.laysFinal "CuttingRoomModel" "CuttingRoomModel" "phase" "[I") ∈ lw_all := lw_g (lw_at lw_m6 229 rfl) rfl
theorem q1495 : (Jvm.Cond.soleField "CuttingRoomModel" "phase") ∈ lw_all := lw_g (lw_at lw_m6 230 rfl) rfl
theorem q1496 : (Jvm.Cond.laysFinal "CuttingRoomModel" "CuttingRoomModel" "ofGroup" "[I") ∈ lw_all := lw_g (lw_at lw_m6 231 rfl) rfl
theorem q1497 : (Jvm.Cond.soleField "CuttingRoomModel" "ofGroup") ∈ lw_all := lw_g (lw_at lw_m6 232 rfl) rfl
theorem q1498 : (Jvm.Cond.lays "CuttingRoomModel" "CuttingRoomModel" "styles" "I") ∈ lw_all := lw_g (lw_at lw_m6 233 rfl) rfl
theorem q1499 : (Jvm.Cond.soleField "CuttingRoomModel" "styles") ∈ lw_all := lw_g (lw_at lw_m6 234 rfl) rfl
theorem q1500 : (Jvm.Cond.laysFinal "CuttingRoomModel" "CuttingRoomModel" "count" "[I") ∈ lw_all := lw_g (lw_at lw_m6 235 rfl) rfl
theorem q1501 : (Jvm.Cond.soleField "CuttingRoomModel" "count") ∈ lw_all := lw_g (lw_at lw_m6 236 rfl) rfl
theorem q1502 : (Jvm.Cond.laysFinal "CuttingRoomModel" "CuttingRoomModel" "made" "[I") ∈ lw_all := lw_g (lw_at lw_m6 237 rfl) rfl
theorem q1503 : (Jvm.Cond.soleField "CuttingRoomModel" "made") ∈ lw_all := lw_g (lw_at lw_m6 238 rfl) rfl
theorem q1504 : (Jvm.Cond.lays "CuttingRoomModel" "CuttingRoomModel" "roll" "I") ∈ lw_all := lw_g (lw_at lw_m6 239 rfl) rfl
theorem q1505 : (Jvm.Cond.soleField "CuttingRoomModel" "roll") ∈ lw_all := lw_g (lw_at lw_m7 0 rfl) rfl
theorem q1506 : (Jvm.Cond.lays "CuttingRoomModel" "CuttingRoomModel" "cutAll" "J") ∈ lw_all := lw_g (lw_at lw_m7 1 rfl) rfl
theorem q1507 : (Jvm.Cond.soleField "CuttingRoomModel" "cutAll") ∈ lw_all := lw_g (lw_at lw_m7 2 rfl) rfl
theorem q1508 : (Jvm.Cond.lays "CuttingRoomModel" "CuttingRoomModel" "cellMany" "I") ∈ lw_all := lw_g (lw_at lw_m7 3 rfl) rfl
theorem q1509 : (Jvm.Cond.soleField "CuttingRoomModel" "cellMany") ∈ lw_all := lw_g (lw_at lw_m7 4 rfl) rfl
theorem q1510 : (Jvm.Cond.laysFinal "CuttingRoomModel" "CuttingRoomModel" "cellRow" "[I") ∈ lw_all := lw_g (lw_at lw_m7 5 rfl) rfl
theorem q1511 : (Jvm.Cond.soleField "CuttingRoomModel" "cellRow") ∈ lw_all := lw_g (lw_at lw_m7 6 rfl) rfl
theorem q1512 : (Jvm.Cond.laysFinal "CuttingRoomModel" "CuttingRoomModel" "cellColumn" "[I") ∈ lw_all := lw_g (lw_at lw_m7 7 rfl) rfl
theorem q1513 : (Jvm.Cond.soleField "CuttingRoomModel" "cellColumn") ∈ lw_all := lw_g (lw_at lw_m7 8 rfl) rfl
theorem q1514 : (Jvm.Cond.lays "CuttingRoomModel" "CuttingRoomModel" "markBehind" "I") ∈ lw_all := lw_g (lw_at lw_m7 9 rfl) rfl
theorem q1515 : (Jvm.Cond.soleField "CuttingRoomModel" "markBehind") ∈ lw_all := lw_g (lw_at lw_m7 10 rfl) rfl
theorem q1516 : (Jvm.Cond.lays "CuttingRoomModel" "CuttingRoomModel" "nestRow" "I") ∈ lw_all := lw_g (lw_at lw_m7 11 rfl) rfl
theorem q1517 : (Jvm.Cond.soleField "CuttingRoomModel" "nestRow") ∈ lw_all := lw_g (lw_at lw_m7 12 rfl) rfl
theorem q1518 : (Jvm.Cond.lays "CuttingRoomModel" "CuttingRoomModel" "nestColumn" "I") ∈ lw_all := lw_g (lw_at lw_m7 13 rfl) rfl
theorem q1519 : (Jvm.Cond.soleField "CuttingRoomModel" "nestColumn") ∈ lw_all := lw_g (lw_at lw_m7 14 rfl) rfl
theorem q1520 : (Jvm.Cond.lays "CuttingRoomModel" "CuttingRoomModel" "nestTurns" "I") ∈ lw_all := lw_g (lw_at lw_m7 15 rfl) rfl
theorem q1521 : (Jvm.Cond.soleField "CuttingRoomModel" "nestTurns") ∈ lw_all := lw_g (lw_at lw_m7 16 rfl) rfl
theorem q1522 : (Jvm.Cond.laysFinal "CuttingRoomModel" "CuttingRoomModel" "queue" "[I") ∈ lw_all := lw_g (lw_at lw_m7 17 rfl) rfl
theorem q1523 : (Jvm.Cond.soleField "CuttingRoomModel" "queue") ∈ lw_all := lw_g (lw_at lw_m7 18 rfl) rfl
theorem q1524 : (Jvm.Cond.lays "CuttingRoomModel" "CuttingRoomModel" "queued" "I") ∈ lw_all := lw_g (lw_at lw_m7 19 rfl) rfl
theorem q1525 : (Jvm.Cond.soleField "CuttingRoomModel" "queued") ∈ lw_all := lw_g (lw_at lw_m7 20 rfl) rfl
theorem q1526 : (Jvm.Cond.laysFinal "CuttingRoomModel" "CuttingRoomModel" "keptNumber" "[I") ∈ lw_all := lw_g (lw_at lw_m7 21 rfl) rfl
theorem q1527 : (Jvm.Cond.soleField "CuttingRoomModel" "keptNumber") ∈ lw_all := lw_g (lw_at lw_m7 22 rfl) rfl
theorem q1528 : (Jvm.Cond.laysFinal "CuttingRoomModel" "CuttingRoomModel" "keptShape" "[I") ∈ lw_all := lw_g (lw_at lw_m7 23 rfl) rfl
theorem q1529 : (Jvm.Cond.soleField "CuttingRoomModel" "keptShape") ∈ lw_all := lw_g (lw_at lw_m7 24 rfl) rfl
theorem q1530 : (Jvm.Cond.laysFinal "CuttingRoomModel" "CuttingRoomModel" "keptRow" "[I") ∈ lw_all := lw_g (lw_at lw_m7 25 rfl) rfl
theorem q1531 : (Jvm.Cond.soleField "CuttingRoomModel" "keptRow") ∈ lw_all := lw_g (lw_at lw_m7 26 rfl) rfl
theorem q1532 : (Jvm.Cond.laysFinal "CuttingRoomModel" "CuttingRoomModel" "keptColumn" "[I") ∈ lw_all := lw_g (lw_at lw_m7 27 rfl) rfl
theorem q1533 : (Jvm.Cond.soleField "CuttingRoomModel" "keptColumn") ∈ lw_all := lw_g (lw_at lw_m7 28 rfl) rfl
theorem q1534 : (Jvm.Cond.laysFinal "CuttingRoomModel" "CuttingRoomModel" "keptTurns" "[I") ∈ lw_all := lw_g (lw_at lw_m7 29 rfl) rfl
theorem q1535 : (Jvm.Cond.soleField "CuttingRoomModel" "keptTurns") ∈ lw_all := lw_g (lw_at lw_m7 30 rfl) rfl
theorem q1536 : (Jvm.Cond.laysFinal "CuttingRoomModel" "CuttingRoomModel" "keptMirror" "[Z") ∈ lw_all := lw_g (lw_at lw_m7 31 rfl) rfl
theorem q1537 : (Jvm.Cond.soleField "CuttingRoomModel" "keptMirror") ∈ lw_all := lw_g (lw_at lw_m7 32 rfl) rfl
theorem q1538 : (Jvm.Cond.lays "CuttingRoomModel" "CuttingRoomModel" "least" "I") ∈ lw_all := lw_g (lw_at lw_m7 33 rfl) rfl
theorem q1539 : (Jvm.Cond.soleField "CuttingRoomModel" "least") ∈ lw_all := lw_g (lw_at lw_m7 34 rfl) rfl
theorem q1540 : (Jvm.Cond.superclass "CuttingRoomModel" "java/lang/Object") ∈ lw_all := lw_g (lw_at lw_m7 35 rfl) rfl
theorem q1543 : (Jvm.Cond.instanceMethod ({ cls := "CuttingRoomModel", name := "thrown", desc := "()I" } : Jvm.MethodName)) ∈ lw_all := lw_g (lw_at lw_m7 38 rfl) rfl
theorem q1544 : (Jvm.Cond.selects "CuttingRoomModel" ({ cls := "CuttingRoomModel", name := "thrown", desc := "()I" } : Jvm.MethodName) ({ cls := "CuttingRoomModel", name := "thrown", desc := "()I" } : Jvm.MethodName)) ∈ lw_all := lw_g (lw_at lw_m7 39 rfl) rfl
theorem q1545 : (Jvm.Cond.code ({ cls := "CuttingRoomModel", name := "thrown", desc := "()I" } : Jvm.MethodName) prog_18_method_2_code (1 : Nat) (Option.some Jvm.ClassFile.FieldType.int)) ∈ lw_all := lw_g (lw_at lw_m7 40 rfl) rfl
theorem q1547 : (Jvm.Cond.instanceMethod ({ cls := "CuttingRoomModel", name := "setCloth", desc := "(IZI)I" } : Jvm.MethodName)) ∈ lw_all := lw_g (lw_at lw_m7 42 rfl) rfl
theorem q1548 : (Jvm.Cond.selects "CuttingRoomModel" ({ cls := "CuttingRoomModel", name := "setCloth", desc := "(IZI)I" } : Jvm.MethodName) ({ cls := "CuttingRoomModel", name := "setCloth", desc := "(IZI)I" } : Jvm.MethodName)) ∈ lw_all := lw_g (lw_at lw_m7 43 rfl) rfl
theorem q1549 : (Jvm.Cond.code ({ cls := "CuttingRoomModel", name := "setCloth", desc := "(IZI)I" } : Jvm.MethodName) prog_18_method_8_code (5 : Nat) (Option.some Jvm.ClassFile.FieldType.int)) ∈ lw_all := lw_g (lw_at lw_m7 44 rfl) rfl
theorem q1550 : (Jvm.Cond.methodLink "CuttingRoomModel" (122 : Nat) ({ cls := "CuttingRoomModel", name := "in", desc := "(III)Z" } : Jvm.MethodName)) ∈ lw_all := lw_g (lw_at lw_m7 45 rfl) rfl
theorem q1551 : (Jvm.Cond.static ({ cls := "CuttingRoomModel", name := "in", desc := "(III)Z" } : Jvm.MethodName)) ∈ lw_all := lw_g (lw_at lw_m7 46 rfl) rfl
theorem q1552 : (Jvm.Cond.code ({ cls := "CuttingRoomModel", name := "in", desc := "(III)Z" } : Jvm.MethodName) prog_18_method_4_code (3 : Nat) (Option.some Jvm.ClassFile.FieldType.boolean)) ∈ lw_all := lw_g (lw_at lw_m7 47 rfl) rfl
theorem q1553 : (Jvm.Cond.methodLink "CuttingRoomModel" (129 : Nat) ({ cls := "CuttingRoomModel", name := "fails", desc := "(I)Z" } : Jvm.MethodName)) ∈ lw_all := lw_g (lw_at lw_m7 48 rfl) rfl
theorem q1554 : (Jvm.Cond.privateMethod ({ cls := "CuttingRoomModel", name := "fails", desc := "(I)Z" } : Jvm.MethodName)) ∈ lw_tbl := lw_at lw_m7 49 rfl
theorem q1555 : (Jvm.Cond.instanceMethod ({ cls := "CuttingRoomModel", name := "fails", desc := "(I)Z" } : Jvm.MethodName)) ∈ lw_all := lw_g (lw_at lw_m7 50 rfl) rfl
theorem q1556 : (Jvm.Cond.code ({ cls := "CuttingRoomModel", name := "fails", desc := "(I)Z" } : Jvm.MethodName) prog_18_method_3_code (2 : Nat) (Option.some Jvm.ClassFile.FieldType.boolean)) ∈ lw_all := lw_g (lw_at lw_m7 51 rfl) rfl
theorem q1558 : (Jvm.Cond.instanceMethod ({ cls := "CuttingRoomModel", name := "fold", desc := "(Z)Z" } : Jvm.MethodName)) ∈ lw_all := lw_g (lw_at lw_m7 53 rfl) rfl
theorem q1559 : (Jvm.Cond.selects "CuttingRoomModel" ({ cls := "CuttingRoomModel", name := "fold", desc := "(Z)Z" } : Jvm.MethodName) ({ cls := "CuttingRoomModel", name := "fold", desc := "(Z)Z" } : Jvm.MethodName)) ∈ lw_all := lw_g (lw_at lw_m7 54 rfl) rfl
theorem q1560 : (Jvm.Cond.code ({ cls := "CuttingRoomModel", name := "fold", desc := "(Z)Z" } : Jvm.MethodName) prog_18_method_9_code (3 : Nat) (Option.some Jvm.ClassFile.FieldType.boolean)) ∈ lw_all := lw_g (lw_at lw_m7 55 rfl) rfl
theorem q1562 : (Jvm.Cond.instanceMethod ({ cls := "CuttingRoomModel", name := "addFlaw", desc := "(II)I" } : Jvm.MethodName)) ∈ lw_all := lw_g (lw_at lw_m7 57 rfl) rfl
theorem q1563 : (Jvm.Cond.selects "CuttingRoomModel" ({ cls := "CuttingRoomModel", name := "addFlaw", desc := "(II)I" } : Jvm.MethodName) ({ cls := "CuttingRoomModel", name := "addFlaw", desc := "(II)I" } : Jvm.MethodName)) ∈ lw_all := lw_g (lw_at lw_m7 58 rfl) rfl
theorem q1564 : (Jvm.Cond.code ({ cls := "CuttingRoomModel", name := "addFlaw", desc := "(II)I" } : Jvm.MethodName) prog_18_method_11_code (4 : Nat) (Option.some Jvm.ClassFile.FieldType.int)) ∈ lw_all := lw_g (lw_at lw_m7 59 rfl) rfl
theorem q1565 : (Jvm.Cond.methodLink "CuttingRoomModel" (139 : Nat) ({ cls := "CuttingRoomModel", name := "isUnderPiece", desc := "(II)Z" } : Jvm.MethodName)) ∈ lw_all := lw_g (lw_at lw_m7 60 rfl) rfl
theorem q1566 : (Jvm.Cond.privateMethod ({ cls := "CuttingRoomModel", name := "isUnderPiece", desc := "(II)Z" } : Jvm.MethodName)) ∈ lw_tbl := lw_at lw_m7 61 rfl
theorem q1567 : (Jvm.Cond.instanceMethod ({ cls := "CuttingRoomModel", name := "isUnderPiece", desc := "(II)Z" } : Jvm.MethodName)) ∈ lw_all := lw_g (lw_at lw_m7 62 rfl) rfl
theorem q1568 : (Jvm.Cond.code ({ cls := "CuttingRoomModel", name := "isUnderPiece", desc := "(II)Z" } : Jvm.MethodName) prog_18_method_10_code (4 : Nat) (Option.some Jvm.ClassFile.FieldType.boolean)) ∈ lw_all := lw_g (lw_at lw_m7 63 rfl) rfl
theorem q1570 : (Jvm.Cond.instanceMethod ({ cls := "CuttingRoomModel", name := "clearFlaws", desc := "()I" } : Jvm.MethodName)) ∈ lw_all := lw_g (lw_at lw_m7 65 rfl) rfl
theorem q1571 : (Jvm.Cond.selects "CuttingRoomModel" ({ cls := "CuttingRoomModel", name := "clearFlaws", desc := "()I" } : Jvm.MethodName) ({ cls := "CuttingRoomModel", name := "clearFlaws", desc := "()I" } : Jvm.MethodName)) ∈ lw_all := lw_g (lw_at lw_m7 66 rfl) rfl
theorem q1572 : (Jvm.Cond.code ({ cls := "CuttingRoomModel", name := "clearFlaws", desc := "()I" } : Jvm.MethodName) prog_18_method_12_code (3 : Nat) (Option.some Jvm.ClassFile.FieldType.int)) ∈ lw_all := lw_g (lw_at lw_m7 67 rfl) rfl
theorem q1574 : (Jvm.Cond.instanceMethod ({ cls := "CuttingRoomModel", name := "addShape", desc := "(CZ)I" } : Jvm.MethodName)) ∈ lw_all := lw_g (lw_at lw_m7 69 rfl) rfl
theorem q1575 : (Jvm.Cond.selects "CuttingRoomModel" ({ cls := "CuttingRoomModel", name := "addShape", desc := "(CZ)I" } : Jvm.MethodName) ({ cls := "CuttingRoomModel", name := "addShape", desc := "(CZ)I" } : Jvm.MethodName)) ∈ lw_all := lw_g (lw_at lw_m7 70 rfl) rfl
theorem q1576 : (Jvm.Cond.code ({ cls := "CuttingRoomModel", name := "addShape", desc := "(CZ)I" } : Jvm.MethodName) prog_18_method_14_code (4 : Nat) (Option.some Jvm.ClassFile.FieldType.int)) ∈ lw_all := lw_g (lw_at lw_m7 71 rfl) rfl
theorem q1578 : (Jvm.Cond.instanceMethod ({ cls := "CuttingRoomModel", name := "addCell", desc := "(III)I" } : Jvm.MethodName)) ∈ lw_all := lw_g (lw_at lw_m7 73 rfl) rfl
theorem q1579 : (Jvm.Cond.selects "CuttingRoomModel" ({ cls := "CuttingRoomModel", name := "addCell", desc := "(III)I" } : Jvm.MethodName) ({ cls := "CuttingRoomModel", name := "addCell", desc := "(III)I" } : Jvm.MethodName)) ∈ lw_all := lw_g (lw_at lw_m7 74 rfl) rfl
theorem q1580 : (Jvm.Cond.code ({ cls := "CuttingRoomModel", name := "addCell", desc := "(III)I" } : Jvm.MethodName) prog_18_method_16_code (6 : Nat) (Option.some Jvm.ClassFile.FieldType.int)) ∈ lw_all := lw_g (lw_at lw_m7 75 rfl) rfl
theorem q1581 : (Jvm.Cond.methodLink "CuttingRoomModel" (146 : Nat) ({ cls := "CuttingRoomModel", name := "isShape", desc := "(I)Z" } : Jvm.MethodName)) ∈ lw_all := lw_g (lw_at lw_m7 76 rfl) rfl
theorem q1582 : (Jvm.Cond.privateMethod ({ cls := "CuttingRoomModel", name := "isShape", desc := "(I)Z" } : Jvm.MethodName)) ∈ lw_tbl := lw_at lw_m7 77 rfl
theorem q1583 : (Jvm.Cond.instanceMethod ({ cls := "CuttingRoomModel", name := "isShape", desc := "(I)Z" } : Jvm.MethodName)) ∈ lw_all := lw_g (lw_at lw_m7 78 rfl) rfl
theorem q1584 : (Jvm.Cond.code ({ cls := "CuttingRoomModel", name := "isShape", desc := "(I)Z" } : Jvm.MethodName) prog_18_method_13_code (2 : Nat) (Option.some Jvm.ClassFile.FieldType.boolean)) ∈ lw_all := lw_g (lw_at lw_m7 79 rfl) rfl
theorem q1585 : (Jvm.Cond.methodLink "CuttingRoomModel" (149 : Nat) ({ cls := "CuttingRoomModel", name := "isLaid", desc := "(I)Z" } : Jvm.MethodName)) ∈ lw_all := lw_g (lw_at lw_m7 80 rfl) rfl
theorem q1586 : (Jvm.Cond.privateMethod ({ cls := "CuttingRoomModel", name := "isLaid", desc := "(I)Z" } : Jvm.MethodName)) ∈ lw_tbl := lw_at lw_m7 81 rfl
theorem q1587 : (Jvm.Cond.instanceMethod ({ cls := "CuttingRoomModel", name := "isLaid", desc := "(I)Z" } : Jvm.MethodName)) ∈ lw_all := lw_g (lw_at lw_m7 82 rfl) rfl
theorem q1588 : (Jvm.Cond.code ({ cls := "CuttingRoomModel", name := "isLaid", desc := "(I)Z" } : Jvm.MethodName) prog_18_method_15_code (4 : Nat) (Option.some Jvm.ClassFile.FieldType.boolean)) ∈ lw_all := lw_g (lw_at lw_m7 83 rfl) rfl
theorem q1590 : (Jvm.Cond.instanceMethod ({ cls := "CuttingRoomModel", name := "setMark", desc := "(IIII)I" } : Jvm.MethodName)) ∈ lw_all := lw_g (lw_at lw_m7 85 rfl) rfl
theorem q1591 : (Jvm.Cond.selects "CuttingRoomModel" ({ cls := "CuttingRoomModel", name := "setMark", desc := "(IIII)I" } : Jvm.MethodName) ({ cls := "CuttingRoomModel", name := "setMark", desc := "(IIII)I" } : Jvm.MethodName)) ∈ lw_all := lw_g (lw_at lw_m7 86 rfl) rfl
theorem q1592 : (Jvm.Cond.code ({ cls := "CuttingRoomModel", name := "setMark", desc := "(IIII)I" } : Jvm.MethodName) prog_18_method_17_code (7 : Nat) (Option.some Jvm.ClassFile.FieldType.int)) ∈ lw_all := lw_g (lw_at lw_m7 87 rfl) rfl
theorem q1594 : (Jvm.Cond.instanceMethod ({ cls := "CuttingRoomModel", name := "cellsOf", desc := "(I)I" } : Jvm.MethodName)) ∈ lw_all := lw_g (lw_at lw_m7 89 rfl) rfl
theorem q1595 : (Jvm.Cond.selects "CuttingRoomModel" ({ cls := "CuttingRoomModel", name := "cellsOf", desc := "(I)I" } : Jvm.MethodName) ({ cls := "CuttingRoomModel", name := "cellsOf", desc := "(I)I" } : Jvm.MethodName)) ∈ lw_all := lw_g (lw_at lw_m7 90 rfl) rfl
theorem q1596 : (Jvm.Cond.code ({ cls := "CuttingRoomModel", name := "cellsOf", desc := "(I)I" } : Jvm.MethodName) prog_18_method_18_code (2 : Nat) (Option.some Jvm.ClassFile.FieldType.int)) ∈ lw_all := lw_g (lw_at lw_m7 91 rfl) rfl
theorem q1598 : (Jvm.Cond.instanceMethod ({ cls := "CuttingRoomModel", name := "lay", desc := "(IIIIZ)I" } : Jvm.MethodName)) ∈ lw_all := lw_g (lw_at lw_m7 93 rfl) rfl
theorem q1599 : (Jvm.Cond.selects "CuttingRoomModel" ({ cls := "CuttingRoomModel", name := "lay", desc := "(IIIIZ)I" } : Jvm.MethodName) ({ cls := "CuttingRoomModel", name := "lay", desc := "(IIIIZ)I" } : Jvm.MethodName)) ∈ lw_all := lw_g (lw_at lw_m7 94 rfl) rfl
theorem q1600 : (Jvm.Cond.code ({ cls := "CuttingRoomModel", name := "lay", desc := "(IIIIZ)I" } : Jvm.MethodName) prog_18_method_29_code (6 : Nat) (Option.some Jvm.ClassFile.FieldType.int)) ∈ lw_all := lw_g (lw_at lw_m7 95 rfl) rfl
theorem q1601 : (Jvm.Cond.methodLink "CuttingRoomModel" (190 : Nat) ({ cls := "CuttingRoomModel", name := "reasonFor", desc := "(IIIIZ)C" } : Jvm.MethodName)) ∈ lw_all := lw_g (lw_at lw_m7 96 rfl) rfl
theorem q1602 : (Jvm.Cond.privateMethod ({ cls := "CuttingRoomModel", name := "reasonFor", desc := "(IIIIZ)C" } : Jvm.MethodName)) ∈ lw_tbl := lw_at lw_m7 97 rfl
theorem q1603 : (Jvm.Cond.instanceMethod ({ cls := "CuttingRoomModel", name := "reasonFor", desc := "(IIIIZ)C" } : Jvm.MethodName)) ∈ lw_all := lw_g (lw_at lw_m7 98 rfl) rfl
theorem q1604 : (Jvm.Cond.code ({ cls := "CuttingRoomModel", name := "reasonFor", desc := "(IIIIZ)C" } : Jvm.MethodName) prog_18_method_26_code (8 : Nat) (Option.some Jvm.ClassFile.FieldType.char)) ∈ lw_all := lw_g (lw_at lw_m7 99 rfl) rfl
theorem q1605 : (Jvm.Cond.methodLink "CuttingRoomModel" (172 : Nat) ({ cls := "CuttingRoomModel", name := "mayTurn", desc := "(II)Z" } : Jvm.MethodName)) ∈ lw_all := lw_g (lw_at lw_m7 100 rfl) rfl
theorem q1606 : (Jvm.Cond.privateMethod ({ cls := "CuttingRoomModel", name := "mayTurn", desc := "(II)Z" } : Jvm.MethodName)) ∈ lw_tbl := lw_at lw_m7 101 rfl
theorem q1607 : (Jvm.Cond.instanceMethod ({ cls := "CuttingRoomModel", name := "mayTurn", desc := "(II)Z" } : Jvm.MethodName)) ∈ lw_all := lw_g (lw_at lw_m7 102 rfl) rfl
theorem q1608 : (Jvm.Cond.code ({ cls := "CuttingRoomModel", name := "mayTurn", desc := "(II)Z" } : Jvm.MethodName) prog_18_method_22_code (3 : Nat) (Option.some Jvm.ClassFile.FieldType.boolean)) ∈ lw_all := lw_g (lw_at lw_m7 103 rfl) rfl
theorem q1609 : (Jvm.Cond.methodLink "CuttingRoomModel" (175 : Nat) ({ cls := "CuttingRoomModel", name := "turns", desc := "(IIZ)V" } : Jvm.MethodName)) ∈ lw_all := lw_g (lw_at lw_m7 104 rfl) rfl
theorem q1610 : (Jvm.Cond.privateMethod ({ cls := "CuttingRoomModel", name := "turns", desc := "(IIZ)V" } : Jvm.MethodName)) ∈ lw_tbl := lw_at lw_m7 105 rfl
theorem q1611 : (Jvm.Cond.instanceMethod ({ cls := "CuttingRoomModel", name := "turns", desc := "(IIZ)V" } : Jvm.MethodName)) ∈ lw_all := lw_g (lw_at lw_m7 106 rfl) rfl
theorem q1612 : (Jvm.Cond.code ({ cls := "CuttingRoomModel", name := "turns", desc := "(IIZ)V" } : Jvm.MethodName) prog_18_method_21_code (8 : Nat) (Option.none : Option Jvm.ClassFile.FieldType)) ∈ lw_all := lw_g (lw_at lw_m7 107 rfl) rfl
theorem q1613 : (Jvm.Cond.methodLink "CuttingRoomModel" (155 : Nat) ({ cls := "CuttingRoomModel", name := "turnedRow", desc := "(III)I" } : Jvm.MethodName)) ∈ lw_all := lw_g (lw_at lw_m7 108 rfl) rfl
theorem q1614 : (Jvm.Cond.static ({ cls := "CuttingRoomModel", name := "turnedRow", desc := "(III)I" } : Jvm.MethodName)) ∈ lw_all := lw_g (lw_at lw_m7 109 rfl) rfl
theorem q1615 : (Jvm.Cond.code ({ cls := "CuttingRoomModel", name := "turnedRow", desc := "(III)I" } : Jvm.MethodName) prog_18_method_19_code (3 : Nat) (Option.some Jvm.ClassFile.FieldType.int)) ∈ lw_all := lw_g (lw_at lw_m7 110 rfl) rfl
theorem q1616 : (Jvm.Cond.methodLink "CuttingRoomModel" (159 : Nat) ({ cls := "CuttingRoomModel", name := "turnedColumn", desc := "(III)I" } : Jvm.MethodName)) ∈ lw_all := lw_g (lw_at lw_m7 111 rfl) rfl
theorem q1617 : (Jvm.Cond.static ({ cls := "CuttingRoomModel", name := "turnedColumn", desc := "(III)I" } : Jvm.MethodName)) ∈ lw_all := lw_g (lw_at lw_m7 112 rfl) rfl
theorem q1618 : (Jvm.Cond.code ({ cls := "CuttingRoomModel", name := "turnedColumn", desc := "(III)I" } : Jvm.MethodName) prog_18_method_20_code (3 : Nat) (Option.some Jvm.ClassFile.FieldType.int)) ∈ lw_all := lw_g (lw_at lw_m7 113 rfl) rfl
theorem q1619 : (Jvm.Cond.methodLink "CuttingRoomModel" (179 : Nat) ({ cls := "CuttingRoomModel", name := "worst", desc := "(II)I" } : Jvm.MethodName)) ∈ lw_all := lw_g (lw_at lw_m7 114 rfl) rfl
theorem q1620 : (Jvm.Cond.privateMethod ({ cls := "CuttingRoomModel", name := "worst", desc := "(II)I" } : Jvm.MethodName)) ∈ lw_tbl := lw_at lw_m7 115 rfl
theorem q1621 : (Jvm.Cond.instanceMethod ({ cls := "CuttingRoomModel", name := "worst", desc := "(II)I" } : Jvm.MethodName)) ∈ lw_all := lw_g (lw_at lw_m7 116 rfl) rfl
theorem q1622 : (Jvm.Cond.code ({ cls := "CuttingRoomModel", name := "worst", desc := "(II)I" } : Jvm.MethodName) prog_18_method_25_code (8 : Nat) (Option.some Jvm.ClassFile.FieldType.int)) ∈ lw_all := lw_g (lw_at lw_m7 117 rfl) rfl
theorem q1623 : (Jvm.Cond.methodLink "CuttingRoomModel" (165 : Nat) ({ cls := "CuttingRoomModel", name := "columns", desc := "()I" } : Jvm.MethodName)) ∈ lw_all := lw_g (lw_at lw_m7 118 rfl) rfl
theorem q1624 : (Jvm.Cond.privateMethod ({ cls := "CuttingRoomModel", name := "columns", desc := "()I" } : Jvm.MethodName)) ∈ lw_tbl := lw_at lw_m7 119 rfl
theorem q1625 : (Jvm.Cond.instanceMethod ({ cls := "CuttingRoomModel", name := "columns", desc := "()I" } : Jvm.MethodName)) ∈ lw_all := lw_g (lw_at lw_m7 120 rfl) rfl
theorem q1626 : (Jvm.Cond.code ({ cls := "CuttingRoomModel", name := "columns", desc := "()I" } : Jvm.MethodName) prog_18_method_6_code (1 : Nat) (Option.some Jvm.ClassFile.FieldType.int)) ∈ lw_all := lw_g (lw_at lw_m7 121 rfl) rfl
theorem q1627 : (Jvm.Cond.methodLink "CuttingRoomModel" (169 : Nat) ({ cls := "CuttingRoomModel", name := "isBad", desc := "(II)Z" } : Jvm.MethodName)) ∈ lw_all := lw_g (lw_at lw_m7 122 rfl) rfl
theorem q1628 : (Jvm.Cond.privateMethod ({ cls := "CuttingRoomModel", name := "isBad", desc := "(II)Z" } : Jvm.MethodName)) ∈ lw_tbl := lw_at lw_m7 123 rfl
theorem q1629 : (Jvm.Cond.instanceMethod ({ cls := "CuttingRoomModel", name := "isBad", desc := "(II)Z" } : Jvm.MethodName)) ∈ lw_all := lw_g (lw_at lw_m7 124 rfl) rfl
theorem q1630 : (Jvm.Cond.code ({ cls := "CuttingRoomModel", name := "isBad", desc := "(II)Z" } : Jvm.MethodName) prog_18_method_7_code (3 : Nat) (Option.some Jvm.ClassFile.FieldType.boolean)) ∈ lw_all := lw_g (lw_at lw_m7 125 rfl) rfl
theorem q1631 : (Jvm.Cond.methodLink "CuttingRoomModel" (183 : Nat) ({ cls := "CuttingRoomModel", name := "isMarked", desc := "(I)Z" } : Jvm.MethodName)) ∈ lw_all := lw_g (lw_at lw_m7 126 rfl) rfl
theorem q1632 : (Jvm.Cond.privateMethod ({ cls := "CuttingRoomModel", name := "isMarked", desc := "(I)Z" } : Jvm.MethodName)) ∈ lw_tbl := lw_at lw_m7 127 rfl
theorem q1633 : (Jvm.Cond.instanceMethod ({ cls := "CuttingRoomModel", name := "isMarked", desc := "(I)Z" } : Jvm.MethodName)) ∈ lw_all := lw_g (lw_at lw_m7 128 rfl) rfl
theorem q1634 : (Jvm.Cond.code ({ cls := "CuttingRoomModel", name := "isMarked", desc := "(I)Z" } : Jvm.MethodName) prog_18_method_23_code (2 : Nat) (Option.some Jvm.ClassFile.FieldType.boolean)) ∈ lw_all := lw_g (lw_at lw_m7 129 rfl) rfl
theorem q1635 : (Jvm.Cond.methodLink "CuttingRoomModel" (186 : Nat) ({ cls := "CuttingRoomModel", name := "remainder", desc := "(I)I" } : Jvm.MethodName)) ∈ lw_all := lw_g (lw_at lw_m7 130 rfl) rfl
theorem q1636 : (Jvm.Cond.privateMethod ({ cls := "CuttingRoomModel", name := "remainder", desc := "(I)I" } : Jvm.MethodName)) ∈ lw_tbl := lw_at lw_m7 131 rfl
theorem q1637 : (Jvm.Cond.instanceMethod ({ cls := "CuttingRoomModel", name := "remainder", desc := "(I)I" } : Jvm.MethodName)) ∈ lw_all := lw_g (lw_at lw_m7 132 rfl) rfl
theorem q1638 : (Jvm.Cond.code ({ cls := "CuttingRoomModel", name := "remainder", desc := "(I)I" } : Jvm.MethodName) prog_18_method_24_code (3 : Nat) (Option.some Jvm.ClassFile.FieldType.int)) ∈ lw_all := lw_g (lw_at lw_m7 133 rfl) rfl
theorem q1639 : (Jvm.Cond.methodLink "CuttingRoomModel" (194 : Nat) ({ cls := "CuttingRoomModel", name := "puts", desc := "(IIIIZ)I" } : Jvm.MethodName)) ∈ lw_all := lw_g (lw_at lw_m7 134 rfl) rfl
theorem q1640 : (Jvm.Cond.privateMethod ({ cls := "CuttingRoomModel", name := "puts", desc := "(IIIIZ)I" } : Jvm.MethodName)) ∈ lw_tbl := lw_at lw_m7 135 rfl
theorem q1641 : (Jvm.Cond.instanceMethod ({ cls := "CuttingRoomModel", name := "puts", desc := "(IIIIZ)I" } : Jvm.MethodName)) ∈ lw_all := lw_g (lw_at lw_m7 136 rfl) rfl
theorem q1642 : (Jvm.Cond.code ({ cls := "CuttingRoomModel", name := "puts", desc := "(IIIIZ)I" } : Jvm.MethodName) prog_18_method_27_code (7 : Nat) (Option.some Jvm.ClassFile.FieldType.int)) ∈ lw_all := lw_g (lw_at lw_m7 137 rfl) rfl
theorem q1644 : (Jvm.Cond.instanceMethod ({ cls := "CuttingRoomModel", name := "reason", desc := "(IIIIZ)C" } : Jvm.MethodName)) ∈ lw_all := lw_g (lw_at lw_m7 139 rfl) rfl
theorem q1645 : (Jvm.Cond.selects "CuttingRoomModel" ({ cls := "CuttingRoomModel", name := "reason", desc := "(IIIIZ)C" } : Jvm.MethodName) ({ cls := "CuttingRoomModel", name := "reason", desc := "(IIIIZ)C" } : Jvm.MethodName)) ∈ lw_all := lw_g (lw_at lw_m7 140 rfl) rfl
theorem q1646 : (Jvm.Cond.code ({ cls := "CuttingRoomModel", name := "reason", desc := "(IIIIZ)C" } : Jvm.MethodName) prog_18_method_30_code (6 : Nat) (Option.some Jvm.ClassFile.FieldType.char)) ∈ lw_all := lw_g (lw_at lw_m7 141 rfl) rfl
theorem q1648 : (Jvm.Cond.instanceMethod ({ cls := "CuttingRoomModel", name := "nest", desc := "(IZ)I" } : Jvm.MethodName)) ∈ lw_all := lw_g (lw_at lw_m7 143 rfl) rfl
theorem q1649 : (Jvm.Cond.selects "CuttingRoomModel" ({ cls := "CuttingRoomModel", name := "nest", desc := "(IZ)I" } : Jvm.MethodName) ({ cls := "CuttingRoomModel", name := "nest", desc := "(IZ)I" } : Jvm.MethodName)) ∈ lw_all := lw_g (lw_at lw_m7 144 rfl) rfl
theorem q1650 : (Jvm.Cond.code ({ cls := "CuttingRoomModel", name := "nest", desc := "(IZ)I" } : Jvm.MethodName) prog_18_method_32_code (3 : Nat) (Option.some Jvm.ClassFile.FieldType.int)) ∈ lw_all := lw_g (lw_at lw_m7 145 rfl) rfl
theorem q1651 : (Jvm.Cond.methodLink "CuttingRoomModel" (207 : Nat) ({ cls := "CuttingRoomModel", name := "isNested", desc := "(IZ)Z" } : Jvm.MethodName)) ∈ lw_all := lw_g (lw_at lw_m7 146 rfl) rfl
theorem q1652 : (Jvm.Cond.privateMethod ({ cls := "CuttingRoomModel", name := "isNested", desc := "(IZ)Z" } : Jvm.MethodName)) ∈ lw_tbl := lw_at lw_m7 147 rfl
theorem q1653 : (Jvm.Cond.instanceMethod ({ cls := "CuttingRoomModel", name := "isNested", desc := "(IZ)Z" } : Jvm.MethodName)) ∈ lw_all := lw_g (lw_at lw_m7 148 rfl) rfl
theorem q1654 : (Jvm.Cond.code ({ cls := "CuttingRoomModel", name := "isNested", desc := "(IZ)Z" } : Jvm.MethodName) prog_18_method_31_code (4 : Nat) (Option.some Jvm.ClassFile.FieldType.boolean)) ∈ lw_all := lw_g (lw_at lw_m7 149 rfl) rfl
theorem q1656 : (Jvm.Cond.instanceMethod ({ cls := "CuttingRoomModel", name := "takeOff", desc := "(I)I" } : Jvm.MethodName)) ∈ lw_all := lw_g (lw_at lw_m7 151 rfl) rfl
theorem q1657 : (Jvm.Cond.selects "CuttingRoomModel" ({ cls := "CuttingRoomModel", name := "takeOff", desc := "(I)I" } : Jvm.MethodName) ({ cls := "CuttingRoomModel", name := "takeOff", desc := "(I)I" } : Jvm.MethodName)) ∈ lw_all := lw_g (lw_at lw_m7 152 rfl) rfl
theorem q1658 : (Jvm.Cond.code ({ cls := "CuttingRoomModel", name := "takeOff", desc := "(I)I" } : Jvm.MethodName) prog_18_method_35_code (2 : Nat) (Option.some Jvm.ClassFile.FieldType.int)) ∈ lw_all := lw_g (lw_at lw_m7 153 rfl) rfl
theorem q1659 : (Jvm.Cond.methodLink "CuttingRoomModel" (211 : Nat) ({ cls := "CuttingRoomModel", name := "placeOf", desc := "(I)I" } : Jvm.MethodName)) ∈ lw_all := lw_g (lw_at lw_m7 154 rfl) rfl
theorem q1660 : (Jvm.Cond.privateMethod ({ cls := "CuttingRoomModel", name := "placeOf", desc := "(I)I" } : Jvm.MethodName)) ∈ lw_tbl := lw_at lw_m7 155 rfl
theorem q1661 : (Jvm.Cond.instanceMethod ({ cls := "CuttingRoomModel", name := "placeOf", desc := "(I)I" } : Jvm.MethodName)) ∈ lw_all := lw_g (lw_at lw_m7 156 rfl) rfl
theorem q1662 : (Jvm.Cond.code ({ cls := "CuttingRoomModel", name := "placeOf", desc := "(I)I" } : Jvm.MethodName) prog_18_method_33_code (4 : Nat) (Option.some Jvm.ClassFile.FieldType.int)) ∈ lw_all := lw_g (lw_at lw_m7 157 rfl) rfl
theorem q1663 : (Jvm.Cond.methodLink "CuttingRoomModel" (214 : Nat) ({ cls := "CuttingRoomModel", name := "takes", desc := "(I)V" } : Jvm.MethodName)) ∈ lw_all := lw_g (lw_at lw_m7 158 rfl) rfl
theorem q1664 : (Jvm.Cond.privateMethod ({ cls := "CuttingRoomModel", name := "takes", desc := "(I)V" } : Jvm.MethodName)) ∈ lw_tbl := lw_at lw_m7 159 rfl
theorem q1665 : (Jvm.Cond.instanceMethod ({ cls := "CuttingRoomModel", name := "takes", desc := "(I)V" } : Jvm.MethodName)) ∈ lw_all := lw_g (lw_at lw_m7 160 rfl) rfl
theorem q1666 : (Jvm.Cond.code ({ cls := "CuttingRoomModel", name := "takes", desc := "(I)V" } : Jvm.MethodName) prog_18_method_28_code (4 : Nat) (Option.none : Option Jvm.ClassFile.FieldType)) ∈ lw_all := lw_g (lw_at lw_m7 161 rfl) rfl
theorem q1667 : (Jvm.Cond.methodLink "CuttingRoomModel" (218 : Nat) ({ cls := "CuttingRoomModel", name := "longest", desc := "()I" } : Jvm.MethodName)) ∈ lw_all := lw_g (lw_at lw_m7 162 rfl) rfl
theorem q1668 : (Jvm.Cond.privateMethod ({ cls := "CuttingRoomModel", name := "longest", desc := "()I" } : Jvm.MethodName)) ∈ lw_tbl := lw_at lw_m7 163 rfl
theorem q1669 : (Jvm.Cond.instanceMethod ({ cls := "CuttingRoomModel", name := "longest", desc := "()I" } : Jvm.MethodName)) ∈ lw_all := lw_g (lw_at lw_m7 164 rfl) rfl
theorem q1670 : (Jvm.Cond.code ({ cls := "CuttingRoomModel", name := "longest", desc := "()I" } : Jvm.MethodName) prog_18_method_34_code (3 : Nat) (Option.some Jvm.ClassFile.FieldType.int)) ∈ lw_all := lw_g (lw_at lw_m7 165 rfl) rfl
theorem q1672 : (Jvm.Cond.instanceMethod ({ cls := "CuttingRoomModel", name := "clear", desc := "()I" } : Jvm.MethodName)) ∈ lw_all := lw_g (lw_at lw_m7 167 rfl) rfl
theorem q1673 : (Jvm.Cond.selects "CuttingRoomModel" ({ cls := "CuttingRoomModel", name := "clear", desc := "()I" } : Jvm.MethodName) ({ cls := "CuttingRoomModel", name := "clear", desc := "()I" } : Jvm.MethodName)) ∈ lw_all := lw_g (lw_at lw_m7 168 rfl) rfl
theorem q1674 : (Jvm.Cond.code ({ cls := "CuttingRoomModel", name := "clear", desc := "()I" } : Jvm.MethodName) prog_18_method_36_code (2 : Nat) (Option.some Jvm.ClassFile.FieldType.int)) ∈ lw_all := lw_g (lw_at lw_m7 169 rfl) rfl
theorem q1676 : (Jvm.Cond.instanceMethod ({ cls := "CuttingRoomModel", name := "inMarker", desc := "()I" } : Jvm.MethodName)) ∈ lw_all := lw_g (lw_at lw_m7 171 rfl) rfl
theorem q1677 : (Jvm.Cond.selects "CuttingRoomModel" ({ cls := "CuttingRoomModel", name := "inMarker", desc := "()I" } : Jvm.MethodName) ({ cls := "CuttingRoomModel", name := "inMarker", desc := "()I" } : Jvm.MethodName)) ∈ lw_all := lw_g (lw_at lw_m7 172 rfl) rfl
theorem q1678 : (Jvm.Cond.code ({ cls := "CuttingRoomModel", name := "inMarker", desc := "()I" } : Jvm.MethodName) prog_18_method_37_code (1 : Nat) (Option.some Jvm.ClassFile.FieldType.int)) ∈ lw_all := lw_g (lw_at lw_m7 173 rfl) rfl
theorem q1680 : (Jvm.Cond.instanceMethod ({ cls := "CuttingRoomModel", name := "rowOf", desc := "(I)I" } : Jvm.MethodName)) ∈ lw_all := lw_g (lw_at lw_m7 175 rfl) rfl
theorem q1681 : (Jvm.Cond.selects "CuttingRoomModel" ({ cls := "CuttingRoomModel", name := "rowOf", desc := "(I)I" } : Jvm.MethodName) ({ cls := "CuttingRoomModel", name := "rowOf", desc := "(I)I" } : Jvm.MethodName)) ∈ lw_all := lw_g (lw_at lw_m7 176 rfl) rfl
theorem q1682 : (Jvm.Cond.code ({ cls := "CuttingRoomModel", name := "rowOf", desc := "(I)I" } : Jvm.MethodName) prog_18_method_38_code (2 : Nat) (Option.some Jvm.ClassFile.FieldType.int)) ∈ lw_all := lw_g (lw_at lw_m7 177 rfl) rfl
theorem q1684 : (Jvm.Cond.instanceMethod ({ cls := "CuttingRoomModel", name := "columnOf", desc := "(I)I" } : Jvm.MethodName)) ∈ lw_all := lw_g (lw_at lw_m7 179 rfl) rfl
theorem q1685 : (Jvm.Cond.selects "CuttingRoomModel" ({ cls := "CuttingRoomModel", name := "columnOf", desc := "(I)I" } : Jvm.MethodName) ({ cls := "CuttingRoomModel", name := "columnOf", desc := "(I)I" } : Jvm.MethodName)) ∈ lw_all := lw_g (lw_at lw_m7 180 rfl) rfl
theorem q1686 : (Jvm.Cond.code ({ cls := "CuttingRoomModel", name := "columnOf", desc := "(I)I" } : Jvm.MethodName) prog_18_method_39_code (2 : Nat) (Option.some Jvm.ClassFile.FieldType.int)) ∈ lw_all := lw_g (lw_at lw_m7 181 rfl) rfl
theorem q1688 : (Jvm.Cond.instanceMethod ({ cls := "CuttingRoomModel", name := "turnsOf", desc := "(I)I" } : Jvm.MethodName)) ∈ lw_all := lw_g (lw_at lw_m7 183 rfl) rfl
theorem q1689 : (Jvm.Cond.selects "CuttingRoomModel" ({ cls := "CuttingRoomModel", name := "turnsOf", desc := "(I)I" } : Jvm.MethodName) ({ cls := "CuttingRoomModel", name := "turnsOf", desc := "(I)I" } : Jvm.MethodName)) ∈ lw_all := lw_g (lw_at lw_m7 184 rfl) rfl
theorem q1690 : (Jvm.Cond.code ({ cls := "CuttingRoomModel", name := "turnsOf", desc := "(I)I" } : Jvm.MethodName) prog_18_method_40_code (2 : Nat) (Option.some Jvm.ClassFile.FieldType.int)) ∈ lw_all := lw_g (lw_at lw_m7 185 rfl) rfl
theorem q1692 : (Jvm.Cond.instanceMethod ({ cls := "CuttingRoomModel", name := "pieceAt", desc := "(II)I" } : Jvm.MethodName)) ∈ lw_all := lw_g (lw_at lw_m7 187 rfl) rfl
theorem q1693 : (Jvm.Cond.selects "CuttingRoomModel" ({ cls := "CuttingRoomModel", name := "pieceAt", desc := "(II)I" } : Jvm.MethodName) ({ cls := "CuttingRoomModel", name := "pieceAt", desc := "(II)I" } : Jvm.MethodName)) ∈ lw_all := lw_g (lw_at lw_m7 188 rfl) rfl
theorem q1694 : (Jvm.Cond.code ({ cls := "CuttingRoomModel", name := "pieceAt", desc := "(II)I" } : Jvm.MethodName) prog_18_method_41_code (4 : Nat) (Option.some Jvm.ClassFile.FieldType.int)) ∈ lw_all := lw_g (lw_at lw_m7 189 rfl) rfl
theorem q1696 : (Jvm.Cond.instanceMethod ({ cls := "CuttingRoomModel", name := "pieceByPieces", desc := "(II)I" } : Jvm.MethodName)) ∈ lw_all := lw_g (lw_at lw_m7 191 rfl) rfl
theorem q1697 : (Jvm.Cond.selects "CuttingRoomModel" ({ cls := "CuttingRoomModel", name := "pieceByPieces", desc := "(II)I" } : Jvm.MethodName) ({ cls := "CuttingRoomModel", name := "pieceByPieces", desc := "(II)I" } : Jvm.MethodName)) ∈ lw_all := lw_g (lw_at lw_m7 192 rfl) rfl
theorem q1698 : (Jvm.Cond.code ({ cls := "CuttingRoomModel", name := "pieceByPieces", desc := "(II)I" } : Jvm.MethodName) prog_18_method_42_code (3 : Nat) (Option.some Jvm.ClassFile.FieldType.int)) ∈ lw_all := lw_g (lw_at lw_m7 193 rfl) rfl
theorem q1699 : (Jvm.Cond.methodLink "CuttingRoomModel" (221 : Nat) ({ cls := "CuttingRoomModel", name := "pieceAt", desc := "(II)I" } : Jvm.MethodName)) ∈ lw_all := lw_g (lw_at lw_m7 194 rfl) rfl
theorem q1701 : (Jvm.Cond.instanceMethod ({ cls := "CuttingRoomModel", name := "length", desc := "()I" } : Jvm.MethodName)) ∈ lw_all := lw_g (lw_at lw_m7 196 rfl) rfl
theorem q1702 : (Jvm.Cond.selects "CuttingRoomModel" ({ cls := "CuttingRoomModel", name := "length", desc := "()I" } : Jvm.MethodName) ({ cls := "CuttingRoomModel", name := "length", desc := "()I" } : Jvm.MethodName)) ∈ lw_all := lw_g (lw_at lw_m7 197 rfl) rfl
theorem q1703 : (Jvm.Cond.code ({ cls := "CuttingRoomModel", name := "length", desc := "()I" } : Jvm.MethodName) prog_18_method_43_code (1 : Nat) (Option.some Jvm.ClassFile.FieldType.int)) ∈ lw_all := lw_g (lw_at lw_m7 198 rfl) rfl
theorem q1705 : (Jvm.Cond.instanceMethod ({ cls := "CuttingRoomModel", name := "used", desc := "()I" } : Jvm.MethodName)) ∈ lw_all := lw_g (lw_at lw_m7 200 rfl) rfl
theorem q1706 : (Jvm.Cond.selects "CuttingRoomModel" ({ cls := "CuttingRoomModel", name := "used", desc := "()I" } : Jvm.MethodName) ({ cls := "CuttingRoomModel", name := "used", desc := "()I" } : Jvm.MethodName)) ∈ lw_all := lw_g (lw_at lw_m7 201 rfl) rfl
theorem q1707 : (Jvm.Cond.code ({ cls := "CuttingRoomModel", name := "used", desc := "()I" } : Jvm.MethodName) prog_18_method_45_code (1 : Nat) (Option.some Jvm.ClassFile.FieldType.int)) ∈ lw_all := lw_g (lw_at lw_m7 202 rfl) rfl
theorem q1708 : (Jvm.Cond.methodLink "CuttingRoomModel" (224 : Nat) ({ cls := "CuttingRoomModel", name := "cellsUsed", desc := "()I" } : Jvm.MethodName)) ∈ lw_all := lw_g (lw_at lw_m7 203 rfl) rfl
theorem q1709 : (Jvm.Cond.privateMethod ({ cls := "CuttingRoomModel", name := "cellsUsed", desc := "()I" } : Jvm.MethodName)) ∈ lw_tbl := lw_at lw_m7 204 rfl
theorem q1710 : (Jvm.Cond.instanceMethod ({ cls := "CuttingRoomModel", name := "cellsUsed", desc := "()I" } : Jvm.MethodName)) ∈ lw_all := lw_g (lw_at lw_m7 205 rfl) rfl
theorem q1711 : (Jvm.Cond.code ({ cls := "CuttingRoomModel", name := "cellsUsed", desc := "()I" } : Jvm.MethodName) prog_18_method_44_code (3 : Nat) (Option.some Jvm.ClassFile.FieldType.int)) ∈ lw_all := lw_g (lw_at lw_m7 206 rfl) rfl
theorem q1713 : (Jvm.Cond.instanceMethod ({ cls := "CuttingRoomModel", name := "phase", desc := "(I)I" } : Jvm.MethodName)) ∈ lw_all := lw_g (lw_at lw_m7 208 rfl) rfl
theorem q1714 : (Jvm.Cond.selects "CuttingRoomModel" ({ cls := "CuttingRoomModel", name := "phase", desc := "(I)I" } : Jvm.MethodName) ({ cls := "CuttingRoomModel", name := "phase", desc := "(I)I" } : Jvm.MethodName)) ∈ lw_all := lw_g (lw_at lw_m7 209 rfl) rfl
theorem q1715 : (Jvm.Cond.code ({ cls := "CuttingRoomModel", name := "phase", desc := "(I)I" } : Jvm.MethodName) prog_18_method_46_code (2 : Nat) (Option.some Jvm.ClassFile.FieldType.int)) ∈ lw_all := lw_g (lw_at lw_m7 210 rfl) rfl
theorem q1717 : (Jvm.Cond.instanceMethod ({ cls := "CuttingRoomModel", name := "addStyle", desc := "()I" } : Jvm.MethodName)) ∈ lw_all := lw_g (lw_at lw_m7 212 rfl) rfl
theorem q1718 : (Jvm.Cond.selects "CuttingRoomModel" ({ cls := "CuttingRoomModel", name := "addStyle", desc := "()I" } : Jvm.MethodName) ({ cls := "CuttingRoomModel", name := "addStyle", desc := "()I" } : Jvm.MethodName)) ∈ lw_all := lw_g (lw_at lw_m7 213 rfl) rfl
theorem q1719 : (Jvm.Cond.code ({ cls := "CuttingRoomModel", name := "addStyle", desc := "()I" } : Jvm.MethodName) prog_18_method_48_code (1 : Nat) (Option.some Jvm.ClassFile.FieldType.int)) ∈ lw_all := lw_g (lw_at lw_m7 214 rfl) rfl
theorem q1721 : (Jvm.Cond.instanceMethod ({ cls := "CuttingRoomModel", name := "addPart", desc := "(III)I" } : Jvm.MethodName)) ∈ lw_all := lw_g (lw_at lw_m7 216 rfl) rfl
theorem q1722 : (Jvm.Cond.selects "CuttingRoomModel" ({ cls := "CuttingRoomModel", name := "addPart", desc := "(III)I" } : Jvm.MethodName) ({ cls := "CuttingRoomModel", name := "addPart", desc := "(III)I" } : Jvm.MethodName)) ∈ lw_all := lw_g (lw_at lw_m7 217 rfl) rfl
theorem q1723 : (Jvm.Cond.code ({ cls := "CuttingRoomModel", name := "addPart", desc := "(III)I" } : Jvm.MethodName) prog_18_method_50_code (5 : Nat) (Option.some Jvm.ClassFile.FieldType.int)) ∈ lw_all := lw_g (lw_at lw_m7 218 rfl) rfl
theorem q1724 : (Jvm.Cond.methodLink "CuttingRoomModel" (230 : Nat) ({ cls := "CuttingRoomModel", name := "isStyle", desc := "(I)Z" } : Jvm.MethodName)) ∈ lw_all := lw_g (lw_at lw_m7 219 rfl) rfl
theorem q1725 : (Jvm.Cond.privateMethod ({ cls := "CuttingRoomModel", name := "isStyle", desc := "(I)Z" } : Jvm.MethodName)) ∈ lw_tbl := lw_at lw_m7 220 rfl
theorem q1726 : (Jvm.Cond.instanceMethod ({ cls := "CuttingRoomModel", name := "isStyle", desc := "(I)Z" } : Jvm.MethodName)) ∈ lw_all := lw_g (lw_at lw_m7 221 rfl) rfl
theorem q1727 : (Jvm.Cond.code ({ cls := "CuttingRoomModel", name := "isStyle", desc := "(I)Z" } : Jvm.MethodName) prog_18_method_47_code (2 : Nat) (Option.some Jvm.ClassFile.FieldType.boolean)) ∈ lw_all := lw_g (lw_at lw_m7 222 rfl) rfl
theorem q1728 : (Jvm.Cond.methodLink "CuttingRoomModel" (233 : Nat) ({ cls := "CuttingRoomModel", name := "takenBy", desc := "(I)I" } : Jvm.MethodName)) ∈ lw_all := lw_g (lw_at lw_m7 223 rfl) rfl
theorem q1729 : (Jvm.Cond.privateMethod ({ cls := "CuttingRoomModel", name := "takenBy", desc := "(I)I" } : Jvm.MethodName)) ∈ lw_tbl := lw_at lw_m7 224 rfl
theorem q1730 : (Jvm.Cond.instanceMethod ({ cls := "CuttingRoomModel", name := "takenBy", desc := "(I)I" } : Jvm.MethodName)) ∈ lw_all := lw_g (lw_at lw_m7 225 rfl) rfl
theorem q1731 : (Jvm.Cond.code ({ cls := "CuttingRoomModel", name := "takenBy", desc := "(I)I" } : Jvm.MethodName) prog_18_method_49_code (4 : Nat) (Option.some Jvm.ClassFile.FieldType.int)) ∈ lw_all := lw_g (lw_at lw_m7 226 rfl) rfl
theorem q1733 : (Jvm.Cond.instanceMethod ({ cls := "CuttingRoomModel", name := "piecesFor", desc := "(I)I" } : Jvm.MethodName)) ∈ lw_all := lw_g (lw_at lw_m7 228 rfl) rfl
theorem q1734 : (Jvm.Cond.selects "CuttingRoomModel" ({ cls := "CuttingRoomModel", name := "piecesFor", desc := "(I)I" } : Jvm.MethodName) ({ cls := "CuttingRoomModel", name := "piecesFor", desc := "(I)I" } : Jvm.MethodName)) ∈ lw_all := lw_g (lw_at lw_m7 229 rfl) rfl
theorem q1735 : (Jvm.Cond.code ({ cls := "CuttingRoomModel", name := "piecesFor", desc := "(I)I" } : Jvm.MethodName) prog_18_method_51_code (2 : Nat) (Option.some Jvm.ClassFile.FieldType.int)) ∈ lw_all := lw_g (lw_at lw_m7 230 rfl) rfl
theorem q1737 : (Jvm.Cond.instanceMethod ({ cls := "CuttingRoomModel", name := "nestedLength", desc := "(I)I" } : Jvm.MethodName)) ∈ lw_all := lw_g (lw_at lw_m7 232 rfl) rfl
theorem q1738 : (Jvm.Cond.selects "CuttingRoomModel" ({ cls := "CuttingRoomModel", name := "nestedLength", desc := "(I)I" } : Jvm.MethodName) ({ cls := "CuttingRoomModel", name := "nestedLength", desc := "(I)I" } : Jvm.MethodName)) ∈ lw_all := lw_g (lw_at lw_m7 233 rfl) rfl
theorem q1739 : (Jvm.Cond.code ({ cls := "CuttingRoomModel", name := "nestedLength", desc := "(I)I" } : Jvm.MethodName) prog_18_method_55_code (3 : Nat) (Option.some Jvm.ClassFile.FieldType.int)) ∈ lw_all := lw_g (lw_at lw_m7 234 rfl) rfl
theorem q1740 : (Jvm.Cond.methodLink "CuttingRoomModel" (245 : Nat) ({ cls := "CuttingRoomModel", name := "queues", desc := "(I)Z" } : Jvm.MethodName)) ∈ lw_all := lw_g (lw_at lw_m7 235 rfl) rfl
theorem q1741 : (Jvm.Cond.privateMethod ({ cls := "CuttingRoomModel", name := "queues", desc := "(I)Z" } : Jvm.MethodName)) ∈ lw_tbl := lw_at lw_m7 236 rfl
theorem q1742 : (Jvm.Cond.instanceMethod ({ cls := "CuttingRoomModel", name := "queues", desc := "(I)Z" } : Jvm.MethodName)) ∈ lw_all := lw_g (lw_at lw_m7 237 rfl) rfl
theorem q1743 : (Jvm.Cond.code ({ cls := "CuttingRoomModel", name := "queues", desc := "(I)Z" } : Jvm.MethodName) prog_18_method_52_code (8 : Nat) (Option.some Jvm.ClassFile.FieldType.boolean)) ∈ lw_all := lw_g (lw_at lw_m7 238 rfl) rfl
theorem q1744 : (Jvm.Cond.methodLink "CuttingRoomModel" (248 : Nat) ({ cls := "CuttingRoomModel", name := "leastLength", desc := "()I" } : Jvm.MethodName)) ∈ lw_all := lw_g (lw_at lw_m7 239 rfl) rfl
theorem q1745 : (Jvm.Cond.privateMethod ({ cls := "CuttingRoomModel", name := "leastLength", desc := "()I" } : Jvm.MethodName)) ∈ lw_tbl := lw_at lw_m8 0 rfl
theorem q1746 : (Jvm.Cond.instanceMethod ({ cls := "CuttingRoomModel", name := "leastLength", desc := "()I" } : Jvm.MethodName)) ∈ lw_all := lw_g (lw_at lw_m8 1 rfl) rfl
theorem q1747 : (Jvm.Cond.code ({ cls := "CuttingRoomModel", name := "leastLength", desc := "()I" } : Jvm.MethodName) prog_18_method_54_code (5 : Nat) (Option.some Jvm.ClassFile.FieldType.int)) ∈ lw_all := lw_g (lw_at lw_m8 2 rfl) rfl
theorem q1748 : (Jvm.Cond.methodLink "CuttingRoomModel" (242 : Nat) ({ cls := "CuttingRoomModel", name := "tries", desc := "(I)V" } : Jvm.MethodName)) ∈ lw_all := lw_g (lw_at lw_m8 3 rfl) rfl
theorem q1749 : (Jvm.Cond.privateMethod ({ cls := "CuttingRoomModel", name := "tries", desc := "(I)V" } : Jvm.MethodName)) ∈ lw_tbl := lw_at lw_m8 4 rfl
theorem q1750 : (Jvm.Cond.instanceMethod ({ cls := "CuttingRoomModel", name := "tries", desc := "(I)V" } : Jvm.MethodName)) ∈ lw_all := lw_g (lw_at lw_m8 5 rfl) rfl
theorem q1751 : (Jvm.Cond.code ({ cls := "CuttingRoomModel", name := "tries", desc := "(I)V" } : Jvm.MethodName) prog_18_method_53_code (4 : Nat) (Option.none : Option Jvm.ClassFile.FieldType)) ∈ lw_all := lw_g (lw_at lw_m8 6 rfl) rfl
theorem q1753 : (Jvm.Cond.instanceMethod ({ cls := "CuttingRoomModel", name := "nestedByTrying", desc := "(I)I" } : Jvm.MethodName)) ∈ lw_all := lw_g (lw_at lw_m8 8 rfl) rfl
theorem q1754 : (Jvm.Cond.selects "CuttingRoomModel" ({ cls := "CuttingRoomModel", name := "nestedByTrying", desc := "(I)I" } : Jvm.MethodName) ({ cls := "CuttingRoomModel", name := "nestedByTrying", desc := "(I)I" } : Jvm.MethodName)) ∈ lw_all := lw_g (lw_at lw_m8 9 rfl) rfl
theorem q1755 : (Jvm.Cond.code ({ cls := "CuttingRoomModel", name := "nestedByTrying", desc := "(I)I" } : Jvm.MethodName) prog_18_method_56_code (2 : Nat) (Option.some Jvm.ClassFile.FieldType.int)) ∈ lw_all := lw_g (lw_at lw_m8 10 rfl) rfl
theorem q1756 : (Jvm.Cond.methodLink "CuttingRoomModel" (251 : Nat) ({ cls := "CuttingRoomModel", name := "nestedLength", desc := "(I)I" } : Jvm.MethodName)) ∈ lw_all := lw_g (lw_at lw_m8 11 rfl) rfl
theorem q1758 : (Jvm.Cond.instanceMethod ({ cls := "CuttingRoomModel", name := "addCloth", desc := "(I)I" } : Jvm.MethodName)) ∈ lw_all := lw_g (lw_at lw_m8 13 rfl) rfl
theorem q1759 : (Jvm.Cond.selects "CuttingRoomModel" ({ cls := "CuttingRoomModel", name := "addCloth", desc := "(I)I" } : Jvm.MethodName) ({ cls := "CuttingRoomModel", name := "addCloth", desc := "(I)I" } : Jvm.MethodName)) ∈ lw_all := lw_g (lw_at lw_m8 14 rfl) rfl
theorem q1760 : (Jvm.Cond.code ({ cls := "CuttingRoomModel", name := "addCloth", desc := "(I)I" } : Jvm.MethodName) prog_18_method_57_code (2 : Nat) (Option.some Jvm.ClassFile.FieldType.int)) ∈ lw_all := lw_g (lw_at lw_m8 15 rfl) rfl
theorem q1761 : (Jvm.Cond.constant "CuttingRoomModel" (257 : Nat) (999999 : Int32)) ∈ lw_all := lw_g (lw_at lw_m8 16 rfl) rfl
theorem q1763 : (Jvm.Cond.instanceMethod ({ cls := "CuttingRoomModel", name := "roll", desc := "()I" } : Jvm.MethodName)) ∈ lw_all := lw_g (lw_at lw_m8 18 rfl) rfl
theorem q1764 : (Jvm.Cond.selects "CuttingRoomModel" ({ cls := "CuttingRoomModel", name := "roll", desc := "()I" } : Jvm.MethodName) ({ cls := "CuttingRoomModel", name := "roll", desc := "()I" } : Jvm.MethodName)) ∈ lw_all := lw_g (lw_at lw_m8 19 rfl) rfl
theorem q1765 : (Jvm.Cond.code ({ cls := "CuttingRoomModel", name := "roll", desc := "()I" } : Jvm.MethodName) prog_18_method_58_code (1 : Nat) (Option.some Jvm.ClassFile.FieldType.int)) ∈ lw_all := lw_g (lw_at lw_m8 20 rfl) rfl
theorem q1767 : (Jvm.Cond.instanceMethod ({ cls := "CuttingRoomModel", name := "spread", desc := "(I)I" } : Jvm.MethodName)) ∈ lw_all := lw_g (lw_at lw_m8 22 rfl) rfl
theorem q1768 : (Jvm.Cond.selects "CuttingRoomModel" ({ cls := "CuttingRoomModel", name := "spread", desc := "(I)I" } : Jvm.MethodName) ({ cls := "CuttingRoomModel", name := "spread", desc := "(I)I" } : Jvm.MethodName)) ∈ lw_all := lw_g (lw_at lw_m8 23 rfl) rfl
theorem q1769 : (Jvm.Cond.code ({ cls := "CuttingRoomModel", name := "spread", desc := "(I)I" } : Jvm.MethodName) prog_18_method_62_code (4 : Nat) (Option.some Jvm.ClassFile.FieldType.int)) ∈ lw_all := lw_g (lw_at lw_m8 24 rfl) rfl
theorem q1770 : (Jvm.Cond.methodLink "CuttingRoomModel" (262 : Nat) ({ cls := "CuttingRoomModel", name := "takenFromRoll", desc := "(I)I" } : Jvm.MethodName)) ∈ lw_all := lw_g (lw_at lw_m8 25 rfl) rfl
theorem q1771 : (Jvm.Cond.privateMethod ({ cls := "CuttingRoomModel", name := "takenFromRoll", desc := "(I)I" } : Jvm.MethodName)) ∈ lw_tbl := lw_at lw_m8 26 rfl
theorem q1772 : (Jvm.Cond.instanceMethod ({ cls := "CuttingRoomModel", name := "takenFromRoll", desc := "(I)I" } : Jvm.MethodName)) ∈ lw_all := lw_g (lw_at lw_m8 27 rfl) rfl
theorem q1773 : (Jvm.Cond.code ({ cls := "CuttingRoomModel", name := "takenFromRoll", desc := "(I)I" } : Jvm.MethodName) prog_18_method_61_code (2 : Nat) (Option.some Jvm.ClassFile.FieldType.int)) ∈ lw_all := lw_g (lw_at lw_m8 28 rfl) rfl
theorem q1774 : (Jvm.Cond.methodLink "CuttingRoomModel" (265 : Nat) ({ cls := "CuttingRoomModel", name := "isMuch", desc := "(I)Z" } : Jvm.MethodName)) ∈ lw_all := lw_g (lw_at lw_m8 29 rfl) rfl
theorem q1775 : (Jvm.Cond.privateMethod ({ cls := "CuttingRoomModel", name := "isMuch", desc := "(I)Z" } : Jvm.MethodName)) ∈ lw_tbl := lw_at lw_m8 30 rfl
theorem q1776 : (Jvm.Cond.instanceMethod ({ cls := "CuttingRoomModel", name := "isMuch", desc := "(I)Z" } : Jvm.MethodName)) ∈ lw_all := lw_g (lw_at lw_m8 31 rfl) rfl
theorem q1777 : (Jvm.Cond.code ({ cls := "CuttingRoomModel", name := "isMuch", desc := "(I)Z" } : Jvm.MethodName) prog_18_method_60_code (4 : Nat) (Option.some Jvm.ClassFile.FieldType.boolean)) ∈ lw_all := lw_g (lw_at lw_m8 32 rfl) rfl
theorem q1778 : (Jvm.Cond.methodLink "CuttingRoomModel" (258 : Nat) ({ cls := "CuttingRoomModel", name := "givenBy", desc := "(IZ)I" } : Jvm.MethodName)) ∈ lw_all := lw_g (lw_at lw_m8 33 rfl) rfl
theorem q1779 : (Jvm.Cond.privateMethod ({ cls := "CuttingRoomModel", name := "givenBy", desc := "(IZ)I" } : Jvm.MethodName)) ∈ lw_tbl := lw_at lw_m8 34 rfl
theorem q1780 : (Jvm.Cond.instanceMethod ({ cls := "CuttingRoomModel", name := "givenBy", desc := "(IZ)I" } : Jvm.MethodName)) ∈ lw_all := lw_g (lw_at lw_m8 35 rfl) rfl
theorem q1781 : (Jvm.Cond.code ({ cls := "CuttingRoomModel", name := "givenBy", desc := "(IZ)I" } : Jvm.MethodName) prog_18_method_59_code (7 : Nat) (Option.some Jvm.ClassFile.FieldType.int)) ∈ lw_all := lw_g (lw_at lw_m8 36 rfl) rfl
theorem q1783 : (Jvm.Cond.instanceMethod ({ cls := "CuttingRoomModel", name := "pieces", desc := "(IZ)I" } : Jvm.MethodName)) ∈ lw_all := lw_g (lw_at lw_m8 38 rfl) rfl
theorem q1784 : (Jvm.Cond.selects "CuttingRoomModel" ({ cls := "CuttingRoomModel", name := "pieces", desc := "(IZ)I" } : Jvm.MethodName) ({ cls := "CuttingRoomModel", name := "pieces", desc := "(IZ)I" } : Jvm.MethodName)) ∈ lw_all := lw_g (lw_at lw_m8 39 rfl) rfl
theorem q1785 : (Jvm.Cond.code ({ cls := "CuttingRoomModel", name := "pieces", desc := "(IZ)I" } : Jvm.MethodName) prog_18_method_63_code (3 : Nat) (Option.some Jvm.ClassFile.FieldType.int)) ∈ lw_all := lw_g (lw_at lw_m8 40 rfl) rfl
theorem q1787 : (Jvm.Cond.instanceMethod ({ cls := "CuttingRoomModel", name := "canMake", desc := "(I)I" } : Jvm.MethodName)) ∈ lw_all := lw_g (lw_at lw_m8 42 rfl) rfl
theorem q1788 : (Jvm.Cond.selects "CuttingRoomModel" ({ cls := "CuttingRoomModel", name := "canMake", desc := "(I)I" } : Jvm.MethodName) ({ cls := "CuttingRoomModel", name := "canMake", desc := "(I)I" } : Jvm.MethodName)) ∈ lw_all := lw_g (lw_at lw_m8 43 rfl) rfl
theorem q1789 : (Jvm.Cond.code ({ cls := "CuttingRoomModel", name := "canMake", desc := "(I)I" } : Jvm.MethodName) prog_18_method_65_code (2 : Nat) (Option.some Jvm.ClassFile.FieldType.int)) ∈ lw_all := lw_g (lw_at lw_m8 44 rfl) rfl
theorem q1790 : (Jvm.Cond.methodLink "CuttingRoomModel" (275 : Nat) ({ cls := "CuttingRoomModel", name := "makes", desc := "(II)I" } : Jvm.MethodName)) ∈ lw_all := lw_g (lw_at lw_m8 45 rfl) rfl
theorem q1791 : (Jvm.Cond.privateMethod ({ cls := "CuttingRoomModel", name := "makes", desc := "(II)I" } : Jvm.MethodName)) ∈ lw_tbl := lw_at lw_m8 46 rfl
theorem q1792 : (Jvm.Cond.instanceMethod ({ cls := "CuttingRoomModel", name := "makes", desc := "(II)I" } : Jvm.MethodName)) ∈ lw_all := lw_g (lw_at lw_m8 47 rfl) rfl
theorem q1793 : (Jvm.Cond.code ({ cls := "CuttingRoomModel", name := "makes", desc := "(II)I" } : Jvm.MethodName) prog_18_method_64_code (8 : Nat) (Option.some Jvm.ClassFile.FieldType.int)) ∈ lw_all := lw_g (lw_at lw_m8 48 rfl) rfl
theorem q1794 : (Jvm.Cond.constant "CuttingRoomModel" (274 : Nat) (2147483647 : Int32)) ∈ lw_all := lw_g (lw_at lw_m8 49 rfl) rfl
theorem q1796 : (Jvm.Cond.instanceMethod ({ cls := "CuttingRoomModel", name := "canMakeByTaking", desc := "(I)I" } : Jvm.MethodName)) ∈ lw_all := lw_g (lw_at lw_m8 51 rfl) rfl
theorem q1797 : (Jvm.Cond.selects "CuttingRoomModel" ({ cls := "CuttingRoomModel", name := "canMakeByTaking", desc := "(I)I" } : Jvm.MethodName) ({ cls := "CuttingRoomModel", name := "canMakeByTaking", desc := "(I)I" } : Jvm.MethodName)) ∈ lw_all := lw_g (lw_at lw_m8 52 rfl) rfl
theorem q1798 : (Jvm.Cond.code ({ cls := "CuttingRoomModel", name := "canMakeByTaking", desc := "(I)I" } : Jvm.MethodName) prog_18_method_66_code (2 : Nat) (Option.some Jvm.ClassFile.FieldType.int)) ∈ lw_all := lw_g (lw_at lw_m8 53 rfl) rfl
theorem q1799 : (Jvm.Cond.methodLink "CuttingRoomModel" (278 : Nat) ({ cls := "CuttingRoomModel", name := "canMake", desc := "(I)I" } : Jvm.MethodName)) ∈ lw_all := lw_g (lw_at lw_m8 54 rfl) rfl
theorem q1801 : (Jvm.Cond.instanceMethod ({ cls := "CuttingRoomModel", name := "make", desc := "(II)I" } : Jvm.MethodName)) ∈ lw_all := lw_g (lw_at lw_m8 56 rfl) rfl
theorem q1802 : (Jvm.Cond.selects "CuttingRoomModel" ({ cls := "CuttingRoomModel", name := "make", desc := "(II)I" } : Jvm.MethodName) ({ cls := "CuttingRoomModel", name := "make", desc := "(II)I" } : Jvm.MethodName)) ∈ lw_all := lw_g (lw_at lw_m8 57 rfl) rfl
theorem q1803 : (Jvm.Cond.code ({ cls := "CuttingRoomModel", name := "make", desc := "(II)I" } : Jvm.MethodName) prog_18_method_67_code (5 : Nat) (Option.some Jvm.ClassFile.FieldType.int)) ∈ lw_all := lw_g (lw_at lw_m8 58 rfl) rfl
theorem q1805 : (Jvm.Cond.instanceMethod ({ cls := "CuttingRoomModel", name := "made", desc := "(I)I" } : Jvm.MethodName)) ∈ lw_all := lw_g (lw_at lw_m8 60 rfl) rfl
theorem q1806 : (Jvm.Cond.selects "CuttingRoomModel" ({ cls := "CuttingRoomModel", name := "made", desc := "(I)I" } : Jvm.MethodName) ({ cls := "CuttingRoomModel", name := "made", desc := "(I)I" } : Jvm.MethodName)) ∈ lw_all := lw_g (lw_at lw_m8 61 rfl) rfl
theorem q1807 : (Jvm.Cond.code ({ cls := "CuttingRoomModel", name := "made", desc := "(I)I" } : Jvm.MethodName) prog_18_method_68_code (2 : Nat) (Option.some Jvm.ClassFile.FieldType.int)) ∈ lw_all := lw_g (lw_at lw_m8 62 rfl) rfl
theorem q1809 : (Jvm.Cond.instanceMethod ({ cls := "CuttingRoomModel", name := "pliesFor", desc := "(II)I" } : Jvm.MethodName)) ∈ lw_all := lw_g (lw_at lw_m8 64 rfl) rfl
theorem q1810 : (Jvm.Cond.selects "CuttingRoomModel" ({ cls := "CuttingRoomModel", name := "pliesFor", desc := "(II)I" } : Jvm.MethodName) ({ cls := "CuttingRoomModel", name := "pliesFor", desc := "(II)I" } : Jvm.MethodName)) ∈ lw_all := lw_g (lw_at lw_m8 65 rfl) rfl
theorem q1811 : (Jvm.Cond.code ({ cls := "CuttingRoomModel", name := "pliesFor", desc := "(II)I" } : Jvm.MethodName) prog_18_method_69_code (4 : Nat) (Option.some Jvm.ClassFile.FieldType.int)) ∈ lw_all := lw_g (lw_at lw_m8 66 rfl) rfl
theorem q1813 : (Jvm.Cond.instanceMethod ({ cls := "CuttingRoomModel", name := "cut", desc := "()J" } : Jvm.MethodName)) ∈ lw_all := lw_g (lw_at lw_m8 68 rfl) rfl
theorem q1814 : (Jvm.Cond.selects "CuttingRoomModel" ({ cls := "CuttingRoomModel", name := "cut", desc := "()J" } : Jvm.MethodName) ({ cls := "CuttingRoomModel", name := "cut", desc := "()J" } : Jvm.MethodName)) ∈ lw_all := lw_g (lw_at lw_m8 69 rfl) rfl
theorem q1815 : (Jvm.Cond.code ({ cls := "CuttingRoomModel", name := "cut", desc := "()J" } : Jvm.MethodName) prog_18_method_70_code (1 : Nat) (Option.some Jvm.ClassFile.FieldType.long)) ∈ lw_all := lw_g (lw_at lw_m8 70 rfl) rfl
theorem q1817 : (Jvm.Cond.instanceMethod ({ cls := "CuttingRoomModel", name := "density", desc := "()F" } : Jvm.MethodName)) ∈ lw_all := lw_g (lw_at lw_m8 72 rfl) rfl
theorem q1818 : (Jvm.Cond.selects "CuttingRoomModel" ({ cls := "CuttingRoomModel", name := "density", desc := "()F" } : Jvm.MethodName) ({ cls := "CuttingRoomModel", name := "density", desc := "()F" } : Jvm.MethodName)) ∈ lw_all := lw_g (lw_at lw_m8 73 rfl) rfl
theorem q1819 : (Jvm.Cond.code ({ cls := "CuttingRoomModel", name := "density", desc := "()F" } : Jvm.MethodName) prog_18_method_71_code (1 : Nat) (Option.some Jvm.ClassFile.FieldType.float)) ∈ lw_all := lw_g (lw_at lw_m8 74 rfl) rfl
theorem q1821 : (Jvm.Cond.instanceMethod ({ cls := "CuttingRoomModel", name := "meanCells", desc := "()D" } : Jvm.MethodName)) ∈ lw_all := lw_g (lw_at lw_m8 76 rfl) rfl
theorem q1822 : (Jvm.Cond.selects "CuttingRoomModel" ({ cls := "CuttingRoomModel", name := "meanCells", desc := "()D" } : Jvm.MethodName) ({ cls := "CuttingRoomModel", name := "meanCells", desc := "()D" } : Jvm.MethodName)) ∈ lw_all := lw_g (lw_at lw_m8 77 rfl) rfl
theorem q1823 : (Jvm.Cond.code ({ cls := "CuttingRoomModel", name := "meanCells", desc := "()D" } : Jvm.MethodName) prog_18_method_72_code (1 : Nat) (Option.some Jvm.ClassFile.FieldType.double)) ∈ lw_all := lw_g (lw_at lw_m8 78 rfl) rfl
theorem q1825 : (Jvm.Cond.instanceMethod ({ cls := "CuttingRoomModel", name := "isSound", desc := "()Z" } : Jvm.MethodName)) ∈ lw_all := lw_g (lw_at lw_m8 80 rfl) rfl
theorem q1826 : (Jvm.Cond.selects "CuttingRoomModel" ({ cls := "CuttingRoomModel", name := "isSound", desc := "()Z" } : Jvm.MethodName) ({ cls := "CuttingRoomModel", name := "isSound", desc := "()Z" } : Jvm.MethodName)) ∈ lw_all := lw_g (lw_at lw_m8 81 rfl) rfl
theorem q1827 : (Jvm.Cond.code ({ cls := "CuttingRoomModel", name := "isSound", desc := "()Z" } : Jvm.MethodName) prog_18_method_73_code (5 : Nat) (Option.some Jvm.ClassFile.FieldType.boolean)) ∈ lw_all := lw_g (lw_at lw_m8 82 rfl) rfl
theorem q1839 : (Jvm.Cond.castable "CuttingRoomModel" "java/lang/Object") ∈ lw_tbl := lw_at lw_m8 94 rfl
theorem in_X4 : ∀ w ∈ wsX40, w ∈ lw_all := lw_in wsX40 [1442, 1444, 1446, 1448, 1450, 1452, 1454, 1456, 1458, 1460, 1462, 1464, 1466, 1468, 1470, 1472, 1474, 1476, 1478, 1480, 1482, 1484, 1486, 1488, 1490, 1492, 1494, 1496, 1498, 1500, 1502, 1504, 1506, 1508, 1510, 1512, 1514, 1516, 1518, 1520, 1522, 1524, 1526, 1528, 1530, 1532, 1534, 1536, 1538] (by decide +kernel) (by decide +kernel)
