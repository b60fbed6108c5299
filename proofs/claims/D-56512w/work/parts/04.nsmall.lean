/-! CuttingRoom$Part -/
set_option maxRecDepth 100000
def RX10 : String := "CuttingRoom$Part"
def TX10 : u_T := fun k => match k with
  | 0 => ("CuttingRoom$Part", "shape", "LCuttingRoom$Shape;", true)
  | _ => ("CuttingRoom$Part", "count", "I", true)
def tyX10 : Nat → FieldType := fun k => match k with
  | 0 => .object "CuttingRoom$Shape"
  | _ => .int
abbrev wsX100 : List Cond := u_ws RX10 TX10 2
theorem nmX10 : ∀ a, a < 2 → ∀ b, b < 2 → a ≠ b → (TX10 a).2.1 ≠ (TX10 b).2.1 := by decide +kernel
theorem tyX10_ok : ∀ k, k < 2 → parseFieldDescriptor (TX10 k).2.2.1 = some (tyX10 k) := by decide +kernel
abbrev cX10_pieces : ByteArray := prog_5_method_2_code
def yX10_pieces : MethodName := ⟨RX10, "pieces", "()I"⟩
def dkwX10_pieces_0 : List UInt8 := [42, 180, 0, 7, 180, 0, 17, 153, 0, 12, 5, 42, 180, 0, 13, 104, 167, 0, 7, 42, 180, 0, 13, 172]
abbrev dktX10_pieces_0 : List UInt8 := dkwX10_pieces_0 ++ []
theorem dksX10_pieces_0 : cX10_pieces.data.toList.drop 0 = dktX10_pieces_0 := by decide +kernel
theorem dX10_pieces_0 : decode cX10_pieces 0 = .ok (.aload_n 0, 1) := dk_42 (dk_at dksX10_pieces_0 0 rfl rfl)
theorem dX10_pieces_1 : decode cX10_pieces 1 = .ok (.getfield 7, 3) := dk_180 0 7 (dk_at dksX10_pieces_0 1 rfl rfl)
theorem dX10_pieces_4 : decode cX10_pieces 4 = .ok (.getfield 17, 3) := dk_180 0 17 (dk_at dksX10_pieces_0 4 rfl rfl)
theorem dX10_pieces_7 : decode cX10_pieces 7 = .ok (.ifCond .eq 12, 3) := dk_153 0 12 (dk_at dksX10_pieces_0 7 rfl rfl)
theorem dX10_pieces_10 : decode cX10_pieces 10 = .ok (.iconst 2, 1) := dk_5 (dk_at dksX10_pieces_0 10 rfl rfl)
theorem dX10_pieces_11 : decode cX10_pieces 11 = .ok (.aload_n 0, 1) := dk_42 (dk_at dksX10_pieces_0 11 rfl rfl)
theorem dX10_pieces_12 : decode cX10_pieces 12 = .ok (.getfield 13, 3) := dk_180 0 13 (dk_at dksX10_pieces_0 12 rfl rfl)
theorem dX10_pieces_15 : decode cX10_pieces 15 = .ok (.imul, 1) := dk_104 (dk_at dksX10_pieces_0 15 rfl rfl)
theorem dX10_pieces_16 : decode cX10_pieces 16 = .ok (.goto 7, 3) := dk_167 0 7 (dk_at dksX10_pieces_0 16 rfl rfl)
theorem dX10_pieces_19 : decode cX10_pieces 19 = .ok (.aload_n 0, 1) := dk_42 (dk_at dksX10_pieces_0 19 rfl rfl)
theorem dX10_pieces_20 : decode cX10_pieces 20 = .ok (.getfield 13, 3) := dk_180 0 13 (dk_at dksX10_pieces_0 20 rfl rfl)
theorem dX10_pieces_23 : decode cX10_pieces 23 = .ok (.ireturn, 1) := dk_172 (dk_at dksX10_pieces_0 23 rfl rfl)
abbrev cX10_init : ByteArray := prog_5_method_1_code
def yX10_init : MethodName := ⟨RX10, "<init>", "(LCuttingRoom$Shape;I)V"⟩
def dkwX10_init_0 : List UInt8 := [42, 183, 0, 1, 42, 43, 181, 0, 7, 42, 28, 181, 0, 13, 177]
abbrev dktX10_init_0 : List UInt8 := dkwX10_init_0 ++ []
theorem dksX10_init_0 : cX10_init.data.toList.drop 0 = dktX10_init_0 := by decide +kernel
theorem dX10_init_0 : decode cX10_init 0 = .ok (.aload_n 0, 1) := dk_42 (dk_at dksX10_init_0 0 rfl rfl)
theorem dX10_init_1 : decode cX10_init 1 = .ok (.invokespecial 1, 3) := dk_183 0 1 (dk_at dksX10_init_0 1 rfl rfl)
theorem dX10_init_4 : decode cX10_init 4 = .ok (.aload_n 0, 1) := dk_42 (dk_at dksX10_init_0 4 rfl rfl)
theorem dX10_init_5 : decode cX10_init 5 = .ok (.aload_n 1, 1) := dk_43 (dk_at dksX10_init_0 5 rfl rfl)
theorem dX10_init_6 : decode cX10_init 6 = .ok (.putfield 7, 3) := dk_181 0 7 (dk_at dksX10_init_0 6 rfl rfl)
theorem dX10_init_9 : decode cX10_init 9 = .ok (.aload_n 0, 1) := dk_42 (dk_at dksX10_init_0 9 rfl rfl)
theorem dX10_init_10 : decode cX10_init 10 = .ok (.iload_n 2, 1) := dk_28 (dk_at dksX10_init_0 10 rfl rfl)
theorem dX10_init_11 : decode cX10_init 11 = .ok (.putfield 13, 3) := dk_181 0 13 (dk_at dksX10_init_0 11 rfl rfl)
theorem dX10_init_14 : decode cX10_init 14 = .ok (.return_, 1) := dk_177 (dk_at dksX10_init_0 14 rfl rfl)
theorem q96 : (Jvm.Cond.initialized "CuttingRoom$Part") ∈ lw_all := lw_g (lw_at lw_m1 31 rfl) rfl
theorem q538 : (Jvm.Cond.instanceMethod ({ cls := "CuttingRoom$Part", name := "pieces", desc := "()I" } : Jvm.MethodName)) ∈ lw_all := lw_g (lw_at lw_m2 233 rfl) rfl
theorem q539 : (Jvm.Cond.selects "CuttingRoom$Part" ({ cls := "CuttingRoom$Part", name := "pieces", desc := "()I" } : Jvm.MethodName) ({ cls := "CuttingRoom$Part", name := "pieces", desc := "()I" } : Jvm.MethodName)) ∈ lw_all := lw_g (lw_at lw_m2 234 rfl) rfl
theorem q540 : (Jvm.Cond.code ({ cls := "CuttingRoom$Part", name := "pieces", desc := "()I" } : Jvm.MethodName) prog_5_method_2_code (1 : Nat) (Option.some Jvm.ClassFile.FieldType.int)) ∈ lw_all := lw_g (lw_at lw_m2 235 rfl) rfl
theorem q707 : (Jvm.Cond.fieldLinkNest "CuttingRoom$Part" (17 : Nat) "CuttingRoom$Shape" "isPaired" "Z" "CuttingRoom") ∈ lw_tbl := lw_at lw_m3 162 rfl
theorem q784 : (Jvm.Cond.selects "CuttingRoom$Part" ({ cls := "java/lang/Object", name := "getClass", desc := "()Ljava/lang/Class;" } : Jvm.MethodName) ({ cls := "java/lang/Object", name := "getClass", desc := "()Ljava/lang/Class;" } : Jvm.MethodName)) ∈ lw_all := lw_g (lw_at lw_m3 239 rfl) rfl
theorem q1027 : (Jvm.Cond.selects "CuttingRoom$Part" ({ cls := "java/lang/Object", name := "equals", desc := "(Ljava/lang/Object;)Z" } : Jvm.MethodName) ({ cls := "java/lang/Object", name := "equals", desc := "(Ljava/lang/Object;)Z" } : Jvm.MethodName)) ∈ lw_all := lw_g (lw_at lw_m5 2 rfl) rfl
theorem q1146 : (Jvm.Cond.instantiable "CuttingRoom$Part" (2 : Nat)) ∈ lw_all := lw_g (lw_at lw_m5 121 rfl) rfl
theorem q1148 : (Jvm.Cond.instanceMethod ({ cls := "CuttingRoom$Part", name := "<init>", desc := "(LCuttingRoom$Shape;I)V" } : Jvm.MethodName)) ∈ lw_all := lw_g (lw_at lw_m5 123 rfl) rfl
theorem q1149 : (Jvm.Cond.code ({ cls := "CuttingRoom$Part", name := "<init>", desc := "(LCuttingRoom$Shape;I)V" } : Jvm.MethodName) prog_5_method_1_code (3 : Nat) (Option.none : Option Jvm.ClassFile.FieldType)) ∈ lw_all := lw_g (lw_at lw_m5 124 rfl) rfl
theorem q1150 : (Jvm.Cond.methodLink "CuttingRoom$Part" (1 : Nat) ({ cls := "java/lang/Object", name := "<init>", desc := "()V" } : Jvm.MethodName)) ∈ lw_all := lw_g (lw_at lw_m5 125 rfl) rfl
theorem q1151 : (Jvm.Cond.fieldLink "CuttingRoom$Part" (7 : Nat) "CuttingRoom$Part" "shape" "LCuttingRoom$Shape;") ∈ lw_all := lw_g (lw_at lw_m5 126 rfl) rfl
theorem q1154 : (Jvm.Cond.fieldLink "CuttingRoom$Part" (13 : Nat) "CuttingRoom$Part" "count" "I") ∈ lw_all := lw_g (lw_at lw_m5 129 rfl) rfl
theorem q1157 : (Jvm.Cond.laysFinal "CuttingRoom$Part" "CuttingRoom$Part" "shape" "LCuttingRoom$Shape;") ∈ lw_all := lw_g (lw_at lw_m5 132 rfl) rfl
theorem q1158 : (Jvm.Cond.soleField "CuttingRoom$Part" "shape") ∈ lw_all := lw_g (lw_at lw_m5 133 rfl) rfl
theorem q1159 : (Jvm.Cond.laysFinal "CuttingRoom$Part" "CuttingRoom$Part" "count" "I") ∈ lw_all := lw_g (lw_at lw_m5 134 rfl) rfl
theorem q1160 : (Jvm.Cond.soleField "CuttingRoom$Part" "count") ∈ lw_all := lw_g (lw_at lw_m5 135 rfl) rfl
theorem q1161 : (Jvm.Cond.superclass "CuttingRoom$Part" "java/lang/Object") ∈ lw_all := lw_g (lw_at lw_m5 136 rfl) rfl
theorem q1853 : (Jvm.Cond.castable "CuttingRoom$Part" "java/lang/Object") ∈ lw_tbl := lw_at lw_m8 108 rfl
theorem in_X10 : ∀ w ∈ wsX100, w ∈ lw_all := lw_in wsX100 [1157, 1159] (by decide +kernel) (by decide +kernel)

/-! CuttingRoom$Sort -/
set_option maxRecDepth 100000
def RX11 : String := "CuttingRoom$Sort"
def TX11 : u_T := fun k => match k with
  | 0 => ("CuttingRoom$Sort", "shape", "LCuttingRoom$Shape;", true)
  | _ => ("CuttingRoom$Sort", "isMirrored", "Z", true)
def tyX11 : Nat → FieldType := fun k => match k with
  | 0 => .object "CuttingRoom$Shape"
  | _ => .boolean
abbrev wsX110 : List Cond := u_ws RX11 TX11 2
theorem nmX11 : ∀ a, a < 2 → ∀ b, b < 2 → a ≠ b → (TX11 a).2.1 ≠ (TX11 b).2.1 := by decide +kernel
theorem tyX11_ok : ∀ k, k < 2 → parseFieldDescriptor (TX11 k).2.2.1 = some (tyX11 k) := by decide +kernel
abbrev cX11_init : ByteArray := prog_13_method_1_code
def yX11_init : MethodName := ⟨RX11, "<init>", "(LCuttingRoom$Shape;Z)V"⟩
def dkwX11_init_0 : List UInt8 := [42, 183, 0, 1, 42, 43, 181, 0, 7, 42, 28, 181, 0, 13, 177]
abbrev dktX11_init_0 : List UInt8 := dkwX11_init_0 ++ []
theorem dksX11_init_0 : cX11_init.data.toList.drop 0 = dktX11_init_0 := by decide +kernel
theorem dX11_init_0 : decode cX11_init 0 = .ok (.aload_n 0, 1) := dk_42 (dk_at dksX11_init_0 0 rfl rfl)
theorem dX11_init_1 : decode cX11_init 1 = .ok (.invokespecial 1, 3) := dk_183 0 1 (dk_at dksX11_init_0 1 rfl rfl)
theorem dX11_init_4 : decode cX11_init 4 = .ok (.aload_n 0, 1) := dk_42 (dk_at dksX11_init_0 4 rfl rfl)
theorem dX11_init_5 : decode cX11_init 5 = .ok (.aload_n 1, 1) := dk_43 (dk_at dksX11_init_0 5 rfl rfl)
theorem dX11_init_6 : decode cX11_init 6 = .ok (.putfield 7, 3) := dk_181 0 7 (dk_at dksX11_init_0 6 rfl rfl)
theorem dX11_init_9 : decode cX11_init 9 = .ok (.aload_n 0, 1) := dk_42 (dk_at dksX11_init_0 9 rfl rfl)
theorem dX11_init_10 : decode cX11_init 10 = .ok (.iload_n 2, 1) := dk_28 (dk_at dksX11_init_0 10 rfl rfl)
theorem dX11_init_11 : decode cX11_init 11 = .ok (.putfield 13, 3) := dk_181 0 13 (dk_at dksX11_init_0 11 rfl rfl)
theorem dX11_init_14 : decode cX11_init 14 = .ok (.return_, 1) := dk_177 (dk_at dksX11_init_0 14 rfl rfl)
theorem q97 : (Jvm.Cond.initialized "CuttingRoom$Sort") ∈ lw_all := lw_g (lw_at lw_m1 32 rfl) rfl
theorem q791 : (Jvm.Cond.selects "CuttingRoom$Sort" ({ cls := "java/lang/Object", name := "getClass", desc := "()Ljava/lang/Class;" } : Jvm.MethodName) ({ cls := "java/lang/Object", name := "getClass", desc := "()Ljava/lang/Class;" } : Jvm.MethodName)) ∈ lw_all := lw_g (lw_at lw_m4 6 rfl) rfl
theorem q1036 : (Jvm.Cond.selects "CuttingRoom$Sort" ({ cls := "java/lang/Object", name := "equals", desc := "(Ljava/lang/Object;)Z" } : Jvm.MethodName) ({ cls := "java/lang/Object", name := "equals", desc := "(Ljava/lang/Object;)Z" } : Jvm.MethodName)) ∈ lw_all := lw_g (lw_at lw_m5 11 rfl) rfl
theorem q1188 : (Jvm.Cond.instantiable "CuttingRoom$Sort" (2 : Nat)) ∈ lw_all := lw_g (lw_at lw_m5 163 rfl) rfl
theorem q1190 : (Jvm.Cond.instanceMethod ({ cls := "CuttingRoom$Sort", name := "<init>", desc := "(LCuttingRoom$Shape;Z)V" } : Jvm.MethodName)) ∈ lw_all := lw_g (lw_at lw_m5 165 rfl) rfl
theorem q1191 : (Jvm.Cond.code ({ cls := "CuttingRoom$Sort", name := "<init>", desc := "(LCuttingRoom$Shape;Z)V" } : Jvm.MethodName) prog_13_method_1_code (3 : Nat) (Option.none : Option Jvm.ClassFile.FieldType)) ∈ lw_all := lw_g (lw_at lw_m5 166 rfl) rfl
theorem q1192 : (Jvm.Cond.methodLink "CuttingRoom$Sort" (1 : Nat) ({ cls := "java/lang/Object", name := "<init>", desc := "()V" } : Jvm.MethodName)) ∈ lw_all := lw_g (lw_at lw_m5 167 rfl) rfl
theorem q1193 : (Jvm.Cond.fieldLink "CuttingRoom$Sort" (7 : Nat) "CuttingRoom$Sort" "shape" "LCuttingRoom$Shape;") ∈ lw_all := lw_g (lw_at lw_m5 168 rfl) rfl
theorem q1195 : (Jvm.Cond.fieldLink "CuttingRoom$Sort" (13 : Nat) "CuttingRoom$Sort" "isMirrored" "Z") ∈ lw_all := lw_g (lw_at lw_m5 170 rfl) rfl
theorem q1197 : (Jvm.Cond.laysFinal "CuttingRoom$Sort" "CuttingRoom$Sort" "shape" "LCuttingRoom$Shape;") ∈ lw_all := lw_g (lw_at lw_m5 172 rfl) rfl
theorem q1198 : (Jvm.Cond.soleField "CuttingRoom$Sort" "shape") ∈ lw_all := lw_g (lw_at lw_m5 173 rfl) rfl
theorem q1199 : (Jvm.Cond.laysFinal "CuttingRoom$Sort" "CuttingRoom$Sort" "isMirrored" "Z") ∈ lw_all := lw_g (lw_at lw_m5 174 rfl) rfl
theorem q1200 : (Jvm.Cond.soleField "CuttingRoom$Sort" "isMirrored") ∈ lw_all := lw_g (lw_at lw_m5 175 rfl) rfl
theorem q1201 : (Jvm.Cond.superclass "CuttingRoom$Sort" "java/lang/Object") ∈ lw_all := lw_g (lw_at lw_m5 176 rfl) rfl
theorem q1854 : (Jvm.Cond.castable "CuttingRoom$Sort" "java/lang/Object") ∈ lw_tbl := lw_at lw_m8 109 rfl
theorem in_X11 : ∀ w ∈ wsX110, w ∈ lw_all := lw_in wsX110 [1197, 1199] (by decide +kernel) (by decide +kernel)

/-! CuttingRoom$Orders -/
set_option maxRecDepth 100000
def RX12 : String := "CuttingRoom$Orders"
def TX12 : u_T := fun k => match k with
  | 0 => ("CuttingRoom$Orders", "sorts", "Ljava/util/List;", true)
  | 1 => ("CuttingRoom$Orders", "isGivingUp", "Z", true)
  | 2 => ("CuttingRoom$Orders", "order", "[I", true)
  | 3 => ("CuttingRoom$Orders", "least", "I", false)
  | _ => ("CuttingRoom$Orders", "this$0", "LCuttingRoom;", true)
def tyX12 : Nat → FieldType := fun k => match k with
  | 0 => .object "java/util/List"
  | 1 => .boolean
  | 2 => .array .int
  | 3 => .int
  | _ => .object "CuttingRoom"
abbrev wsX120 : List Cond := u_ws RX12 TX12 5
theorem nmX12 : ∀ a, a < 5 → ∀ b, b < 5 → a ≠ b → (TX12 a).2.1 ≠ (TX12 b).2.1 := by decide +kernel
theorem tyX12_ok : ∀ k, k < 5 → parseFieldDescriptor (TX12 k).2.2.1 = some (tyX12 k) := by decide +kernel
abbrev cX12_init : ByteArray := prog_4_method_1_code
def yX12_init : MethodName := ⟨RX12, "<init>", "(LCuttingRoom;Ljava/util/List;Z)V"⟩
def dkwX12_init_1 : List UInt8 := [181, 0, 23, 42, 44, 185, 0, 27, 1, 0, 188, 10, 181, 0, 33, 177]
abbrev dktX12_init_1 : List UInt8 := dkwX12_init_1 ++ []
def dkwX12_init_0 : List UInt8 := [42, 43, 181, 0, 3, 42, 183, 0, 9, 42, 16, 61, 181, 0, 15, 42, 44, 181, 0, 19, 42, 29]
abbrev dktX12_init_0 : List UInt8 := dkwX12_init_0 ++ dktX12_init_1
theorem dksX12_init_0 : cX12_init.data.toList.drop 0 = dktX12_init_0 := by decide +kernel
theorem dksX12_init_1 : cX12_init.data.toList.drop 22 = dktX12_init_1 := dk_seg dksX12_init_0 22 rfl rfl
theorem dX12_init_0 : decode cX12_init 0 = .ok (.aload_n 0, 1) := dk_42 (dk_at dksX12_init_0 0 rfl rfl)
theorem dX12_init_1 : decode cX12_init 1 = .ok (.aload_n 1, 1) := dk_43 (dk_at dksX12_init_0 1 rfl rfl)
theorem dX12_init_2 : decode cX12_init 2 = .ok (.putfield 3, 3) := dk_181 0 3 (dk_at dksX12_init_0 2 rfl rfl)
theorem dX12_init_5 : decode cX12_init 5 = .ok (.aload_n 0, 1) := dk_42 (dk_at dksX12_init_0 5 rfl rfl)
theorem dX12_init_6 : decode cX12_init 6 = .ok (.invokespecial 9, 3) := dk_183 0 9 (dk_at dksX12_init_0 6 rfl rfl)
theorem dX12_init_9 : decode cX12_init 9 = .ok (.aload_n 0, 1) := dk_42 (dk_at dksX12_init_0 9 rfl rfl)
theorem dX12_init_10 : decode cX12_init 10 = .ok (.bipush 61, 2) := dk_16 61 (dk_at dksX12_init_0 10 rfl rfl)
theorem dX12_init_12 : decode cX12_init 12 = .ok (.putfield 15, 3) := dk_181 0 15 (dk_at dksX12_init_0 12 rfl rfl)
theorem dX12_init_15 : decode cX12_init 15 = .ok (.aload_n 0, 1) := dk_42 (dk_at dksX12_init_0 15 rfl rfl)
theorem dX12_init_16 : decode cX12_init 16 = .ok (.aload_n 2, 1) := dk_44 (dk_at dksX12_init_0 16 rfl rfl)
theorem dX12_init_17 : decode cX12_init 17 = .ok (.putfield 19, 3) := dk_181 0 19 (dk_at dksX12_init_0 17 rfl rfl)
theorem dX12_init_20 : decode cX12_init 20 = .ok (.aload_n 0, 1) := dk_42 (dk_at dksX12_init_0 20 rfl rfl)
theorem dX12_init_21 : decode cX12_init 21 = .ok (.iload_n 3, 1) := dk_29 (dk_at dksX12_init_0 21 rfl rfl)
theorem dX12_init_22 : decode cX12_init 22 = .ok (.putfield 23, 3) := dk_181 0 23 (dk_at dksX12_init_1 0 rfl rfl)
theorem dX12_init_25 : decode cX12_init 25 = .ok (.aload_n 0, 1) := dk_42 (dk_at dksX12_init_1 3 rfl rfl)
theorem dX12_init_26 : decode cX12_init 26 = .ok (.aload_n 2, 1) := dk_44 (dk_at dksX12_init_1 4 rfl rfl)
theorem dX12_init_27 : decode cX12_init 27 = .ok (.invokeinterface 27 1, 5) := by decide +kernel
theorem dX12_init_32 : decode cX12_init 32 = .ok (.newarray .int, 2) := dk_188_10 (dk_at dksX12_init_1 10 rfl rfl)
theorem dX12_init_34 : decode cX12_init 34 = .ok (.putfield 33, 3) := dk_181 0 33 (dk_at dksX12_init_1 12 rfl rfl)
theorem dX12_init_37 : decode cX12_init 37 = .ok (.return_, 1) := dk_177 (dk_at dksX12_init_1 15 rfl rfl)
abbrev cX12_tryFrom : ByteArray := prog_4_method_4_code
def yX12_tryFrom : MethodName := ⟨RX12, "tryFrom", "(I)V"⟩
def dkwX12_tryFrom_3 : List UInt8 := [180, 0, 15, 162, 0, 10, 42, 27, 4, 96, 182, 0, 94, 132, 2, 1, 167, 255, 200, 177]
abbrev dktX12_tryFrom_3 : List UInt8 := dkwX12_tryFrom_3 ++ []
def dkwX12_tryFrom_2 : List UInt8 := [42, 180, 0, 33, 27, 28, 79, 42, 180, 0, 23, 153, 0, 17, 42, 27, 4, 96, 182, 0, 80, 42]
abbrev dktX12_tryFrom_2 : List UInt8 := dkwX12_tryFrom_2 ++ dktX12_tryFrom_3
def dkwX12_tryFrom_1 : List UInt8 := [181, 0, 15, 177, 3, 61, 28, 42, 180, 0, 33, 190, 162, 0, 53, 42, 28, 27, 182, 0, 90, 154, 0, 38]
abbrev dktX12_tryFrom_1 : List UInt8 := dkwX12_tryFrom_1 ++ dktX12_tryFrom_2
def dkwX12_tryFrom_0 : List UInt8 := [27, 42, 180, 0, 33, 190, 160, 0, 20, 42, 42, 180, 0, 15, 42, 27, 182, 0, 80, 184, 0, 84]
abbrev dktX12_tryFrom_0 : List UInt8 := dkwX12_tryFrom_0 ++ dktX12_tryFrom_1
theorem dksX12_tryFrom_0 : cX12_tryFrom.data.toList.drop 0 = dktX12_tryFrom_0 := by decide +kernel
theorem dksX12_tryFrom_1 : cX12_tryFrom.data.toList.drop 22 = dktX12_tryFrom_1 := dk_seg dksX12_tryFrom_0 22 rfl rfl
theorem dksX12_tryFrom_2 : cX12_tryFrom.data.toList.drop 46 = dktX12_tryFrom_2 := dk_seg dksX12_tryFrom_1 24 rfl rfl
theorem dksX12_tryFrom_3 : cX12_tryFrom.data.toList.drop 68 = dktX12_tryFrom_3 := dk_seg dksX12_tryFrom_2 22 rfl rfl
theorem dX12_tryFrom_0 : decode cX12_tryFrom 0 = .ok (.iload_n 1, 1) := dk_27 (dk_at dksX12_tryFrom_0 0 rfl rfl)
theorem dX12_tryFrom_1 : decode cX12_tryFrom 1 = .ok (.aload_n 0, 1) := dk_42 (dk_at dksX12_tryFrom_0 1 rfl rfl)
theorem dX12_tryFrom_2 : decode cX12_tryFrom 2 = .ok (.getfield 33, 3) := dk_180 0 33 (dk_at dksX12_tryFrom_0 2 rfl rfl)
theorem dX12_tryFrom_5 : decode cX12_tryFrom 5 = .ok (.arraylength, 1) := dk_190 (dk_at dksX12_tryFrom_0 5 rfl rfl)
theorem dX12_tryFrom_6 : decode cX12_tryFrom 6 = .ok (.if_icmp .ne 20, 3) := dk_160 0 20 (dk_at dksX12_tryFrom_0 6 rfl rfl)
theorem dX12_tryFrom_9 : decode cX12_tryFrom 9 = .ok (.aload_n 0, 1) := dk_42 (dk_at dksX12_tryFrom_0 9 rfl rfl)
theorem dX12_tryFrom_10 : decode cX12_tryFrom 10 = .ok (.aload_n 0, 1) := dk_42 (dk_at dksX12_tryFrom_0 10 rfl rfl)
theorem dX12_tryFrom_11 : decode cX12_tryFrom 11 = .ok (.getfield 15, 3) := dk_180 0 15 (dk_at dksX12_tryFrom_0 11 rfl rfl)
theorem dX12_tryFrom_14 : decode cX12_tryFrom 14 = .ok (.aload_n 0, 1) := dk_42 (dk_at dksX12_tryFrom_0 14 rfl rfl)
theorem dX12_tryFrom_15 : decode cX12_tryFrom 15 = .ok (.iload_n 1, 1) := dk_27 (dk_at dksX12_tryFrom_0 15 rfl rfl)
theorem dX12_tryFrom_16 : decode cX12_tryFrom 16 = .ok (.invokevirtual 80, 3) := dk_182 0 80 (dk_at dksX12_tryFrom_0 16 rfl rfl)
theorem dX12_tryFrom_19 : decode cX12_tryFrom 19 = .ok (.invokestatic 84, 3) := dk_184 0 84 (dk_at dksX12_tryFrom_0 19 rfl rfl)
theorem dX12_tryFrom_22 : decode cX12_tryFrom 22 = .ok (.putfield 15, 3) := dk_181 0 15 (dk_at dksX12_tryFrom_1 0 rfl rfl)
theorem dX12_tryFrom_25 : decode cX12_tryFrom 25 = .ok (.return_, 1) := dk_177 (dk_at dksX12_tryFrom_1 3 rfl rfl)
theorem dX12_tryFrom_26 : decode cX12_tryFrom 26 = .ok (.iconst 0, 1) := dk_3 (dk_at dksX12_tryFrom_1 4 rfl rfl)
theorem dX12_tryFrom_27 : decode cX12_tryFrom 27 = .ok (.istore_n 2, 1) := dk_61 (dk_at dksX12_tryFrom_1 5 rfl rfl)
theorem dX12_tryFrom_28 : decode cX12_tryFrom 28 = .ok (.iload_n 2, 1) := dk_28 (dk_at dksX12_tryFrom_1 6 rfl rfl)
theorem dX12_tryFrom_29 : decode cX12_tryFrom 29 = .ok (.aload_n 0, 1) := dk_42 (dk_at dksX12_tryFrom_1 7 rfl rfl)
theorem dX12_tryFrom_30 : decode cX12_tryFrom 30 = .ok (.getfield 33, 3) := dk_180 0 33 (dk_at dksX12_tryFrom_1 8 rfl rfl)
theorem dX12_tryFrom_33 : decode cX12_tryFrom 33 = .ok (.arraylength, 1) := dk_190 (dk_at dksX12_tryFrom_1 11 rfl rfl)
theorem dX12_tryFrom_34 : decode cX12_tryFrom 34 = .ok (.if_icmp .ge 53, 3) := dk_162 0 53 (dk_at dksX12_tryFrom_1 12 rfl rfl)
theorem dX12_tryFrom_37 : decode cX12_tryFrom 37 = .ok (.aload_n 0, 1) := dk_42 (dk_at dksX12_tryFrom_1 15 rfl rfl)
theorem dX12_tryFrom_38 : decode cX12_tryFrom 38 = .ok (.iload_n 2, 1) := dk_28 (dk_at dksX12_tryFrom_1 16 rfl rfl)
theorem dX12_tryFrom_39 : decode cX12_tryFrom 39 = .ok (.iload_n 1, 1) := dk_27 (dk_at dksX12_tryFrom_1 17 rfl rfl)
theorem dX12_tryFrom_40 : decode cX12_tryFrom 40 = .ok (.invokevirtual 90, 3) := dk_182 0 90 (dk_at dksX12_tryFrom_1 18 rfl rfl)
theorem dX12_tryFrom_43 : decode cX12_tryFrom 43 = .ok (.ifCond .ne 38, 3) := dk_154 0 38 (dk_at dksX12_tryFrom_1 21 rfl rfl)
theorem dX12_tryFrom_46 : decode cX12_tryFrom 46 = .ok (.aload_n 0, 1) := dk_42 (dk_at dksX12_tryFrom_2 0 rfl rfl)
theorem dX12_tryFrom_47 : decode cX12_tryFrom 47 = .ok (.getfield 33, 3) := dk_180 0 33 (dk_at dksX12_tryFrom_2 1 rfl rfl)
theorem dX12_tryFrom_50 : decode cX12_tryFrom 50 = .ok (.iload_n 1, 1) := dk_27 (dk_at dksX12_tryFrom_2 4 rfl rfl)
theorem dX12_tryFrom_51 : decode cX12_tryFrom 51 = .ok (.iload_n 2, 1) := dk_28 (dk_at dksX12_tryFrom_2 5 rfl rfl)
theorem dX12_tryFrom_52 : decode cX12_tryFrom 52 = .ok (.iastore, 1) := dk_79 (dk_at dksX12_tryFrom_2 6 rfl rfl)
theorem dX12_tryFrom_53 : decode cX12_tryFrom 53 = .ok (.aload_n 0, 1) := dk_42 (dk_at dksX12_tryFrom_2 7 rfl rfl)
theorem dX12_tryFrom_54 : decode cX12_tryFrom 54 = .ok (.getfield 23, 3) := dk_180 0 23 (dk_at dksX12_tryFrom_2 8 rfl rfl)
theorem dX12_tryFrom_57 : decode cX12_tryFrom 57 = .ok (.ifCond .eq 17, 3) := dk_153 0 17 (dk_at dksX12_tryFrom_2 11 rfl rfl)
theorem dX12_tryFrom_60 : decode cX12_tryFrom 60 = .ok (.aload_n 0, 1) := dk_42 (dk_at dksX12_tryFrom_2 14 rfl rfl)
theorem dX12_tryFrom_61 : decode cX12_tryFrom 61 = .ok (.iload_n 1, 1) := dk_27 (dk_at dksX12_tryFrom_2 15 rfl rfl)
theorem dX12_tryFrom_62 : decode cX12_tryFrom 62 = .ok (.iconst 1, 1) := dk_4 (dk_at dksX12_tryFrom_2 16 rfl rfl)
theorem dX12_tryFrom_63 : decode cX12_tryFrom 63 = .ok (.iadd, 1) := dk_96 (dk_at dksX12_tryFrom_2 17 rfl rfl)
theorem dX12_tryFrom_64 : decode cX12_tryFrom 64 = .ok (.invokevirtual 80, 3) := dk_182 0 80 (dk_at dksX12_tryFrom_2 18 rfl rfl)
theorem dX12_tryFrom_67 : decode cX12_tryFrom 67 = .ok (.aload_n 0, 1) := dk_42 (dk_at dksX12_tryFrom_2 21 rfl rfl)
theorem dX12_tryFrom_68 : decode cX12_tryFrom 68 = .ok (.getfield 15, 3) := dk_180 0 15 (dk_at dksX12_tryFrom_3 0 rfl rfl)
theorem dX12_tryFrom_71 : decode cX12_tryFrom 71 = .ok (.if_icmp .ge 10, 3) := dk_162 0 10 (dk_at dksX12_tryFrom_3 3 rfl rfl)
theorem dX12_tryFrom_74 : decode cX12_tryFrom 74 = .ok (.aload_n 0, 1) := dk_42 (dk_at dksX12_tryFrom_3 6 rfl rfl)
theorem dX12_tryFrom_75 : decode cX12_tryFrom 75 = .ok (.iload_n 1, 1) := dk_27 (dk_at dksX12_tryFrom_3 7 rfl rfl)
theorem dX12_tryFrom_76 : decode cX12_tryFrom 76 = .ok (.iconst 1, 1) := dk_4 (dk_at dksX12_tryFrom_3 8 rfl rfl)
theorem dX12_tryFrom_77 : decode cX12_tryFrom 77 = .ok (.iadd, 1) := dk_96 (dk_at dksX12_tryFrom_3 9 rfl rfl)
theorem dX12_tryFrom_78 : decode cX12_tryFrom 78 = .ok (.invokevirtual 94, 3) := dk_182 0 94 (dk_at dksX12_tryFrom_3 10 rfl rfl)
theorem dX12_tryFrom_81 : decode cX12_tryFrom 81 = .ok (.iinc 2 1, 3) := dk_132 2 1 (dk_at dksX12_tryFrom_3 13 rfl rfl)
theorem dX12_tryFrom_84 : decode cX12_tryFrom 84 = .ok (.goto (-56), 3) := dk_167 255 200 (dk_at dksX12_tryFrom_3 16 rfl rfl)
theorem dX12_tryFrom_87 : decode cX12_tryFrom 87 = .ok (.return_, 1) := dk_177 (dk_at dksX12_tryFrom_3 19 rfl rfl)
abbrev cX12_nestFirst : ByteArray := prog_4_method_3_code
def yX12_nestFirst : MethodName := ⟨RX12, "nestFirst", "(I)I"⟩
def dkwX12_nestFirst_4 : List UInt8 := [180, 0, 3, 180, 0, 37, 180, 0, 77, 172]
abbrev dktX12_nestFirst_4 : List UInt8 := dkwX12_nestFirst_4 ++ []
def dkwX12_nestFirst_3 : List UInt8 := [154, 0, 6, 16, 61, 172, 42, 180, 0, 3, 180, 0, 37, 28, 182, 0, 73, 132, 2, 1, 167, 255, 180, 42]
abbrev dktX12_nestFirst_3 : List UInt8 := dkwX12_nestFirst_3 ++ dktX12_nestFirst_4
def dkwX12_nestFirst_2 : List UInt8 := [180, 0, 56, 45, 180, 0, 60, 182, 0, 63, 42, 180, 0, 3, 42, 180, 0, 3, 180, 0, 37, 182, 0, 69]
abbrev dktX12_nestFirst_2 : List UInt8 := dkwX12_nestFirst_2 ++ dktX12_nestFirst_3
def dkwX12_nestFirst_1 : List UInt8 := [180, 0, 33, 28, 46, 185, 0, 46, 2, 0, 192, 0, 50, 78, 42, 180, 0, 3, 180, 0, 52, 45]
abbrev dktX12_nestFirst_1 : List UInt8 := dkwX12_nestFirst_1 ++ dktX12_nestFirst_2
def dkwX12_nestFirst_0 : List UInt8 := [42, 180, 0, 3, 180, 0, 37, 182, 0, 41, 3, 61, 28, 27, 162, 0, 77, 42, 180, 0, 19, 42]
abbrev dktX12_nestFirst_0 : List UInt8 := dkwX12_nestFirst_0 ++ dktX12_nestFirst_1
theorem dksX12_nestFirst_0 : cX12_nestFirst.data.toList.drop 0 = dktX12_nestFirst_0 := by decide +kernel
theorem dksX12_nestFirst_1 : cX12_nestFirst.data.toList.drop 22 = dktX12_nestFirst_1 := dk_seg dksX12_nestFirst_0 22 rfl rfl
theorem dksX12_nestFirst_2 : cX12_nestFirst.data.toList.drop 44 = dktX12_nestFirst_2 := dk_seg dksX12_nestFirst_1 22 rfl rfl
theorem dksX12_nestFirst_3 : cX12_nestFirst.data.toList.drop 68 = dktX12_nestFirst_3 := dk_seg dksX12_nestFirst_2 24 rfl rfl
theorem dksX12_nestFirst_4 : cX12_nestFirst.data.toList.drop 92 = dktX12_nestFirst_4 := dk_seg dksX12_nestFirst_3 24 rfl rfl
theorem dX12_nestFirst_0 : decode cX12_nestFirst 0 = .ok (.aload_n 0, 1) := dk_42 (dk_at dksX12_nestFirst_0 0 rfl rfl)
theorem dX12_nestFirst_1 : decode cX12_nestFirst 1 = .ok (.getfield 3, 3) := dk_180 0 3 (dk_at dksX12_nestFirst_0 1 rfl rfl)
theorem dX12_nestFirst_4 : decode cX12_nestFirst 4 = .ok (.getfield 37, 3) := dk_180 0 37 (dk_at dksX12_nestFirst_0 4 rfl rfl)
theorem dX12_nestFirst_7 : decode cX12_nestFirst 7 = .ok (.invokevirtual 41, 3) := dk_182 0 41 (dk_at dksX12_nestFirst_0 7 rfl rfl)
theorem dX12_nestFirst_10 : decode cX12_nestFirst 10 = .ok (.iconst 0, 1) := dk_3 (dk_at dksX12_nestFirst_0 10 rfl rfl)
theorem dX12_nestFirst_11 : decode cX12_nestFirst 11 = .ok (.istore_n 2, 1) := dk_61 (dk_at dksX12_nestFirst_0 11 rfl rfl)
theorem dX12_nestFirst_12 : decode cX12_nestFirst 12 = .ok (.iload_n 2, 1) := dk_28 (dk_at dksX12_nestFirst_0 12 rfl rfl)
theorem dX12_nestFirst_13 : decode cX12_nestFirst 13 = .ok (.iload_n 1, 1) := dk_27 (dk_at dksX12_nestFirst_0 13 rfl rfl)
theorem dX12_nestFirst_14 : decode cX12_nestFirst 14 = .ok (.if_icmp .ge 77, 3) := dk_162 0 77 (dk_at dksX12_nestFirst_0 14 rfl rfl)
theorem dX12_nestFirst_17 : decode cX12_nestFirst 17 = .ok (.aload_n 0, 1) := dk_42 (dk_at dksX12_nestFirst_0 17 rfl rfl)
theorem dX12_nestFirst_18 : decode cX12_nestFirst 18 = .ok (.getfield 19, 3) := dk_180 0 19 (dk_at dksX12_nestFirst_0 18 rfl rfl)
theorem dX12_nestFirst_21 : decode cX12_nestFirst 21 = .ok (.aload_n 0, 1) := dk_42 (dk_at dksX12_nestFirst_0 21 rfl rfl)
theorem dX12_nestFirst_22 : decode cX12_nestFirst 22 = .ok (.getfield 33, 3) := dk_180 0 33 (dk_at dksX12_nestFirst_1 0 rfl rfl)
theorem dX12_nestFirst_25 : decode cX12_nestFirst 25 = .ok (.iload_n 2, 1) := dk_28 (dk_at dksX12_nestFirst_1 3 rfl rfl)
theorem dX12_nestFirst_26 : decode cX12_nestFirst 26 = .ok (.iaload, 1) := dk_46 (dk_at dksX12_nestFirst_1 4 rfl rfl)
theorem dX12_nestFirst_27 : decode cX12_nestFirst 27 = .ok (.invokeinterface 46 2, 5) := by decide +kernel
theorem dX12_nestFirst_32 : decode cX12_nestFirst 32 = .ok (.checkcast 50, 3) := dk_192 0 50 (dk_at dksX12_nestFirst_1 10 rfl rfl)
theorem dX12_nestFirst_35 : decode cX12_nestFirst 35 = .ok (.astore_n 3, 1) := dk_78 (dk_at dksX12_nestFirst_1 13 rfl rfl)
theorem dX12_nestFirst_36 : decode cX12_nestFirst 36 = .ok (.aload_n 0, 1) := dk_42 (dk_at dksX12_nestFirst_1 14 rfl rfl)
theorem dX12_nestFirst_37 : decode cX12_nestFirst 37 = .ok (.getfield 3, 3) := dk_180 0 3 (dk_at dksX12_nestFirst_1 15 rfl rfl)
theorem dX12_nestFirst_40 : decode cX12_nestFirst 40 = .ok (.getfield 52, 3) := dk_180 0 52 (dk_at dksX12_nestFirst_1 18 rfl rfl)
theorem dX12_nestFirst_43 : decode cX12_nestFirst 43 = .ok (.aload_n 3, 1) := dk_45 (dk_at dksX12_nestFirst_1 21 rfl rfl)
theorem dX12_nestFirst_44 : decode cX12_nestFirst 44 = .ok (.getfield 56, 3) := dk_180 0 56 (dk_at dksX12_nestFirst_2 0 rfl rfl)
theorem dX12_nestFirst_47 : decode cX12_nestFirst 47 = .ok (.aload_n 3, 1) := dk_45 (dk_at dksX12_nestFirst_2 3 rfl rfl)
theorem dX12_nestFirst_48 : decode cX12_nestFirst 48 = .ok (.getfield 60, 3) := dk_180 0 60 (dk_at dksX12_nestFirst_2 4 rfl rfl)
theorem dX12_nestFirst_51 : decode cX12_nestFirst 51 = .ok (.invokevirtual 63, 3) := dk_182 0 63 (dk_at dksX12_nestFirst_2 7 rfl rfl)
theorem dX12_nestFirst_54 : decode cX12_nestFirst 54 = .ok (.aload_n 0, 1) := dk_42 (dk_at dksX12_nestFirst_2 10 rfl rfl)
theorem dX12_nestFirst_55 : decode cX12_nestFirst 55 = .ok (.getfield 3, 3) := dk_180 0 3 (dk_at dksX12_nestFirst_2 11 rfl rfl)
theorem dX12_nestFirst_58 : decode cX12_nestFirst 58 = .ok (.aload_n 0, 1) := dk_42 (dk_at dksX12_nestFirst_2 14 rfl rfl)
theorem dX12_nestFirst_59 : decode cX12_nestFirst 59 = .ok (.getfield 3, 3) := dk_180 0 3 (dk_at dksX12_nestFirst_2 15 rfl rfl)
theorem dX12_nestFirst_62 : decode cX12_nestFirst 62 = .ok (.getfield 37, 3) := dk_180 0 37 (dk_at dksX12_nestFirst_2 18 rfl rfl)
theorem dX12_nestFirst_65 : decode cX12_nestFirst 65 = .ok (.invokevirtual 69, 3) := dk_182 0 69 (dk_at dksX12_nestFirst_2 21 rfl rfl)
theorem dX12_nestFirst_68 : decode cX12_nestFirst 68 = .ok (.ifCond .ne 6, 3) := dk_154 0 6 (dk_at dksX12_nestFirst_3 0 rfl rfl)
theorem dX12_nestFirst_71 : decode cX12_nestFirst 71 = .ok (.bipush 61, 2) := dk_16 61 (dk_at dksX12_nestFirst_3 3 rfl rfl)
theorem dX12_nestFirst_73 : decode cX12_nestFirst 73 = .ok (.ireturn, 1) := dk_172 (dk_at dksX12_nestFirst_3 5 rfl rfl)
theorem dX12_nestFirst_74 : decode cX12_nestFirst 74 = .ok (.aload_n 0, 1) := dk_42 (dk_at dksX12_nestFirst_3 6 rfl rfl)
theorem dX12_nestFirst_75 : decode cX12_nestFirst 75 = .ok (.getfield 3, 3) := dk_180 0 3 (dk_at dksX12_nestFirst_3 7 rfl rfl)
theorem dX12_nestFirst_78 : decode cX12_nestFirst 78 = .ok (.getfield 37, 3) := dk_180 0 37 (dk_at dksX12_nestFirst_3 10 rfl rfl)
theorem dX12_nestFirst_81 : decode cX12_nestFirst 81 = .ok (.iload_n 2, 1) := dk_28 (dk_at dksX12_nestFirst_3 13 rfl rfl)
theorem dX12_nestFirst_82 : decode cX12_nestFirst 82 = .ok (.invokevirtual 73, 3) := dk_182 0 73 (dk_at dksX12_nestFirst_3 14 rfl rfl)
theorem dX12_nestFirst_85 : decode cX12_nestFirst 85 = .ok (.iinc 2 1, 3) := dk_132 2 1 (dk_at dksX12_nestFirst_3 17 rfl rfl)
theorem dX12_nestFirst_88 : decode cX12_nestFirst 88 = .ok (.goto (-76), 3) := dk_167 255 180 (dk_at dksX12_nestFirst_3 20 rfl rfl)
theorem dX12_nestFirst_91 : decode cX12_nestFirst 91 = .ok (.aload_n 0, 1) := dk_42 (dk_at dksX12_nestFirst_3 23 rfl rfl)
theorem dX12_nestFirst_92 : decode cX12_nestFirst 92 = .ok (.getfield 3, 3) := dk_180 0 3 (dk_at dksX12_nestFirst_4 0 rfl rfl)
theorem dX12_nestFirst_95 : decode cX12_nestFirst 95 = .ok (.getfield 37, 3) := dk_180 0 37 (dk_at dksX12_nestFirst_4 3 rfl rfl)
theorem dX12_nestFirst_98 : decode cX12_nestFirst 98 = .ok (.getfield 77, 3) := dk_180 0 77 (dk_at dksX12_nestFirst_4 6 rfl rfl)
theorem dX12_nestFirst_101 : decode cX12_nestFirst 101 = .ok (.ireturn, 1) := dk_172 (dk_at dksX12_nestFirst_4 9 rfl rfl)
abbrev cX12_isInOrder : ByteArray := prog_4_method_2_code
def yX12_isInOrder : MethodName := ⟨RX12, "isInOrder", "(II)Z"⟩
def dkwX12_isInOrder_1 : List UInt8 := [167, 255, 236, 3, 172]
abbrev dktX12_isInOrder_1 : List UInt8 := dkwX12_isInOrder_1 ++ []
def dkwX12_isInOrder_0 : List UInt8 := [3, 62, 29, 28, 162, 0, 21, 42, 180, 0, 33, 29, 46, 27, 160, 0, 5, 4, 172, 132, 3, 1]
abbrev dktX12_isInOrder_0 : List UInt8 := dkwX12_isInOrder_0 ++ dktX12_isInOrder_1
theorem dksX12_isInOrder_0 : cX12_isInOrder.data.toList.drop 0 = dktX12_isInOrder_0 := by decide +kernel
theorem dksX12_isInOrder_1 : cX12_isInOrder.data.toList.drop 22 = dktX12_isInOrder_1 := dk_seg dksX12_isInOrder_0 22 rfl rfl
theorem dX12_isInOrder_0 : decode cX12_isInOrder 0 = .ok (.iconst 0, 1) := dk_3 (dk_at dksX12_isInOrder_0 0 rfl rfl)
theorem dX12_isInOrder_1 : decode cX12_isInOrder 1 = .ok (.istore_n 3, 1) := dk_62 (dk_at dksX12_isInOrder_0 1 rfl rfl)
theorem dX12_isInOrder_2 : decode cX12_isInOrder 2 = .ok (.iload_n 3, 1) := dk_29 (dk_at dksX12_isInOrder_0 2 rfl rfl)
theorem dX12_isInOrder_3 : decode cX12_isInOrder 3 = .ok (.iload_n 2, 1) := dk_28 (dk_at dksX12_isInOrder_0 3 rfl rfl)
theorem dX12_isInOrder_4 : decode cX12_isInOrder 4 = .ok (.if_icmp .ge 21, 3) := dk_162 0 21 (dk_at dksX12_isInOrder_0 4 rfl rfl)
theorem dX12_isInOrder_7 : decode cX12_isInOrder 7 = .ok (.aload_n 0, 1) := dk_42 (dk_at dksX12_isInOrder_0 7 rfl rfl)
theorem dX12_isInOrder_8 : decode cX12_isInOrder 8 = .ok (.getfield 33, 3) := dk_180 0 33 (dk_at dksX12_isInOrder_0 8 rfl rfl)
theorem dX12_isInOrder_11 : decode cX12_isInOrder 11 = .ok (.iload_n 3, 1) := dk_29 (dk_at dksX12_isInOrder_0 11 rfl rfl)
theorem dX12_isInOrder_12 : decode cX12_isInOrder 12 = .ok (.iaload, 1) := dk_46 (dk_at dksX12_isInOrder_0 12 rfl rfl)
theorem dX12_isInOrder_13 : decode cX12_isInOrder 13 = .ok (.iload_n 1, 1) := dk_27 (dk_at dksX12_isInOrder_0 13 rfl rfl)
theorem dX12_isInOrder_14 : decode cX12_isInOrder 14 = .ok (.if_icmp .ne 5, 3) := dk_160 0 5 (dk_at dksX12_isInOrder_0 14 rfl rfl)
theorem dX12_isInOrder_17 : decode cX12_isInOrder 17 = .ok (.iconst 1, 1) := dk_4 (dk_at dksX12_isInOrder_0 17 rfl rfl)
theorem dX12_isInOrder_18 : decode cX12_isInOrder 18 = .ok (.ireturn, 1) := dk_172 (dk_at dksX12_isInOrder_0 18 rfl rfl)
theorem dX12_isInOrder_19 : decode cX12_isInOrder 19 = .ok (.iinc 3 1, 3) := dk_132 3 1 (dk_at dksX12_isInOrder_0 19 rfl rfl)
theorem dX12_isInOrder_22 : decode cX12_isInOrder 22 = .ok (.goto (-20), 3) := dk_167 255 236 (dk_at dksX12_isInOrder_1 0 rfl rfl)
theorem dX12_isInOrder_25 : decode cX12_isInOrder 25 = .ok (.iconst 0, 1) := dk_3 (dk_at dksX12_isInOrder_1 3 rfl rfl)
theorem dX12_isInOrder_26 : decode cX12_isInOrder 26 = .ok (.ireturn, 1) := dk_172 (dk_at dksX12_isInOrder_1 4 rfl rfl)
theorem q98 : (Jvm.Cond.initialized "CuttingRoom$Orders") ∈ lw_all := lw_g (lw_at lw_m1 33 rfl) rfl
theorem q186 : (Jvm.Cond.fieldLinkNest "CuttingRoom$Orders" (77 : Nat) "CuttingRoom$Sheet" "length" "I" "CuttingRoom") ∈ lw_tbl := lw_at lw_m1 121 rfl
theorem q321 : (Jvm.Cond.fieldLinkNest "CuttingRoom$Orders" (52 : Nat) "CuttingRoom" "spot" "LCuttingRoom$Spot;" "CuttingRoom") ∈ lw_tbl := lw_at lw_m2 16 rfl
theorem q325 : (Jvm.Cond.fieldLinkNest "CuttingRoom$Orders" (37 : Nat) "CuttingRoom" "trial" "LCuttingRoom$Sheet;" "CuttingRoom") ∈ lw_tbl := lw_at lw_m2 20 rfl
theorem q783 : (Jvm.Cond.selects "CuttingRoom$Orders" ({ cls := "java/lang/Object", name := "getClass", desc := "()Ljava/lang/Class;" } : Jvm.MethodName) ({ cls := "java/lang/Object", name := "getClass", desc := "()Ljava/lang/Class;" } : Jvm.MethodName)) ∈ lw_all := lw_g (lw_at lw_m3 238 rfl) rfl
theorem q1026 : (Jvm.Cond.selects "CuttingRoom$Orders" ({ cls := "java/lang/Object", name := "equals", desc := "(Ljava/lang/Object;)Z" } : Jvm.MethodName) ({ cls := "java/lang/Object", name := "equals", desc := "(Ljava/lang/Object;)Z" } : Jvm.MethodName)) ∈ lw_all := lw_g (lw_at lw_m5 1 rfl) rfl
theorem q1194 : (Jvm.Cond.fieldLinkNest "CuttingRoom$Orders" (56 : Nat) "CuttingRoom$Sort" "shape" "LCuttingRoom$Shape;" "CuttingRoom") ∈ lw_tbl := lw_at lw_m5 169 rfl
theorem q1196 : (Jvm.Cond.fieldLinkNest "CuttingRoom$Orders" (60 : Nat) "CuttingRoom$Sort" "isMirrored" "Z" "CuttingRoom") ∈ lw_tbl := lw_at lw_m5 171 rfl
theorem q1203 : (Jvm.Cond.instantiable "CuttingRoom$Orders" (5 : Nat)) ∈ lw_all := lw_g (lw_at lw_m5 178 rfl) rfl
theorem q1205 : (Jvm.Cond.instanceMethod ({ cls := "CuttingRoom$Orders", name := "<init>", desc := "(LCuttingRoom;Ljava/util/List;Z)V" } : Jvm.MethodName)) ∈ lw_all := lw_g (lw_at lw_m5 180 rfl) rfl
theorem q1206 : (Jvm.Cond.code ({ cls := "CuttingRoom$Orders", name := "<init>", desc := "(LCuttingRoom;Ljava/util/List;Z)V" } : Jvm.MethodName) prog_4_method_1_code (4 : Nat) (Option.none : Option Jvm.ClassFile.FieldType)) ∈ lw_all := lw_g (lw_at lw_m5 181 rfl) rfl
theorem q1207 : (Jvm.Cond.methodLink "CuttingRoom$Orders" (9 : Nat) ({ cls := "java/lang/Object", name := "<init>", desc := "()V" } : Jvm.MethodName)) ∈ lw_all := lw_g (lw_at lw_m5 182 rfl) rfl
theorem q1208 : (Jvm.Cond.interfaceEntry "CuttingRoom$Orders" (27 : Nat)) ∈ lw_tbl := lw_at lw_m5 183 rfl
theorem q1209 : (Jvm.Cond.methodLink "CuttingRoom$Orders" (27 : Nat) ({ cls := "java/util/List", name := "size", desc := "()I" } : Jvm.MethodName)) ∈ lw_all := lw_g (lw_at lw_m5 184 rfl) rfl
theorem q1210 : (Jvm.Cond.fieldLink "CuttingRoom$Orders" (19 : Nat) "CuttingRoom$Orders" "sorts" "Ljava/util/List;") ∈ lw_all := lw_g (lw_at lw_m5 185 rfl) rfl
theorem q1211 : (Jvm.Cond.fieldLink "CuttingRoom$Orders" (23 : Nat) "CuttingRoom$Orders" "isGivingUp" "Z") ∈ lw_all := lw_g (lw_at lw_m5 186 rfl) rfl
theorem q1212 : (Jvm.Cond.fieldLink "CuttingRoom$Orders" (33 : Nat) "CuttingRoom$Orders" "order" "[I") ∈ lw_all := lw_g (lw_at lw_m5 187 rfl) rfl
theorem q1213 : (Jvm.Cond.fieldLink "CuttingRoom$Orders" (15 : Nat) "CuttingRoom$Orders" "least" "I") ∈ lw_all := lw_g (lw_at lw_m5 188 rfl) rfl
theorem q1215 : (Jvm.Cond.fieldLink "CuttingRoom$Orders" (3 : Nat) "CuttingRoom$Orders" "this$0" "LCuttingRoom;") ∈ lw_all := lw_g (lw_at lw_m5 190 rfl) rfl
theorem q1216 : (Jvm.Cond.laysFinal "CuttingRoom$Orders" "CuttingRoom$Orders" "sorts" "Ljava/util/List;") ∈ lw_all := lw_g (lw_at lw_m5 191 rfl) rfl
theorem q1217 : (Jvm.Cond.soleField "CuttingRoom$Orders" "sorts") ∈ lw_all := lw_g (lw_at lw_m5 192 rfl) rfl
theorem q1218 : (Jvm.Cond.laysFinal "CuttingRoom$Orders" "CuttingRoom$Orders" "isGivingUp" "Z") ∈ lw_all := lw_g (lw_at lw_m5 193 rfl) rfl
theorem q1219 : (Jvm.Cond.soleField "CuttingRoom$Orders" "isGivingUp") ∈ lw_all := lw_g (lw_at lw_m5 194 rfl) rfl
theorem q1220 : (Jvm.Cond.laysFinal "CuttingRoom$Orders" "CuttingRoom$Orders" "order" "[I") ∈ lw_all := lw_g (lw_at lw_m5 195 rfl) rfl
theorem q1221 : (Jvm.Cond.soleField "CuttingRoom$Orders" "order") ∈ lw_all := lw_g (lw_at lw_m5 196 rfl) rfl
theorem q1222 : (Jvm.Cond.lays "CuttingRoom$Orders" "CuttingRoom$Orders" "least" "I") ∈ lw_all := lw_g (lw_at lw_m5 197 rfl) rfl
theorem q1223 : (Jvm.Cond.soleField "CuttingRoom$Orders" "least") ∈ lw_all := lw_g (lw_at lw_m5 198 rfl) rfl
theorem q1224 : (Jvm.Cond.laysFinal "CuttingRoom$Orders" "CuttingRoom$Orders" "this$0" "LCuttingRoom;") ∈ lw_all := lw_g (lw_at lw_m5 199 rfl) rfl
theorem q1225 : (Jvm.Cond.soleField "CuttingRoom$Orders" "this$0") ∈ lw_all := lw_g (lw_at lw_m5 200 rfl) rfl
theorem q1226 : (Jvm.Cond.superclass "CuttingRoom$Orders" "java/lang/Object") ∈ lw_all := lw_g (lw_at lw_m5 201 rfl) rfl
theorem q1228 : (Jvm.Cond.instanceMethod ({ cls := "CuttingRoom$Orders", name := "tryFrom", desc := "(I)V" } : Jvm.MethodName)) ∈ lw_all := lw_g (lw_at lw_m5 203 rfl) rfl
theorem q1229 : (Jvm.Cond.selects "CuttingRoom$Orders" ({ cls := "CuttingRoom$Orders", name := "tryFrom", desc := "(I)V" } : Jvm.MethodName) ({ cls := "CuttingRoom$Orders", name := "tryFrom", desc := "(I)V" } : Jvm.MethodName)) ∈ lw_all := lw_g (lw_at lw_m5 204 rfl) rfl
theorem q1230 : (Jvm.Cond.code ({ cls := "CuttingRoom$Orders", name := "tryFrom", desc := "(I)V" } : Jvm.MethodName) prog_4_method_4_code (3 : Nat) (Option.none : Option Jvm.ClassFile.FieldType)) ∈ lw_all := lw_g (lw_at lw_m5 205 rfl) rfl
theorem q1231 : (Jvm.Cond.methodLink "CuttingRoom$Orders" (80 : Nat) ({ cls := "CuttingRoom$Orders", name := "nestFirst", desc := "(I)I" } : Jvm.MethodName)) ∈ lw_all := lw_g (lw_at lw_m5 206 rfl) rfl
theorem q1232 : (Jvm.Cond.privateMethod ({ cls := "CuttingRoom$Orders", name := "nestFirst", desc := "(I)I" } : Jvm.MethodName)) ∈ lw_tbl := lw_at lw_m5 207 rfl
theorem q1233 : (Jvm.Cond.instanceMethod ({ cls := "CuttingRoom$Orders", name := "nestFirst", desc := "(I)I" } : Jvm.MethodName)) ∈ lw_all := lw_g (lw_at lw_m5 208 rfl) rfl
theorem q1234 : (Jvm.Cond.code ({ cls := "CuttingRoom$Orders", name := "nestFirst", desc := "(I)I" } : Jvm.MethodName) prog_4_method_3_code (4 : Nat) (Option.some Jvm.ClassFile.FieldType.int)) ∈ lw_all := lw_g (lw_at lw_m5 209 rfl) rfl
theorem q1235 : (Jvm.Cond.methodLink "CuttingRoom$Orders" (41 : Nat) ({ cls := "CuttingRoom$Sheet", name := "clear", desc := "()V" } : Jvm.MethodName)) ∈ lw_all := lw_g (lw_at lw_m5 210 rfl) rfl
theorem q1236 : (Jvm.Cond.interfaceEntry "CuttingRoom$Orders" (46 : Nat)) ∈ lw_tbl := lw_at lw_m5 211 rfl
theorem q1237 : (Jvm.Cond.methodLink "CuttingRoom$Orders" (46 : Nat) ({ cls := "java/util/List", name := "get", desc := "(I)Ljava/lang/Object;" } : Jvm.MethodName)) ∈ lw_all := lw_g (lw_at lw_m5 212 rfl) rfl
theorem q1238 : (Jvm.Cond.classLink "CuttingRoom$Orders" (50 : Nat) "CuttingRoom$Sort") ∈ lw_all := lw_g (lw_at lw_m5 213 rfl) rfl
theorem q1239 : (Jvm.Cond.methodLink "CuttingRoom$Orders" (63 : Nat) ({ cls := "CuttingRoom$Spot", name := "choose", desc := "(LCuttingRoom$Shape;Z)V" } : Jvm.MethodName)) ∈ lw_all := lw_g (lw_at lw_m5 214 rfl) rfl
theorem q1240 : (Jvm.Cond.methodLinkNest "CuttingRoom$Orders" (69 : Nat) ({ cls := "CuttingRoom", name := "findNest", desc := "(LCuttingRoom$Sheet;)Z" } : Jvm.MethodName) "CuttingRoom") ∈ lw_tbl := lw_at lw_m5 215 rfl
theorem q1241 : (Jvm.Cond.methodLink "CuttingRoom$Orders" (73 : Nat) ({ cls := "CuttingRoom$Sheet", name := "put", desc := "(I)V" } : Jvm.MethodName)) ∈ lw_all := lw_g (lw_at lw_m5 216 rfl) rfl
theorem q1242 : (Jvm.Cond.methodLink "CuttingRoom$Orders" (84 : Nat) ({ cls := "java/lang/Math", name := "min", desc := "(II)I" } : Jvm.MethodName)) ∈ lw_all := lw_g (lw_at lw_m5 217 rfl) rfl
theorem q1243 : (Jvm.Cond.methodLink "CuttingRoom$Orders" (90 : Nat) ({ cls := "CuttingRoom$Orders", name := "isInOrder", desc := "(II)Z" } : Jvm.MethodName)) ∈ lw_all := lw_g (lw_at lw_m5 218 rfl) rfl
theorem q1244 : (Jvm.Cond.privateMethod ({ cls := "CuttingRoom$Orders", name := "isInOrder", desc := "(II)Z" } : Jvm.MethodName)) ∈ lw_tbl := lw_at lw_m5 219 rfl
theorem q1245 : (Jvm.Cond.instanceMethod ({ cls := "CuttingRoom$Orders", name := "isInOrder", desc := "(II)Z" } : Jvm.MethodName)) ∈ lw_all := lw_g (lw_at lw_m5 220 rfl) rfl
theorem q1246 : (Jvm.Cond.code ({ cls := "CuttingRoom$Orders", name := "isInOrder", desc := "(II)Z" } : Jvm.MethodName) prog_4_method_2_code (4 : Nat) (Option.some Jvm.ClassFile.FieldType.boolean)) ∈ lw_all := lw_g (lw_at lw_m5 221 rfl) rfl
theorem q1247 : (Jvm.Cond.methodLink "CuttingRoom$Orders" (94 : Nat) ({ cls := "CuttingRoom$Orders", name := "tryFrom", desc := "(I)V" } : Jvm.MethodName)) ∈ lw_all := lw_g (lw_at lw_m5 222 rfl) rfl
theorem q1855 : (Jvm.Cond.castable "CuttingRoom$Orders" "java/lang/Object") ∈ lw_tbl := lw_at lw_m8 110 rfl
theorem in_X12 : ∀ w ∈ wsX120, w ∈ lw_all := lw_in wsX120 [1216, 1218, 1220, 1222, 1224] (by decide +kernel) (by decide +kernel)

/-! CuttingRoom$Rule$1 -/
set_option maxRecDepth 100000
def RX13 : String := "CuttingRoom$Rule$1"
abbrev cX13_allows : ByteArray := prog_8_method_2_code
def yX13_allows : MethodName := ⟨RX13, "allows", "(I)Z"⟩
def dkwX13_allows_0 : List UInt8 := [27, 154, 0, 7, 4, 167, 0, 4, 3, 172]
abbrev dktX13_allows_0 : List UInt8 := dkwX13_allows_0 ++ []
theorem dksX13_allows_0 : cX13_allows.data.toList.drop 0 = dktX13_allows_0 := by decide +kernel
theorem dX13_allows_0 : decode cX13_allows 0 = .ok (.iload_n 1, 1) := dk_27 (dk_at dksX13_allows_0 0 rfl rfl)
theorem dX13_allows_1 : decode cX13_allows 1 = .ok (.ifCond .ne 7, 3) := dk_154 0 7 (dk_at dksX13_allows_0 1 rfl rfl)
theorem dX13_allows_4 : decode cX13_allows 4 = .ok (.iconst 1, 1) := dk_4 (dk_at dksX13_allows_0 4 rfl rfl)
theorem dX13_allows_5 : decode cX13_allows 5 = .ok (.goto 4, 3) := dk_167 0 4 (dk_at dksX13_allows_0 5 rfl rfl)
theorem dX13_allows_8 : decode cX13_allows 8 = .ok (.iconst 0, 1) := dk_3 (dk_at dksX13_allows_0 8 rfl rfl)
theorem dX13_allows_9 : decode cX13_allows 9 = .ok (.ireturn, 1) := dk_172 (dk_at dksX13_allows_0 9 rfl rfl)
theorem q228 : (Jvm.Cond.selects "CuttingRoom$Rule$1" ({ cls := "CuttingRoom$Rule", name := "allows", desc := "(I)Z" } : Jvm.MethodName) ({ cls := "CuttingRoom$Rule$1", name := "allows", desc := "(I)Z" } : Jvm.MethodName)) ∈ lw_all := lw_g (lw_at lw_m1 163 rfl) rfl
theorem q229 : (Jvm.Cond.instanceMethod ({ cls := "CuttingRoom$Rule$1", name := "allows", desc := "(I)Z" } : Jvm.MethodName)) ∈ lw_all := lw_g (lw_at lw_m1 164 rfl) rfl
theorem q230 : (Jvm.Cond.code ({ cls := "CuttingRoom$Rule$1", name := "allows", desc := "(I)Z" } : Jvm.MethodName) prog_8_method_2_code (2 : Nat) (Option.some Jvm.ClassFile.FieldType.boolean)) ∈ lw_all := lw_g (lw_at lw_m1 165 rfl) rfl
theorem q786 : (Jvm.Cond.selects "CuttingRoom$Rule$1" ({ cls := "java/lang/Object", name := "getClass", desc := "()Ljava/lang/Class;" } : Jvm.MethodName) ({ cls := "java/lang/Object", name := "getClass", desc := "()Ljava/lang/Class;" } : Jvm.MethodName)) ∈ lw_all := lw_g (lw_at lw_m4 1 rfl) rfl
theorem q1029 : (Jvm.Cond.selects "CuttingRoom$Rule$1" ({ cls := "java/lang/Object", name := "equals", desc := "(Ljava/lang/Object;)Z" } : Jvm.MethodName) ({ cls := "java/lang/Enum", name := "equals", desc := "(Ljava/lang/Object;)Z" } : Jvm.MethodName)) ∈ lw_all := lw_g (lw_at lw_m5 4 rfl) rfl
theorem q1843 : (Jvm.Cond.castable "CuttingRoom$Rule$1" "java/lang/Object") ∈ lw_tbl := lw_at lw_m8 98 rfl

/-! CuttingRoom$Rule$2 -/
set_option maxRecDepth 100000
def RX14 : String := "CuttingRoom$Rule$2"
abbrev cX14_allows : ByteArray := prog_9_method_2_code
def yX14_allows : MethodName := ⟨RX14, "allows", "(I)Z"⟩
def dkwX14_allows_0 : List UInt8 := [27, 5, 112, 154, 0, 7, 4, 167, 0, 4, 3, 172]
abbrev dktX14_allows_0 : List UInt8 := dkwX14_allows_0 ++ []
theorem dksX14_allows_0 : cX14_allows.data.toList.drop 0 = dktX14_allows_0 := by decide +kernel
theorem dX14_allows_0 : decode cX14_allows 0 = .ok (.iload_n 1, 1) := dk_27 (dk_at dksX14_allows_0 0 rfl rfl)
theorem dX14_allows_1 : decode cX14_allows 1 = .ok (.iconst 2, 1) := dk_5 (dk_at dksX14_allows_0 1 rfl rfl)
theorem dX14_allows_2 : decode cX14_allows 2 = .ok (.irem, 1) := dk_112 (dk_at dksX14_allows_0 2 rfl rfl)
theorem dX14_allows_3 : decode cX14_allows 3 = .ok (.ifCond .ne 7, 3) := dk_154 0 7 (dk_at dksX14_allows_0 3 rfl rfl)
theorem dX14_allows_6 : decode cX14_allows 6 = .ok (.iconst 1, 1) := dk_4 (dk_at dksX14_allows_0 6 rfl rfl)
theorem dX14_allows_7 : decode cX14_allows 7 = .ok (.goto 4, 3) := dk_167 0 4 (dk_at dksX14_allows_0 7 rfl rfl)
theorem dX14_allows_10 : decode cX14_allows 10 = .ok (.iconst 0, 1) := dk_3 (dk_at dksX14_allows_0 10 rfl rfl)
theorem dX14_allows_11 : decode cX14_allows 11 = .ok (.ireturn, 1) := dk_172 (dk_at dksX14_allows_0 11 rfl rfl)
theorem q231 : (Jvm.Cond.selects "CuttingRoom$Rule$2" ({ cls := "CuttingRoom$Rule", name := "allows", desc := "(I)Z" } : Jvm.MethodName) ({ cls := "CuttingRoom$Rule$2", name := "allows", desc := "(I)Z" } : Jvm.MethodName)) ∈ lw_all := lw_g (lw_at lw_m1 166 rfl) rfl
theorem q232 : (Jvm.Cond.instanceMethod ({ cls := "CuttingRoom$Rule$2", name := "allows", desc := "(I)Z" } : Jvm.MethodName)) ∈ lw_all := lw_g (lw_at lw_m1 167 rfl) rfl
theorem q233 : (Jvm.Cond.code ({ cls := "CuttingRoom$Rule$2", name := "allows", desc := "(I)Z" } : Jvm.MethodName) prog_9_method_2_code (2 : Nat) (Option.some Jvm.ClassFile.FieldType.boolean)) ∈ lw_all := lw_g (lw_at lw_m1 168 rfl) rfl
theorem q787 : (Jvm.Cond.selects "CuttingRoom$Rule$2" ({ cls := "java/lang/Object", name := "getClass", desc := "()Ljava/lang/Class;" } : Jvm.MethodName) ({ cls := "java/lang/Object", name := "getClass", desc := "()Ljava/lang/Class;" } : Jvm.MethodName)) ∈ lw_all := lw_g (lw_at lw_m4 2 rfl) rfl
theorem q1032 : (Jvm.Cond.selects "CuttingRoom$Rule$2" ({ cls := "java/lang/Object", name := "equals", desc := "(Ljava/lang/Object;)Z" } : Jvm.MethodName) ({ cls := "java/lang/Enum", name := "equals", desc := "(Ljava/lang/Object;)Z" } : Jvm.MethodName)) ∈ lw_all := lw_g (lw_at lw_m5 7 rfl) rfl
theorem q1844 : (Jvm.Cond.castable "CuttingRoom$Rule$2" "java/lang/Object") ∈ lw_tbl := lw_at lw_m8 99 rfl

/-! CuttingRoom$Rule$3 -/
set_option maxRecDepth 100000
def RX15 : String := "CuttingRoom$Rule$3"
abbrev cX15_allows : ByteArray := prog_10_method_2_code
def yX15_allows : MethodName := ⟨RX15, "allows", "(I)Z"⟩
theorem dX15_allows_0 : decode cX15_allows 0 = .ok (.iconst 1, 1) := by decide +kernel
theorem dX15_allows_1 : decode cX15_allows 1 = .ok (.ireturn, 1) := by decide +kernel
theorem q234 : (Jvm.Cond.selects "CuttingRoom$Rule$3" ({ cls := "CuttingRoom$Rule", name := "allows", desc := "(I)Z" } : Jvm.MethodName) ({ cls := "CuttingRoom$Rule$3", name := "allows", desc := "(I)Z" } : Jvm.MethodName)) ∈ lw_all := lw_g (lw_at lw_m1 169 rfl) rfl
theorem q235 : (Jvm.Cond.instanceMethod ({ cls := "CuttingRoom$Rule$3", name := "allows", desc := "(I)Z" } : Jvm.MethodName)) ∈ lw_all := lw_g (lw_at lw_m1 170 rfl) rfl
theorem q236 : (Jvm.Cond.code ({ cls := "CuttingRoom$Rule$3", name := "allows", desc := "(I)Z" } : Jvm.MethodName) prog_10_method_2_code (2 : Nat) (Option.some Jvm.ClassFile.FieldType.boolean)) ∈ lw_all := lw_g (lw_at lw_m1 171 rfl) rfl
theorem q788 : (Jvm.Cond.selects "CuttingRoom$Rule$3" ({ cls := "java/lang/Object", name := "getClass", desc := "()Ljava/lang/Class;" } : Jvm.MethodName) ({ cls := "java/lang/Object", name := "getClass", desc := "()Ljava/lang/Class;" } : Jvm.MethodName)) ∈ lw_all := lw_g (lw_at lw_m4 3 rfl) rfl
theorem q1033 : (Jvm.Cond.selects "CuttingRoom$Rule$3" ({ cls := "java/lang/Object", name := "equals", desc := "(Ljava/lang/Object;)Z" } : Jvm.MethodName) ({ cls := "java/lang/Enum", name := "equals", desc := "(Ljava/lang/Object;)Z" } : Jvm.MethodName)) ∈ lw_all := lw_g (lw_at lw_m5 8 rfl) rfl
theorem q1845 : (Jvm.Cond.castable "CuttingRoom$Rule$3" "java/lang/Object") ∈ lw_tbl := lw_at lw_m8 100 rfl

/-! CuttingRoom$Spot -/
set_option maxRecDepth 100000
def RX2 : String := "CuttingRoom$Spot"
def TX2 : u_T := fun k => match k with
  | 0 => ("CuttingRoom$Spot", "shape", "LCuttingRoom$Shape;", false)
  | 1 => ("CuttingRoom$Spot", "turns", "I", false)
  | 2 => ("CuttingRoom$Spot", "isMirrored", "Z", false)
  | 3 => ("CuttingRoom$Spot", "row", "I", false)
  | _ => ("CuttingRoom$Spot", "column", "I", false)
def tyX2 : Nat → FieldType := fun k => match k with
  | 0 => .object "CuttingRoom$Shape"
  | 1 => .int
  | 2 => .boolean
  | 3 => .int
  | _ => .int
abbrev wsX20 : List Cond := u_ws RX2 TX2 5
theorem nmX2 : ∀ a, a < 5 → ∀ b, b < 5 → a ≠ b → (TX2 a).2.1 ≠ (TX2 b).2.1 := by decide +kernel
theorem tyX2_ok : ∀ k, k < 5 → parseFieldDescriptor (TX2 k).2.2.1 = some (tyX2 k) := by decide +kernel
abbrev cX2_init : ByteArray := prog_14_method_1_code
def yX2_init : MethodName := ⟨RX2, "<init>", "()V"⟩
theorem dX2_init_0 : decode cX2_init 0 = .ok (.aload_n 0, 1) := by decide +kernel
theorem dX2_init_1 : decode cX2_init 1 = .ok (.invokespecial 1, 3) := by decide +kernel
theorem dX2_init_4 : decode cX2_init 4 = .ok (.return_, 1) := by decide +kernel
abbrev cX2_cells : ByteArray := prog_14_method_6_code
def yX2_cells : MethodName := ⟨RX2, "cells", "()I"⟩
def dkwX2_cells_0 : List UInt8 := [42, 180, 0, 7, 180, 0, 48, 185, 0, 52, 1, 0, 172]
abbrev dktX2_cells_0 : List UInt8 := dkwX2_cells_0 ++ []
theorem dksX2_cells_0 : cX2_cells.data.toList.drop 0 = dktX2_cells_0 := by decide +kernel
theorem dX2_cells_0 : decode cX2_cells 0 = .ok (.aload_n 0, 1) := dk_42 (dk_at dksX2_cells_0 0 rfl rfl)
theorem dX2_cells_1 : decode cX2_cells 1 = .ok (.getfield 7, 3) := dk_180 0 7 (dk_at dksX2_cells_0 1 rfl rfl)
theorem dX2_cells_4 : decode cX2_cells 4 = .ok (.getfield 48, 3) := dk_180 0 48 (dk_at dksX2_cells_0 4 rfl rfl)
theorem dX2_cells_7 : decode cX2_cells 7 = .ok (.invokeinterface 52 1, 5) := by decide +kernel
theorem dX2_cells_12 : decode cX2_cells 12 = .ok (.ireturn, 1) := dk_172 (dk_at dksX2_cells_0 12 rfl rfl)
abbrev cX2_rowOf : ByteArray := prog_14_method_7_code
def yX2_rowOf : MethodName := ⟨RX2, "rowOf", "(I)I"⟩
def dkwX2_rowOf_0 : List UInt8 := [42, 180, 0, 21, 42, 182, 0, 58, 180, 0, 61, 27, 46, 96, 172]
abbrev dktX2_rowOf_0 : List UInt8 := dkwX2_rowOf_0 ++ []
theorem dksX2_rowOf_0 : cX2_rowOf.data.toList.drop 0 = dktX2_rowOf_0 := by decide +kernel
theorem dX2_rowOf_0 : decode cX2_rowOf 0 = .ok (.aload_n 0, 1) := dk_42 (dk_at dksX2_rowOf_0 0 rfl rfl)
theorem dX2_rowOf_1 : decode cX2_rowOf 1 = .ok (.getfield 21, 3) := dk_180 0 21 (dk_at dksX2_rowOf_0 1 rfl rfl)
theorem dX2_rowOf_4 : decode cX2_rowOf 4 = .ok (.aload_n 0, 1) := dk_42 (dk_at dksX2_rowOf_0 4 rfl rfl)
theorem dX2_rowOf_5 : decode cX2_rowOf 5 = .ok (.invokevirtual 58, 3) := dk_182 0 58 (dk_at dksX2_rowOf_0 5 rfl rfl)
theorem dX2_rowOf_8 : decode cX2_rowOf 8 = .ok (.getfield 61, 3) := dk_180 0 61 (dk_at dksX2_rowOf_0 8 rfl rfl)
theorem dX2_rowOf_11 : decode cX2_rowOf 11 = .ok (.iload_n 1, 1) := dk_27 (dk_at dksX2_rowOf_0 11 rfl rfl)
theorem dX2_rowOf_12 : decode cX2_rowOf 12 = .ok (.iaload, 1) := dk_46 (dk_at dksX2_rowOf_0 12 rfl rfl)
theorem dX2_rowOf_13 : decode cX2_rowOf 13 = .ok (.iadd, 1) := dk_96 (dk_at dksX2_rowOf_0 13 rfl rfl)
theorem dX2_rowOf_14 : decode cX2_rowOf 14 = .ok (.ireturn, 1) := dk_172 (dk_at dksX2_rowOf_0 14 rfl rfl)
abbrev cX2_variant : ByteArray := prog_14_method_5_code
def yX2_variant : MethodName := ⟨RX2, "variant", "()LCuttingRoom$Variant;"⟩
def dkwX2_variant_0 : List UInt8 := [42, 180, 0, 7, 42, 180, 0, 13, 42, 180, 0, 17, 182, 0, 42, 176]
abbrev dktX2_variant_0 : List UInt8 := dkwX2_variant_0 ++ []
theorem dksX2_variant_0 : cX2_variant.data.toList.drop 0 = dktX2_variant_0 := by decide +kernel
theorem dX2_variant_0 : decode cX2_variant 0 = .ok (.aload_n 0, 1) := dk_42 (dk_at dksX2_variant_0 0 rfl rfl)
theorem dX2_variant_1 : decode cX2_variant 1 = .ok (.getfield 7, 3) := dk_180 0 7 (dk_at dksX2_variant_0 1 rfl rfl)
theorem dX2_variant_4 : decode cX2_variant 4 = .ok (.aload_n 0, 1) := dk_42 (dk_at dksX2_variant_0 4 rfl rfl)
theorem dX2_variant_5 : decode cX2_variant 5 = .ok (.getfield 13, 3) := dk_180 0 13 (dk_at dksX2_variant_0 5 rfl rfl)
theorem dX2_variant_8 : decode cX2_variant 8 = .ok (.aload_n 0, 1) := dk_42 (dk_at dksX2_variant_0 8 rfl rfl)
theorem dX2_variant_9 : decode cX2_variant 9 = .ok (.getfield 17, 3) := dk_180 0 17 (dk_at dksX2_variant_0 9 rfl rfl)
theorem dX2_variant_12 : decode cX2_variant 12 = .ok (.invokevirtual 42, 3) := dk_182 0 42 (dk_at dksX2_variant_0 12 rfl rfl)
theorem dX2_variant_15 : decode cX2_variant 15 = .ok (.areturn, 1) := dk_176 (dk_at dksX2_variant_0 15 rfl rfl)
abbrev cX2_columnOf : ByteArray := prog_14_method_8_code
def yX2_columnOf : MethodName := ⟨RX2, "columnOf", "(I)I"⟩
def dkwX2_columnOf_0 : List UInt8 := [42, 180, 0, 24, 42, 182, 0, 58, 180, 0, 67, 27, 46, 96, 172]
abbrev dktX2_columnOf_0 : List UInt8 := dkwX2_columnOf_0 ++ []
theorem dksX2_columnOf_0 : cX2_columnOf.data.toList.drop 0 = dktX2_columnOf_0 := by decide +kernel
theorem dX2_columnOf_0 : decode cX2_columnOf 0 = .ok (.aload_n 0, 1) := dk_42 (dk_at dksX2_columnOf_0 0 rfl rfl)
theorem dX2_columnOf_1 : decode cX2_columnOf 1 = .ok (.getfield 24, 3) := dk_180 0 24 (dk_at dksX2_columnOf_0 1 rfl rfl)
theorem dX2_columnOf_4 : decode cX2_columnOf 4 = .ok (.aload_n 0, 1) := dk_42 (dk_at dksX2_columnOf_0 4 rfl rfl)
theorem dX2_columnOf_5 : decode cX2_columnOf 5 = .ok (.invokevirtual 58, 3) := dk_182 0 58 (dk_at dksX2_columnOf_0 5 rfl rfl)
theorem dX2_columnOf_8 : decode cX2_columnOf 8 = .ok (.getfield 67, 3) := dk_180 0 67 (dk_at dksX2_columnOf_0 8 rfl rfl)
theorem dX2_columnOf_11 : decode cX2_columnOf 11 = .ok (.iload_n 1, 1) := dk_27 (dk_at dksX2_columnOf_0 11 rfl rfl)
theorem dX2_columnOf_12 : decode cX2_columnOf 12 = .ok (.iaload, 1) := dk_46 (dk_at dksX2_columnOf_0 12 rfl rfl)
theorem dX2_columnOf_13 : decode cX2_columnOf 13 = .ok (.iadd, 1) := dk_96 (dk_at dksX2_columnOf_0 13 rfl rfl)
theorem dX2_columnOf_14 : decode cX2_columnOf 14 = .ok (.ireturn, 1) := dk_172 (dk_at dksX2_columnOf_0 14 rfl rfl)
abbrev cX2_markRow : ByteArray := prog_14_method_9_code
def yX2_markRow : MethodName := ⟨RX2, "markRow", "()I"⟩
def dkwX2_markRow_0 : List UInt8 := [42, 180, 0, 21, 42, 182, 0, 58, 180, 0, 70, 96, 172]
abbrev dktX2_markRow_0 : List UInt8 := dkwX2_markRow_0 ++ []
theorem dksX2_markRow_0 : cX2_markRow.data.toList.drop 0 = dktX2_markRow_0 := by decide +kernel
theorem dX2_markRow_0 : decode cX2_markRow 0 = .ok (.aload_n 0, 1) := dk_42 (dk_at dksX2_markRow_0 0 rfl rfl)
theorem dX2_markRow_1 : decode cX2_markRow 1 = .ok (.getfield 21, 3) := dk_180 0 21 (dk_at dksX2_markRow_0 1 rfl rfl)
theorem dX2_markRow_4 : decode cX2_markRow 4 = .ok (.aload_n 0, 1) := dk_42 (dk_at dksX2_markRow_0 4 rfl rfl)
theorem dX2_markRow_5 : decode cX2_markRow 5 = .ok (.invokevirtual 58, 3) := dk_182 0 58 (dk_at dksX2_markRow_0 5 rfl rfl)
theorem dX2_markRow_8 : decode cX2_markRow 8 = .ok (.getfield 70, 3) := dk_180 0 70 (dk_at dksX2_markRow_0 8 rfl rfl)
theorem dX2_markRow_11 : decode cX2_markRow 11 = .ok (.iadd, 1) := dk_96 (dk_at dksX2_markRow_0 11 rfl rfl)
theorem dX2_markRow_12 : decode cX2_markRow 12 = .ok (.ireturn, 1) := dk_172 (dk_at dksX2_markRow_0 12 rfl rfl)
abbrev cX2_choose : ByteArray := prog_14_method_2_code
def yX2_choose : MethodName := ⟨RX2, "choose", "(LCuttingRoom$Shape;Z)V"⟩
def dkwX2_choose_0 : List UInt8 := [42, 43, 181, 0, 7, 42, 28, 181, 0, 13, 177]
abbrev dktX2_choose_0 : List UInt8 := dkwX2_choose_0 ++ []
theorem dksX2_choose_0 : cX2_choose.data.toList.drop 0 = dktX2_choose_0 := by decide +kernel
theorem dX2_choose_0 : decode cX2_choose 0 = .ok (.aload_n 0, 1) := dk_42 (dk_at dksX2_choose_0 0 rfl rfl)
theorem dX2_choose_1 : decode cX2_choose 1 = .ok (.aload_n 1, 1) := dk_43 (dk_at dksX2_choose_0 1 rfl rfl)
theorem dX2_choose_2 : decode cX2_choose 2 = .ok (.putfield 7, 3) := dk_181 0 7 (dk_at dksX2_choose_0 2 rfl rfl)
theorem dX2_choose_5 : decode cX2_choose 5 = .ok (.aload_n 0, 1) := dk_42 (dk_at dksX2_choose_0 5 rfl rfl)
theorem dX2_choose_6 : decode cX2_choose 6 = .ok (.iload_n 2, 1) := dk_28 (dk_at dksX2_choose_0 6 rfl rfl)
theorem dX2_choose_7 : decode cX2_choose 7 = .ok (.putfield 13, 3) := dk_181 0 13 (dk_at dksX2_choose_0 7 rfl rfl)
theorem dX2_choose_10 : decode cX2_choose 10 = .ok (.return_, 1) := dk_177 (dk_at dksX2_choose_0 10 rfl rfl)
abbrev cX2_move : ByteArray := prog_14_method_3_code
def yX2_move : MethodName := ⟨RX2, "move", "(III)V"⟩
def dkwX2_move_0 : List UInt8 := [42, 27, 181, 0, 17, 42, 28, 181, 0, 21, 42, 29, 181, 0, 24, 177]
abbrev dktX2_move_0 : List UInt8 := dkwX2_move_0 ++ []
theorem dksX2_move_0 : cX2_move.data.toList.drop 0 = dktX2_move_0 := by decide +kernel
theorem dX2_move_0 : decode cX2_move 0 = .ok (.aload_n 0, 1) := dk_42 (dk_at dksX2_move_0 0 rfl rfl)
theorem dX2_move_1 : decode cX2_move 1 = .ok (.iload_n 1, 1) := dk_27 (dk_at dksX2_move_0 1 rfl rfl)
theorem dX2_move_2 : decode cX2_move 2 = .ok (.putfield 17, 3) := dk_181 0 17 (dk_at dksX2_move_0 2 rfl rfl)
theorem dX2_move_5 : decode cX2_move 5 = .ok (.aload_n 0, 1) := dk_42 (dk_at dksX2_move_0 5 rfl rfl)
theorem dX2_move_6 : decode cX2_move 6 = .ok (.iload_n 2, 1) := dk_28 (dk_at dksX2_move_0 6 rfl rfl)
theorem dX2_move_7 : decode cX2_move 7 = .ok (.putfield 21, 3) := dk_181 0 21 (dk_at dksX2_move_0 7 rfl rfl)
theorem dX2_move_10 : decode cX2_move 10 = .ok (.aload_n 0, 1) := dk_42 (dk_at dksX2_move_0 10 rfl rfl)
theorem dX2_move_11 : decode cX2_move 11 = .ok (.iload_n 3, 1) := dk_29 (dk_at dksX2_move_0 11 rfl rfl)
theorem dX2_move_12 : decode cX2_move 12 = .ok (.putfield 24, 3) := dk_181 0 24 (dk_at dksX2_move_0 12 rfl rfl)
theorem dX2_move_15 : decode cX2_move 15 = .ok (.return_, 1) := dk_177 (dk_at dksX2_move_0 15 rfl rfl)
abbrev cX2_choose_2 : ByteArray := prog_14_method_4_code
def yX2_choose_2 : MethodName := ⟨RX2, "choose", "(LCuttingRoom$Piece;)V"⟩
def dkwX2_choose_2_1 : List UInt8 := [180, 0, 37, 182, 0, 38, 177]
abbrev dktX2_choose_2_1 : List UInt8 := dkwX2_choose_2_1 ++ []
def dkwX2_choose_2_0 : List UInt8 := [42, 43, 180, 0, 27, 43, 180, 0, 30, 182, 0, 31, 42, 43, 180, 0, 35, 43, 180, 0, 36, 43]
abbrev dktX2_choose_2_0 : List UInt8 := dkwX2_choose_2_0 ++ dktX2_choose_2_1
theorem dksX2_choose_2_0 : cX2_choose_2.data.toList.drop 0 = dktX2_choose_2_0 := by decide +kernel
theorem dksX2_choose_2_1 : cX2_choose_2.data.toList.drop 22 = dktX2_choose_2_1 := dk_seg dksX2_choose_2_0 22 rfl rfl
theorem dX2_choose_2_0 : decode cX2_choose_2 0 = .ok (.aload_n 0, 1) := dk_42 (dk_at dksX2_choose_2_0 0 rfl rfl)
theorem dX2_choose_2_1 : decode cX2_choose_2 1 = .ok (.aload_n 1, 1) := dk_43 (dk_at dksX2_choose_2_0 1 rfl rfl)
theorem dX2_choose_2_2 : decode cX2_choose_2 2 = .ok (.getfield 27, 3) := dk_180 0 27 (dk_at dksX2_choose_2_0 2 rfl rfl)
theorem dX2_choose_2_5 : decode cX2_choose_2 5 = .ok (.aload_n 1, 1) := dk_43 (dk_at dksX2_choose_2_0 5 rfl rfl)
theorem dX2_choose_2_6 : decode cX2_choose_2 6 = .ok (.getfield 30, 3) := dk_180 0 30 (dk_at dksX2_choose_2_0 6 rfl rfl)
theorem dX2_choose_2_9 : decode cX2_choose_2 9 = .ok (.invokevirtual 31, 3) := dk_182 0 31 (dk_at dksX2_choose_2_0 9 rfl rfl)
theorem dX2_choose_2_12 : decode cX2_choose_2 12 = .ok (.aload_n 0, 1) := dk_42 (dk_at dksX2_choose_2_0 12 rfl rfl)
theorem dX2_choose_2_13 : decode cX2_choose_2 13 = .ok (.aload_n 1, 1) := dk_43 (dk_at dksX2_choose_2_0 13 rfl rfl)
theorem dX2_choose_2_14 : decode cX2_choose_2 14 = .ok (.getfield 35, 3) := dk_180 0 35 (dk_at dksX2_choose_2_0 14 rfl rfl)
theorem dX2_choose_2_17 : decode cX2_choose_2 17 = .ok (.aload_n 1, 1) := dk_43 (dk_at dksX2_choose_2_0 17 rfl rfl)
theorem dX2_choose_2_18 : decode cX2_choose_2 18 = .ok (.getfield 36, 3) := dk_180 0 36 (dk_at dksX2_choose_2_0 18 rfl rfl)
theorem dX2_choose_2_21 : decode cX2_choose_2 21 = .ok (.aload_n 1, 1) := dk_43 (dk_at dksX2_choose_2_0 21 rfl rfl)
theorem dX2_choose_2_22 : decode cX2_choose_2 22 = .ok (.getfield 37, 3) := dk_180 0 37 (dk_at dksX2_choose_2_1 0 rfl rfl)
theorem dX2_choose_2_25 : decode cX2_choose_2 25 = .ok (.invokevirtual 38, 3) := dk_182 0 38 (dk_at dksX2_choose_2_1 3 rfl rfl)
theorem dX2_choose_2_28 : decode cX2_choose_2 28 = .ok (.return_, 1) := dk_177 (dk_at dksX2_choose_2_1 6 rfl rfl)
theorem q70 : (Jvm.Cond.initialized "CuttingRoom$Spot") ∈ lw_all := lw_g (lw_at lw_m1 5 rfl) rfl
theorem q137 : (Jvm.Cond.instantiable "CuttingRoom$Spot" (5 : Nat)) ∈ lw_all := lw_g (lw_at lw_m1 72 rfl) rfl
theorem q139 : (Jvm.Cond.instanceMethod ({ cls := "CuttingRoom$Spot", name := "<init>", desc := "()V" } : Jvm.MethodName)) ∈ lw_all := lw_g (lw_at lw_m1 74 rfl) rfl
theorem q140 : (Jvm.Cond.code ({ cls := "CuttingRoom$Spot", name := "<init>", desc := "()V" } : Jvm.MethodName) prog_14_method_1_code (1 : Nat) (Option.none : Option Jvm.ClassFile.FieldType)) ∈ lw_all := lw_g (lw_at lw_m1 75 rfl) rfl
theorem q141 : (Jvm.Cond.methodLink "CuttingRoom$Spot" (1 : Nat) ({ cls := "java/lang/Object", name := "<init>", desc := "()V" } : Jvm.MethodName)) ∈ lw_all := lw_g (lw_at lw_m1 76 rfl) rfl
theorem q143 : (Jvm.Cond.fieldLink "CuttingRoom$Spot" (7 : Nat) "CuttingRoom$Spot" "shape" "LCuttingRoom$Shape;") ∈ lw_all := lw_g (lw_at lw_m1 78 rfl) rfl
theorem q147 : (Jvm.Cond.fieldLink "CuttingRoom$Spot" (17 : Nat) "CuttingRoom$Spot" "turns" "I") ∈ lw_all := lw_g (lw_at lw_m1 82 rfl) rfl
theorem q150 : (Jvm.Cond.fieldLink "CuttingRoom$Spot" (13 : Nat) "CuttingRoom$Spot" "isMirrored" "Z") ∈ lw_all := lw_g (lw_at lw_m1 85 rfl) rfl
theorem q153 : (Jvm.Cond.fieldLink "CuttingRoom$Spot" (21 : Nat) "CuttingRoom$Spot" "row" "I") ∈ lw_all := lw_g (lw_at lw_m1 88 rfl) rfl
theorem q156 : (Jvm.Cond.fieldLink "CuttingRoom$Spot" (24 : Nat) "CuttingRoom$Spot" "column" "I") ∈ lw_all := lw_g (lw_at lw_m1 91 rfl) rfl
theorem q158 : (Jvm.Cond.lays "CuttingRoom$Spot" "CuttingRoom$Spot" "shape" "LCuttingRoom$Shape;") ∈ lw_all := lw_g (lw_at lw_m1 93 rfl) rfl
theorem q159 : (Jvm.Cond.soleField "CuttingRoom$Spot" "shape") ∈ lw_all := lw_g (lw_at lw_m1 94 rfl) rfl
theorem q160 : (Jvm.Cond.lays "CuttingRoom$Spot" "CuttingRoom$Spot" "turns" "I") ∈ lw_all := lw_g (lw_at lw_m1 95 rfl) rfl
theorem q161 : (Jvm.Cond.soleField "CuttingRoom$Spot" "turns") ∈ lw_all := lw_g (lw_at lw_m1 96 rfl) rfl
theorem q162 : (Jvm.Cond.lays "CuttingRoom$Spot" "CuttingRoom$Spot" "isMirrored" "Z") ∈ lw_all := lw_g (lw_at lw_m1 97 rfl) rfl
theorem q163 : (Jvm.Cond.soleField "CuttingRoom$Spot" "isMirrored") ∈ lw_all := lw_g (lw_at lw_m1 98 rfl) rfl
theorem q164 : (Jvm.Cond.lays "CuttingRoom$Spot" "CuttingRoom$Spot" "row" "I") ∈ lw_all := lw_g (lw_at lw_m1 99 rfl) rfl
theorem q165 : (Jvm.Cond.soleField "CuttingRoom$Spot" "row") ∈ lw_all := lw_g (lw_at lw_m1 100 rfl) rfl
theorem q166 : (Jvm.Cond.lays "CuttingRoom$Spot" "CuttingRoom$Spot" "column" "I") ∈ lw_all := lw_g (lw_at lw_m1 101 rfl) rfl
theorem q167 : (Jvm.Cond.soleField "CuttingRoom$Spot" "column") ∈ lw_all := lw_g (lw_at lw_m1 102 rfl) rfl
theorem q168 : (Jvm.Cond.superclass "CuttingRoom$Spot" "java/lang/Object") ∈ lw_all := lw_g (lw_at lw_m1 103 rfl) rfl
theorem q205 : (Jvm.Cond.instanceMethod ({ cls := "CuttingRoom$Spot", name := "cells", desc := "()I" } : Jvm.MethodName)) ∈ lw_all := lw_g (lw_at lw_m1 140 rfl) rfl
theorem q206 : (Jvm.Cond.selects "CuttingRoom$Spot" ({ cls := "CuttingRoom$Spot", name := "cells", desc := "()I" } : Jvm.MethodName) ({ cls := "CuttingRoom$Spot", name := "cells", desc := "()I" } : Jvm.MethodName)) ∈ lw_all := lw_g (lw_at lw_m1 141 rfl) rfl
theorem q207 : (Jvm.Cond.code ({ cls := "CuttingRoom$Spot", name := "cells", desc := "()I" } : Jvm.MethodName) prog_14_method_6_code (1 : Nat) (Option.some Jvm.ClassFile.FieldType.int)) ∈ lw_all := lw_g (lw_at lw_m1 142 rfl) rfl
theorem q208 : (Jvm.Cond.interfaceEntry "CuttingRoom$Spot" (52 : Nat)) ∈ lw_tbl := lw_at lw_m1 143 rfl
theorem q209 : (Jvm.Cond.methodLink "CuttingRoom$Spot" (52 : Nat) ({ cls := "java/util/List", name := "size", desc := "()I" } : Jvm.MethodName)) ∈ lw_all := lw_g (lw_at lw_m1 144 rfl) rfl
theorem q255 : (Jvm.Cond.instanceMethod ({ cls := "CuttingRoom$Spot", name := "rowOf", desc := "(I)I" } : Jvm.MethodName)) ∈ lw_all := lw_g (lw_at lw_m1 190 rfl) rfl
theorem q256 : (Jvm.Cond.selects "CuttingRoom$Spot" ({ cls := "CuttingRoom$Spot", name := "rowOf", desc := "(I)I" } : Jvm.MethodName) ({ cls := "CuttingRoom$Spot", name := "rowOf", desc := "(I)I" } : Jvm.MethodName)) ∈ lw_all := lw_g (lw_at lw_m1 191 rfl) rfl
theorem q257 : (Jvm.Cond.code ({ cls := "CuttingRoom$Spot", name := "rowOf", desc := "(I)I" } : Jvm.MethodName) prog_14_method_7_code (2 : Nat) (Option.some Jvm.ClassFile.FieldType.int)) ∈ lw_all := lw_g (lw_at lw_m1 192 rfl) rfl
theorem q258 : (Jvm.Cond.methodLink "CuttingRoom$Spot" (58 : Nat) ({ cls := "CuttingRoom$Spot", name := "variant", desc := "()LCuttingRoom$Variant;" } : Jvm.MethodName)) ∈ lw_all := lw_g (lw_at lw_m1 193 rfl) rfl
theorem q259 : (Jvm.Cond.instanceMethod ({ cls := "CuttingRoom$Spot", name := "variant", desc := "()LCuttingRoom$Variant;" } : Jvm.MethodName)) ∈ lw_all := lw_g (lw_at lw_m1 194 rfl) rfl
theorem q260 : (Jvm.Cond.selects "CuttingRoom$Spot" ({ cls := "CuttingRoom$Spot", name := "variant", desc := "()LCuttingRoom$Variant;" } : Jvm.MethodName) ({ cls := "CuttingRoom$Spot", name := "variant", desc := "()LCuttingRoom$Variant;" } : Jvm.MethodName)) ∈ lw_all := lw_g (lw_at lw_m1 195 rfl) rfl
theorem q261 : (Jvm.Cond.code ({ cls := "CuttingRoom$Spot", name := "variant", desc := "()LCuttingRoom$Variant;" } : Jvm.MethodName) prog_14_method_5_code (1 : Nat) (Option.some (Jvm.ClassFile.FieldType.object "CuttingRoom$Variant"))) ∈ lw_all := lw_g (lw_at lw_m1 196 rfl) rfl
theorem q262 : (Jvm.Cond.methodLink "CuttingRoom$Spot" (42 : Nat) ({ cls := "CuttingRoom$Shape", name := "variant", desc := "(ZI)LCuttingRoom$Variant;" } : Jvm.MethodName)) ∈ lw_all := lw_g (lw_at lw_m1 197 rfl) rfl
theorem q267 : (Jvm.Cond.instanceMethod ({ cls := "CuttingRoom$Spot", name := "columnOf", desc := "(I)I" } : Jvm.MethodName)) ∈ lw_all := lw_g (lw_at lw_m1 202 rfl) rfl
theorem q268 : (Jvm.Cond.selects "CuttingRoom$Spot" ({ cls := "CuttingRoom$Spot", name := "columnOf", desc := "(I)I" } : Jvm.MethodName) ({ cls := "CuttingRoom$Spot", name := "columnOf", desc := "(I)I" } : Jvm.MethodName)) ∈ lw_all := lw_g (lw_at lw_m1 203 rfl) rfl
theorem q269 : (Jvm.Cond.code ({ cls := "CuttingRoom$Spot", name := "columnOf", desc := "(I)I" } : Jvm.MethodName) prog_14_method_8_code (2 : Nat) (Option.some Jvm.ClassFile.FieldType.int)) ∈ lw_all := lw_g (lw_at lw_m1 204 rfl) rfl
theorem q309 : (Jvm.Cond.instanceMethod ({ cls := "CuttingRoom$Spot", name := "markRow", desc := "()I" } : Jvm.MethodName)) ∈ lw_all := lw_g (lw_at lw_m2 4 rfl) rfl
theorem q310 : (Jvm.Cond.selects "CuttingRoom$Spot" ({ cls := "CuttingRoom$Spot", name := "markRow", desc := "()I" } : Jvm.MethodName) ({ cls := "CuttingRoom$Spot", name := "markRow", desc := "()I" } : Jvm.MethodName)) ∈ lw_all := lw_g (lw_at lw_m2 5 rfl) rfl
theorem q311 : (Jvm.Cond.code ({ cls := "CuttingRoom$Spot", name := "markRow", desc := "()I" } : Jvm.MethodName) prog_14_method_9_code (1 : Nat) (Option.some Jvm.ClassFile.FieldType.int)) ∈ lw_all := lw_g (lw_at lw_m2 6 rfl) rfl
theorem q692 : (Jvm.Cond.fieldLinkNest "CuttingRoom$Spot" (61 : Nat) "CuttingRoom$Variant" "rows" "[I" "CuttingRoom") ∈ lw_tbl := lw_at lw_m3 147 rfl
theorem q694 : (Jvm.Cond.fieldLinkNest "CuttingRoom$Spot" (67 : Nat) "CuttingRoom$Variant" "columns" "[I" "CuttingRoom") ∈ lw_tbl := lw_at lw_m3 149 rfl
theorem q696 : (Jvm.Cond.fieldLinkNest "CuttingRoom$Spot" (70 : Nat) "CuttingRoom$Variant" "markRow" "I" "CuttingRoom") ∈ lw_tbl := lw_at lw_m3 151 rfl
theorem q711 : (Jvm.Cond.fieldLinkNest "CuttingRoom$Spot" (48 : Nat) "CuttingRoom$Shape" "cells" "Ljava/util/List;" "CuttingRoom") ∈ lw_tbl := lw_at lw_m3 166 rfl
theorem q792 : (Jvm.Cond.selects "CuttingRoom$Spot" ({ cls := "java/lang/Object", name := "getClass", desc := "()Ljava/lang/Class;" } : Jvm.MethodName) ({ cls := "java/lang/Object", name := "getClass", desc := "()Ljava/lang/Class;" } : Jvm.MethodName)) ∈ lw_all := lw_g (lw_at lw_m4 7 rfl) rfl
theorem q923 : (Jvm.Cond.instanceMethod ({ cls := "CuttingRoom$Spot", name := "choose", desc := "(LCuttingRoom$Shape;Z)V" } : Jvm.MethodName)) ∈ lw_all := lw_g (lw_at lw_m4 138 rfl) rfl
theorem q924 : (Jvm.Cond.selects "CuttingRoom$Spot" ({ cls := "CuttingRoom$Spot", name := "choose", desc := "(LCuttingRoom$Shape;Z)V" } : Jvm.MethodName) ({ cls := "CuttingRoom$Spot", name := "choose", desc := "(LCuttingRoom$Shape;Z)V" } : Jvm.MethodName)) ∈ lw_all := lw_g (lw_at lw_m4 139 rfl) rfl
theorem q925 : (Jvm.Cond.code ({ cls := "CuttingRoom$Spot", name := "choose", desc := "(LCuttingRoom$Shape;Z)V" } : Jvm.MethodName) prog_14_method_2_code (3 : Nat) (Option.none : Option Jvm.ClassFile.FieldType)) ∈ lw_all := lw_g (lw_at lw_m4 140 rfl) rfl
theorem q930 : (Jvm.Cond.instanceMethod ({ cls := "CuttingRoom$Spot", name := "move", desc := "(III)V" } : Jvm.MethodName)) ∈ lw_all := lw_g (lw_at lw_m4 145 rfl) rfl
theorem q931 : (Jvm.Cond.selects "CuttingRoom$Spot" ({ cls := "CuttingRoom$Spot", name := "move", desc := "(III)V" } : Jvm.MethodName) ({ cls := "CuttingRoom$Spot", name := "move", desc := "(III)V" } : Jvm.MethodName)) ∈ lw_all := lw_g (lw_at lw_m4 146 rfl) rfl
theorem q932 : (Jvm.Cond.code ({ cls := "CuttingRoom$Spot", name := "move", desc := "(III)V" } : Jvm.MethodName) prog_14_method_3_code (4 : Nat) (Option.none : Option Jvm.ClassFile.FieldType)) ∈ lw_all := lw_g (lw_at lw_m4 147 rfl) rfl
theorem q953 : (Jvm.Cond.fieldLinkNest "CuttingRoom$Spot" (27 : Nat) "CuttingRoom$Piece" "shape" "LCuttingRoom$Shape;" "CuttingRoom") ∈ lw_tbl := lw_at lw_m4 168 rfl
theorem q956 : (Jvm.Cond.fieldLinkNest "CuttingRoom$Spot" (35 : Nat) "CuttingRoom$Piece" "turns" "I" "CuttingRoom") ∈ lw_tbl := lw_at lw_m4 171 rfl
theorem q959 : (Jvm.Cond.fieldLinkNest "CuttingRoom$Spot" (30 : Nat) "CuttingRoom$Piece" "isMirrored" "Z" "CuttingRoom") ∈ lw_tbl := lw_at lw_m4 174 rfl
theorem q962 : (Jvm.Cond.fieldLinkNest "CuttingRoom$Spot" (36 : Nat) "CuttingRoom$Piece" "row" "I" "CuttingRoom") ∈ lw_tbl := lw_at lw_m4 177 rfl
theorem q965 : (Jvm.Cond.fieldLinkNest "CuttingRoom$Spot" (37 : Nat) "CuttingRoom$Piece" "column" "I" "CuttingRoom") ∈ lw_tbl := lw_at lw_m4 180 rfl
theorem q1037 : (Jvm.Cond.selects "CuttingRoom$Spot" ({ cls := "java/lang/Object", name := "equals", desc := "(Ljava/lang/Object;)Z" } : Jvm.MethodName) ({ cls := "java/lang/Object", name := "equals", desc := "(Ljava/lang/Object;)Z" } : Jvm.MethodName)) ∈ lw_all := lw_g (lw_at lw_m5 12 rfl) rfl
theorem q1058 : (Jvm.Cond.instanceMethod ({ cls := "CuttingRoom$Spot", name := "choose", desc := "(LCuttingRoom$Piece;)V" } : Jvm.MethodName)) ∈ lw_all := lw_g (lw_at lw_m5 33 rfl) rfl
theorem q1059 : (Jvm.Cond.selects "CuttingRoom$Spot" ({ cls := "CuttingRoom$Spot", name := "choose", desc := "(LCuttingRoom$Piece;)V" } : Jvm.MethodName) ({ cls := "CuttingRoom$Spot", name := "choose", desc := "(LCuttingRoom$Piece;)V" } : Jvm.MethodName)) ∈ lw_all := lw_g (lw_at lw_m5 34 rfl) rfl
theorem q1060 : (Jvm.Cond.code ({ cls := "CuttingRoom$Spot", name := "choose", desc := "(LCuttingRoom$Piece;)V" } : Jvm.MethodName) prog_14_method_4_code (2 : Nat) (Option.none : Option Jvm.ClassFile.FieldType)) ∈ lw_all := lw_g (lw_at lw_m5 35 rfl) rfl
theorem q1061 : (Jvm.Cond.methodLink "CuttingRoom$Spot" (31 : Nat) ({ cls := "CuttingRoom$Spot", name := "choose", desc := "(LCuttingRoom$Shape;Z)V" } : Jvm.MethodName)) ∈ lw_all := lw_g (lw_at lw_m5 36 rfl) rfl
theorem q1062 : (Jvm.Cond.methodLink "CuttingRoom$Spot" (38 : Nat) ({ cls := "CuttingRoom$Spot", name := "move", desc := "(III)V" } : Jvm.MethodName)) ∈ lw_all := lw_g (lw_at lw_m5 37 rfl) rfl
theorem q1837 : (Jvm.Cond.castable "CuttingRoom$Spot" "java/lang/Object") ∈ lw_tbl := lw_at lw_m8 92 rfl
theorem in_X2 : ∀ w ∈ wsX20, w ∈ lw_all := lw_in wsX20 [158, 160, 162, 164, 166] (by decide +kernel) (by decide +kernel)

/-! CuttingRoom$Sheet -/
set_option maxRecDepth 100000
def RX3 : String := "CuttingRoom$Sheet"
def TX3 : u_T := fun k => match k with
  | 0 => ("CuttingRoom$Sheet", "numbers", "[[I", true)
  | 1 => ("CuttingRoom$Sheet", "remainders", "[I", true)
  | 2 => ("CuttingRoom$Sheet", "length", "I", false)
  | _ => ("CuttingRoom$Sheet", "this$0", "LCuttingRoom;", true)
def tyX3 : Nat → FieldType := fun k => match k with
  | 0 => .array (.array .int)
  | 1 => .array .int
  | 2 => .int
  | _ => .object "CuttingRoom"
abbrev wsX30 : List Cond := u_ws RX3 TX3 4
theorem nmX3 : ∀ a, a < 4 → ∀ b, b < 4 → a ≠ b → (TX3 a).2.1 ≠ (TX3 b).2.1 := by decide +kernel
theorem tyX3_ok : ∀ k, k < 4 → parseFieldDescriptor (TX3 k).2.2.1 = some (tyX3 k) := by decide +kernel
abbrev cX3_init : ByteArray := prog_12_method_1_code
def yX3_init : MethodName := ⟨RX3, "<init>", "(LCuttingRoom;)V"⟩
def dkwX3_init_1 : List UInt8 := [188, 10, 181, 0, 20, 42, 182, 0, 24, 177]
abbrev dktX3_init_1 : List UInt8 := dkwX3_init_1 ++ []
def dkwX3_init_0 : List UInt8 := [42, 43, 181, 0, 3, 42, 183, 0, 9, 42, 16, 60, 16, 12, 197, 0, 15, 2, 181, 0, 17, 42, 7]
abbrev dktX3_init_0 : List UInt8 := dkwX3_init_0 ++ dktX3_init_1
theorem dksX3_init_0 : cX3_init.data.toList.drop 0 = dktX3_init_0 := by decide +kernel
theorem dksX3_init_1 : cX3_init.data.toList.drop 23 = dktX3_init_1 := dk_seg dksX3_init_0 23 rfl rfl
theorem dX3_init_0 : decode cX3_init 0 = .ok (.aload_n 0, 1) := dk_42 (dk_at dksX3_init_0 0 rfl rfl)
theorem dX3_init_1 : decode cX3_init 1 = .ok (.aload_n 1, 1) := dk_43 (dk_at dksX3_init_0 1 rfl rfl)
theorem dX3_init_2 : decode cX3_init 2 = .ok (.putfield 3, 3) := dk_181 0 3 (dk_at dksX3_init_0 2 rfl rfl)
theorem dX3_init_5 : decode cX3_init 5 = .ok (.aload_n 0, 1) := dk_42 (dk_at dksX3_init_0 5 rfl rfl)
theorem dX3_init_6 : decode cX3_init 6 = .ok (.invokespecial 9, 3) := dk_183 0 9 (dk_at dksX3_init_0 6 rfl rfl)
theorem dX3_init_9 : decode cX3_init 9 = .ok (.aload_n 0, 1) := dk_42 (dk_at dksX3_init_0 9 rfl rfl)
theorem dX3_init_10 : decode cX3_init 10 = .ok (.bipush 60, 2) := dk_16 60 (dk_at dksX3_init_0 10 rfl rfl)
theorem dX3_init_12 : decode cX3_init 12 = .ok (.bipush 12, 2) := dk_16 12 (dk_at dksX3_init_0 12 rfl rfl)
theorem dX3_init_14 : decode cX3_init 14 = .ok (.multianewarray 15 2, 4) := by decide +kernel
theorem dX3_init_18 : decode cX3_init 18 = .ok (.putfield 17, 3) := dk_181 0 17 (dk_at dksX3_init_0 18 rfl rfl)
theorem dX3_init_21 : decode cX3_init 21 = .ok (.aload_n 0, 1) := dk_42 (dk_at dksX3_init_0 21 rfl rfl)
theorem dX3_init_22 : decode cX3_init 22 = .ok (.iconst 4, 1) := dk_7 (dk_at dksX3_init_0 22 rfl rfl)
theorem dX3_init_23 : decode cX3_init 23 = .ok (.newarray .int, 2) := dk_188_10 (dk_at dksX3_init_1 0 rfl rfl)
theorem dX3_init_25 : decode cX3_init 25 = .ok (.putfield 20, 3) := dk_181 0 20 (dk_at dksX3_init_1 2 rfl rfl)
theorem dX3_init_28 : decode cX3_init 28 = .ok (.aload_n 0, 1) := dk_42 (dk_at dksX3_init_1 5 rfl rfl)
theorem dX3_init_29 : decode cX3_init 29 = .ok (.invokevirtual 24, 3) := dk_182 0 24 (dk_at dksX3_init_1 6 rfl rfl)
theorem dX3_init_32 : decode cX3_init 32 = .ok (.return_, 1) := dk_177 (dk_at dksX3_init_1 9 rfl rfl)
abbrev cX3_clear : ByteArray := prog_12_method_2_code
def yX3_clear : MethodName := ⟨RX3, "clear", "()V"⟩
def dkwX3_clear_2 : List UInt8 := [27, 2, 79, 132, 1, 1, 167, 255, 241, 42, 3, 181, 0, 27, 177]
abbrev dktX3_clear_2 : List UInt8 := dkwX3_clear_2 ++ []
def dkwX3_clear_1 : List UInt8 := [79, 132, 2, 1, 167, 255, 238, 132, 1, 1, 167, 255, 224, 3, 60, 27, 7, 162, 0, 16, 42, 180, 0, 20]
abbrev dktX3_clear_1 : List UInt8 := dkwX3_clear_1 ++ dktX3_clear_2
def dkwX3_clear_0 : List UInt8 := [3, 60, 27, 16, 60, 162, 0, 32, 3, 61, 28, 16, 12, 162, 0, 18, 42, 180, 0, 17, 27, 50, 28, 2]
abbrev dktX3_clear_0 : List UInt8 := dkwX3_clear_0 ++ dktX3_clear_1
theorem dksX3_clear_0 : cX3_clear.data.toList.drop 0 = dktX3_clear_0 := by decide +kernel
theorem dksX3_clear_1 : cX3_clear.data.toList.drop 24 = dktX3_clear_1 := dk_seg dksX3_clear_0 24 rfl rfl
theorem dksX3_clear_2 : cX3_clear.data.toList.drop 48 = dktX3_clear_2 := dk_seg dksX3_clear_1 24 rfl rfl
theorem dX3_clear_0 : decode cX3_clear 0 = .ok (.iconst 0, 1) := dk_3 (dk_at dksX3_clear_0 0 rfl rfl)
theorem dX3_clear_1 : decode cX3_clear 1 = .ok (.istore_n 1, 1) := dk_60 (dk_at dksX3_clear_0 1 rfl rfl)
theorem dX3_clear_2 : decode cX3_clear 2 = .ok (.iload_n 1, 1) := dk_27 (dk_at dksX3_clear_0 2 rfl rfl)
theorem dX3_clear_3 : decode cX3_clear 3 = .ok (.bipush 60, 2) := dk_16 60 (dk_at dksX3_clear_0 3 rfl rfl)
theorem dX3_clear_5 : decode cX3_clear 5 = .ok (.if_icmp .ge 32, 3) := dk_162 0 32 (dk_at dksX3_clear_0 5 rfl rfl)
theorem dX3_clear_8 : decode cX3_clear 8 = .ok (.iconst 0, 1) := dk_3 (dk_at dksX3_clear_0 8 rfl rfl)
theorem dX3_clear_9 : decode cX3_clear 9 = .ok (.istore_n 2, 1) := dk_61 (dk_at dksX3_clear_0 9 rfl rfl)
theorem dX3_clear_10 : decode cX3_clear 10 = .ok (.iload_n 2, 1) := dk_28 (dk_at dksX3_clear_0 10 rfl rfl)
theorem dX3_clear_11 : decode cX3_clear 11 = .ok (.bipush 12, 2) := dk_16 12 (dk_at dksX3_clear_0 11 rfl rfl)
theorem dX3_clear_13 : decode cX3_clear 13 = .ok (.if_icmp .ge 18, 3) := dk_162 0 18 (dk_at dksX3_clear_0 13 rfl rfl)
theorem dX3_clear_16 : decode cX3_clear 16 = .ok (.aload_n 0, 1) := dk_42 (dk_at dksX3_clear_0 16 rfl rfl)
theorem dX3_clear_17 : decode cX3_clear 17 = .ok (.getfield 17, 3) := dk_180 0 17 (dk_at dksX3_clear_0 17 rfl rfl)
theorem dX3_clear_20 : decode cX3_clear 20 = .ok (.iload_n 1, 1) := dk_27 (dk_at dksX3_clear_0 20 rfl rfl)
theorem dX3_clear_21 : decode cX3_clear 21 = .ok (.aaload, 1) := dk_50 (dk_at dksX3_clear_0 21 rfl rfl)
theorem dX3_clear_22 : decode cX3_clear 22 = .ok (.iload_n 2, 1) := dk_28 (dk_at dksX3_clear_0 22 rfl rfl)
theorem dX3_clear_23 : decode cX3_clear 23 = .ok (.iconst (-1), 1) := dk_2 (dk_at dksX3_clear_0 23 rfl rfl)
theorem dX3_clear_24 : decode cX3_clear 24 = .ok (.iastore, 1) := dk_79 (dk_at dksX3_clear_1 0 rfl rfl)
theorem dX3_clear_25 : decode cX3_clear 25 = .ok (.iinc 2 1, 3) := dk_132 2 1 (dk_at dksX3_clear_1 1 rfl rfl)
theorem dX3_clear_28 : decode cX3_clear 28 = .ok (.goto (-18), 3) := dk_167 255 238 (dk_at dksX3_clear_1 4 rfl rfl)
theorem dX3_clear_31 : decode cX3_clear 31 = .ok (.iinc 1 1, 3) := dk_132 1 1 (dk_at dksX3_clear_1 7 rfl rfl)
theorem dX3_clear_34 : decode cX3_clear 34 = .ok (.goto (-32), 3) := dk_167 255 224 (dk_at dksX3_clear_1 10 rfl rfl)
theorem dX3_clear_37 : decode cX3_clear 37 = .ok (.iconst 0, 1) := dk_3 (dk_at dksX3_clear_1 13 rfl rfl)
theorem dX3_clear_38 : decode cX3_clear 38 = .ok (.istore_n 1, 1) := dk_60 (dk_at dksX3_clear_1 14 rfl rfl)
theorem dX3_clear_39 : decode cX3_clear 39 = .ok (.iload_n 1, 1) := dk_27 (dk_at dksX3_clear_1 15 rfl rfl)
theorem dX3_clear_40 : decode cX3_clear 40 = .ok (.iconst 4, 1) := dk_7 (dk_at dksX3_clear_1 16 rfl rfl)
theorem dX3_clear_41 : decode cX3_clear 41 = .ok (.if_icmp .ge 16, 3) := dk_162 0 16 (dk_at dksX3_clear_1 17 rfl rfl)
theorem dX3_clear_44 : decode cX3_clear 44 = .ok (.aload_n 0, 1) := dk_42 (dk_at dksX3_clear_1 20 rfl rfl)
theorem dX3_clear_45 : decode cX3_clear 45 = .ok (.getfield 20, 3) := dk_180 0 20 (dk_at dksX3_clear_1 21 rfl rfl)
theorem dX3_clear_48 : decode cX3_clear 48 = .ok (.iload_n 1, 1) := dk_27 (dk_at dksX3_clear_2 0 rfl rfl)
theorem dX3_clear_49 : decode cX3_clear 49 = .ok (.iconst (-1), 1) := dk_2 (dk_at dksX3_clear_2 1 rfl rfl)
theorem dX3_clear_50 : decode cX3_clear 50 = .ok (.iastore, 1) := dk_79 (dk_at dksX3_clear_2 2 rfl rfl)
theorem dX3_clear_51 : decode cX3_clear 51 = .ok (.iinc 1 1, 3) := dk_132 1 1 (dk_at dksX3_clear_2 3 rfl rfl)
theorem dX3_clear_54 : decode cX3_clear 54 = .ok (.goto (-15), 3) := dk_167 255 241 (dk_at dksX3_clear_2 6 rfl rfl)
theorem dX3_clear_57 : decode cX3_clear 57 = .ok (.aload_n 0, 1) := dk_42 (dk_at dksX3_clear_2 9 rfl rfl)
theorem dX3_clear_58 : decode cX3_clear 58 = .ok (.iconst 0, 1) := dk_3 (dk_at dksX3_clear_2 10 rfl rfl)
theorem dX3_clear_59 : decode cX3_clear 59 = .ok (.putfield 27, 3) := dk_181 0 27 (dk_at dksX3_clear_2 11 rfl rfl)
theorem dX3_clear_62 : decode cX3_clear 62 = .ok (.return_, 1) := dk_177 (dk_at dksX3_clear_2 14 rfl rfl)
abbrev cX3_isTaken : ByteArray := prog_12_method_4_code
def yX3_isTaken : MethodName := ⟨RX3, "isTaken", "()Z"⟩
def dkwX3_isTaken_2 : List UInt8 := [132, 1, 1, 167, 255, 207, 3, 172]
abbrev dktX3_isTaken_2 : List UInt8 := dkwX3_isTaken_2 ++ []
def dkwX3_isTaken_1 : List UInt8 := [27, 182, 0, 41, 42, 180, 0, 3, 180, 0, 31, 27, 182, 0, 45, 182, 0, 48, 2, 159, 0, 5, 4, 172]
abbrev dktX3_isTaken_1 : List UInt8 := dkwX3_isTaken_1 ++ dktX3_isTaken_2
def dkwX3_isTaken_0 : List UInt8 := [3, 60, 27, 42, 180, 0, 3, 180, 0, 31, 182, 0, 35, 162, 0, 41, 42, 42, 180, 0, 3, 180, 0, 31]
abbrev dktX3_isTaken_0 : List UInt8 := dkwX3_isTaken_0 ++ dktX3_isTaken_1
theorem dksX3_isTaken_0 : cX3_isTaken.data.toList.drop 0 = dktX3_isTaken_0 := by decide +kernel
theorem dksX3_isTaken_1 : cX3_isTaken.data.toList.drop 24 = dktX3_isTaken_1 := dk_seg dksX3_isTaken_0 24 rfl rfl
theorem dksX3_isTaken_2 : cX3_isTaken.data.toList.drop 48 = dktX3_isTaken_2 := dk_seg dksX3_isTaken_1 24 rfl rfl
theorem dX3_isTaken_0 : decode cX3_isTaken 0 = .ok (.iconst 0, 1) := dk_3 (dk_at dksX3_isTaken_0 0 rfl rfl)
theorem dX3_isTaken_1 : decode cX3_isTaken 1 = .ok (.istore_n 1, 1) := dk_60 (dk_at dksX3_isTaken_0 1 rfl rfl)
theorem dX3_isTaken_2 : decode cX3_isTaken 2 = .ok (.iload_n 1, 1) := dk_27 (dk_at dksX3_isTaken_0 2 rfl rfl)
theorem dX3_isTaken_3 : decode cX3_isTaken 3 = .ok (.aload_n 0, 1) := dk_42 (dk_at dksX3_isTaken_0 3 rfl rfl)
theorem dX3_isTaken_4 : decode cX3_isTaken 4 = .ok (.getfield 3, 3) := dk_180 0 3 (dk_at dksX3_isTaken_0 4 rfl rfl)
theorem dX3_isTaken_7 : decode cX3_isTaken 7 = .ok (.getfield 31, 3) := dk_180 0 31 (dk_at dksX3_isTaken_0 7 rfl rfl)
theorem dX3_isTaken_10 : decode cX3_isTaken 10 = .ok (.invokevirtual 35, 3) := dk_182 0 35 (dk_at dksX3_isTaken_0 10 rfl rfl)
theorem dX3_isTaken_13 : decode cX3_isTaken 13 = .ok (.if_icmp .ge 41, 3) := dk_162 0 41 (dk_at dksX3_isTaken_0 13 rfl rfl)
theorem dX3_isTaken_16 : decode cX3_isTaken 16 = .ok (.aload_n 0, 1) := dk_42 (dk_at dksX3_isTaken_0 16 rfl rfl)
theorem dX3_isTaken_17 : decode cX3_isTaken 17 = .ok (.aload_n 0, 1) := dk_42 (dk_at dksX3_isTaken_0 17 rfl rfl)
theorem dX3_isTaken_18 : decode cX3_isTaken 18 = .ok (.getfield 3, 3) := dk_180 0 3 (dk_at dksX3_isTaken_0 18 rfl rfl)
theorem dX3_isTaken_21 : decode cX3_isTaken 21 = .ok (.getfield 31, 3) := dk_180 0 31 (dk_at dksX3_isTaken_0 21 rfl rfl)
theorem dX3_isTaken_24 : decode cX3_isTaken 24 = .ok (.iload_n 1, 1) := dk_27 (dk_at dksX3_isTaken_1 0 rfl rfl)
theorem dX3_isTaken_25 : decode cX3_isTaken 25 = .ok (.invokevirtual 41, 3) := dk_182 0 41 (dk_at dksX3_isTaken_1 1 rfl rfl)
theorem dX3_isTaken_28 : decode cX3_isTaken 28 = .ok (.aload_n 0, 1) := dk_42 (dk_at dksX3_isTaken_1 4 rfl rfl)
theorem dX3_isTaken_29 : decode cX3_isTaken 29 = .ok (.getfield 3, 3) := dk_180 0 3 (dk_at dksX3_isTaken_1 5 rfl rfl)
theorem dX3_isTaken_32 : decode cX3_isTaken 32 = .ok (.getfield 31, 3) := dk_180 0 31 (dk_at dksX3_isTaken_1 8 rfl rfl)
theorem dX3_isTaken_35 : decode cX3_isTaken 35 = .ok (.iload_n 1, 1) := dk_27 (dk_at dksX3_isTaken_1 11 rfl rfl)
theorem dX3_isTaken_36 : decode cX3_isTaken 36 = .ok (.invokevirtual 45, 3) := dk_182 0 45 (dk_at dksX3_isTaken_1 12 rfl rfl)
theorem dX3_isTaken_39 : decode cX3_isTaken 39 = .ok (.invokevirtual 48, 3) := dk_182 0 48 (dk_at dksX3_isTaken_1 15 rfl rfl)
theorem dX3_isTaken_42 : decode cX3_isTaken 42 = .ok (.iconst (-1), 1) := dk_2 (dk_at dksX3_isTaken_1 18 rfl rfl)
theorem dX3_isTaken_43 : decode cX3_isTaken 43 = .ok (.if_icmp .eq 5, 3) := dk_159 0 5 (dk_at dksX3_isTaken_1 19 rfl rfl)
theorem dX3_isTaken_46 : decode cX3_isTaken 46 = .ok (.iconst 1, 1) := dk_4 (dk_at dksX3_isTaken_1 22 rfl rfl)
theorem dX3_isTaken_47 : decode cX3_isTaken 47 = .ok (.ireturn, 1) := dk_172 (dk_at dksX3_isTaken_1 23 rfl rfl)
theorem dX3_isTaken_48 : decode cX3_isTaken 48 = .ok (.iinc 1 1, 3) := dk_132 1 1 (dk_at dksX3_isTaken_2 0 rfl rfl)
theorem dX3_isTaken_51 : decode cX3_isTaken 51 = .ok (.goto (-49), 3) := dk_167 255 207 (dk_at dksX3_isTaken_2 3 rfl rfl)
theorem dX3_isTaken_54 : decode cX3_isTaken 54 = .ok (.iconst 0, 1) := dk_3 (dk_at dksX3_isTaken_2 6 rfl rfl)
theorem dX3_isTaken_55 : decode cX3_isTaken 55 = .ok (.ireturn, 1) := dk_172 (dk_at dksX3_isTaken_2 7 rfl rfl)
abbrev cX3_at : ByteArray := prog_12_method_3_code
def yX3_at : MethodName := ⟨RX3, "at", "(II)I"⟩
def dkwX3_at_0 : List UInt8 := [42, 180, 0, 17, 27, 50, 28, 46, 172]
abbrev dktX3_at_0 : List UInt8 := dkwX3_at_0 ++ []
theorem dksX3_at_0 : cX3_at.data.toList.drop 0 = dktX3_at_0 := by decide +kernel
theorem dX3_at_0 : decode cX3_at 0 = .ok (.aload_n 0, 1) := dk_42 (dk_at dksX3_at_0 0 rfl rfl)
theorem dX3_at_1 : decode cX3_at 1 = .ok (.getfield 17, 3) := dk_180 0 17 (dk_at dksX3_at_0 1 rfl rfl)
theorem dX3_at_4 : decode cX3_at 4 = .ok (.iload_n 1, 1) := dk_27 (dk_at dksX3_at_0 4 rfl rfl)
theorem dX3_at_5 : decode cX3_at 5 = .ok (.aaload, 1) := dk_50 (dk_at dksX3_at_0 5 rfl rfl)
theorem dX3_at_6 : decode cX3_at 6 = .ok (.iload_n 2, 1) := dk_28 (dk_at dksX3_at_0 6 rfl rfl)
theorem dX3_at_7 : decode cX3_at 7 = .ok (.iaload, 1) := dk_46 (dk_at dksX3_at_0 7 rfl rfl)
theorem dX3_at_8 : decode cX3_at 8 = .ok (.ireturn, 1) := dk_172 (dk_at dksX3_at_0 8 rfl rfl)
abbrev cX3_meets : ByteArray := prog_12_method_7_code
def yX3_meets : MethodName := ⟨RX3, "meets", "()Z"⟩
def dkwX3_meets_2 : List UInt8 := [182, 0, 76, 160, 0, 7, 4, 167, 0, 4, 3, 172]
abbrev dktX3_meets_2 : List UInt8 := dkwX3_meets_2 ++ []
def dkwX3_meets_1 : List UInt8 := [46, 2, 159, 0, 28, 42, 180, 0, 20, 42, 180, 0, 3, 180, 0, 31, 180, 0, 63, 180, 0, 67, 46, 42]
abbrev dktX3_meets_1 : List UInt8 := dkwX3_meets_1 ++ dktX3_meets_2
def dkwX3_meets_0 : List UInt8 := [42, 182, 0, 72, 153, 0, 50, 42, 180, 0, 20, 42, 180, 0, 3, 180, 0, 31, 180, 0, 63, 180, 0, 67]
abbrev dktX3_meets_0 : List UInt8 := dkwX3_meets_0 ++ dktX3_meets_1
theorem dksX3_meets_0 : cX3_meets.data.toList.drop 0 = dktX3_meets_0 := by decide +kernel
theorem dksX3_meets_1 : cX3_meets.data.toList.drop 24 = dktX3_meets_1 := dk_seg dksX3_meets_0 24 rfl rfl
theorem dksX3_meets_2 : cX3_meets.data.toList.drop 48 = dktX3_meets_2 := dk_seg dksX3_meets_1 24 rfl rfl
theorem dX3_meets_0 : decode cX3_meets 0 = .ok (.aload_n 0, 1) := dk_42 (dk_at dksX3_meets_0 0 rfl rfl)
theorem dX3_meets_1 : decode cX3_meets 1 = .ok (.invokevirtual 72, 3) := dk_182 0 72 (dk_at dksX3_meets_0 1 rfl rfl)
theorem dX3_meets_4 : decode cX3_meets 4 = .ok (.ifCond .eq 50, 3) := dk_153 0 50 (dk_at dksX3_meets_0 4 rfl rfl)
theorem dX3_meets_7 : decode cX3_meets 7 = .ok (.aload_n 0, 1) := dk_42 (dk_at dksX3_meets_0 7 rfl rfl)
theorem dX3_meets_8 : decode cX3_meets 8 = .ok (.getfield 20, 3) := dk_180 0 20 (dk_at dksX3_meets_0 8 rfl rfl)
theorem dX3_meets_11 : decode cX3_meets 11 = .ok (.aload_n 0, 1) := dk_42 (dk_at dksX3_meets_0 11 rfl rfl)
theorem dX3_meets_12 : decode cX3_meets 12 = .ok (.getfield 3, 3) := dk_180 0 3 (dk_at dksX3_meets_0 12 rfl rfl)
theorem dX3_meets_15 : decode cX3_meets 15 = .ok (.getfield 31, 3) := dk_180 0 31 (dk_at dksX3_meets_0 15 rfl rfl)
theorem dX3_meets_18 : decode cX3_meets 18 = .ok (.getfield 63, 3) := dk_180 0 63 (dk_at dksX3_meets_0 18 rfl rfl)
theorem dX3_meets_21 : decode cX3_meets 21 = .ok (.getfield 67, 3) := dk_180 0 67 (dk_at dksX3_meets_0 21 rfl rfl)
theorem dX3_meets_24 : decode cX3_meets 24 = .ok (.iaload, 1) := dk_46 (dk_at dksX3_meets_1 0 rfl rfl)
theorem dX3_meets_25 : decode cX3_meets 25 = .ok (.iconst (-1), 1) := dk_2 (dk_at dksX3_meets_1 1 rfl rfl)
theorem dX3_meets_26 : decode cX3_meets 26 = .ok (.if_icmp .eq 28, 3) := dk_159 0 28 (dk_at dksX3_meets_1 2 rfl rfl)
theorem dX3_meets_29 : decode cX3_meets 29 = .ok (.aload_n 0, 1) := dk_42 (dk_at dksX3_meets_1 5 rfl rfl)
theorem dX3_meets_30 : decode cX3_meets 30 = .ok (.getfield 20, 3) := dk_180 0 20 (dk_at dksX3_meets_1 6 rfl rfl)
theorem dX3_meets_33 : decode cX3_meets 33 = .ok (.aload_n 0, 1) := dk_42 (dk_at dksX3_meets_1 9 rfl rfl)
theorem dX3_meets_34 : decode cX3_meets 34 = .ok (.getfield 3, 3) := dk_180 0 3 (dk_at dksX3_meets_1 10 rfl rfl)
theorem dX3_meets_37 : decode cX3_meets 37 = .ok (.getfield 31, 3) := dk_180 0 31 (dk_at dksX3_meets_1 13 rfl rfl)
theorem dX3_meets_40 : decode cX3_meets 40 = .ok (.getfield 63, 3) := dk_180 0 63 (dk_at dksX3_meets_1 16 rfl rfl)
theorem dX3_meets_43 : decode cX3_meets 43 = .ok (.getfield 67, 3) := dk_180 0 67 (dk_at dksX3_meets_1 19 rfl rfl)
theorem dX3_meets_46 : decode cX3_meets 46 = .ok (.iaload, 1) := dk_46 (dk_at dksX3_meets_1 22 rfl rfl)
theorem dX3_meets_47 : decode cX3_meets 47 = .ok (.aload_n 0, 1) := dk_42 (dk_at dksX3_meets_1 23 rfl rfl)
theorem dX3_meets_48 : decode cX3_meets 48 = .ok (.invokevirtual 76, 3) := dk_182 0 76 (dk_at dksX3_meets_2 0 rfl rfl)
theorem dX3_meets_51 : decode cX3_meets 51 = .ok (.if_icmp .ne 7, 3) := dk_160 0 7 (dk_at dksX3_meets_2 3 rfl rfl)
theorem dX3_meets_54 : decode cX3_meets 54 = .ok (.iconst 1, 1) := dk_4 (dk_at dksX3_meets_2 6 rfl rfl)
theorem dX3_meets_55 : decode cX3_meets 55 = .ok (.goto 4, 3) := dk_167 0 4 (dk_at dksX3_meets_2 7 rfl rfl)
theorem dX3_meets_58 : decode cX3_meets 58 = .ok (.iconst 0, 1) := dk_3 (dk_at dksX3_meets_2 10 rfl rfl)
theorem dX3_meets_59 : decode cX3_meets 59 = .ok (.ireturn, 1) := dk_172 (dk_at dksX3_meets_2 11 rfl rfl)
abbrev cX3_hasRemainder : ByteArray := prog_12_method_6_code
def yX3_hasRemainder : MethodName := ⟨RX3, "hasRemainder", "()Z"⟩
def dkwX3_hasRemainder_1 : List UInt8 := [2, 159, 0, 7, 4, 167, 0, 4, 3, 172]
abbrev dktX3_hasRemainder_1 : List UInt8 := dkwX3_hasRemainder_1 ++ []
def dkwX3_hasRemainder_0 : List UInt8 := [42, 180, 0, 3, 180, 0, 55, 5, 161, 0, 24, 42, 180, 0, 3, 180, 0, 31, 180, 0, 63, 180, 0, 67]
abbrev dktX3_hasRemainder_0 : List UInt8 := dkwX3_hasRemainder_0 ++ dktX3_hasRemainder_1
theorem dksX3_hasRemainder_0 : cX3_hasRemainder.data.toList.drop 0 = dktX3_hasRemainder_0 := by decide +kernel
theorem dksX3_hasRemainder_1 : cX3_hasRemainder.data.toList.drop 24 = dktX3_hasRemainder_1 := dk_seg dksX3_hasRemainder_0 24 rfl rfl
theorem dX3_hasRemainder_0 : decode cX3_hasRemainder 0 = .ok (.aload_n 0, 1) := dk_42 (dk_at dksX3_hasRemainder_0 0 rfl rfl)
theorem dX3_hasRemainder_1 : decode cX3_hasRemainder 1 = .ok (.getfield 3, 3) := dk_180 0 3 (dk_at dksX3_hasRemainder_0 1 rfl rfl)
theorem dX3_hasRemainder_4 : decode cX3_hasRemainder 4 = .ok (.getfield 55, 3) := dk_180 0 55 (dk_at dksX3_hasRemainder_0 4 rfl rfl)
theorem dX3_hasRemainder_7 : decode cX3_hasRemainder 7 = .ok (.iconst 2, 1) := dk_5 (dk_at dksX3_hasRemainder_0 7 rfl rfl)
theorem dX3_hasRemainder_8 : decode cX3_hasRemainder 8 = .ok (.if_icmp .lt 24, 3) := dk_161 0 24 (dk_at dksX3_hasRemainder_0 8 rfl rfl)
theorem dX3_hasRemainder_11 : decode cX3_hasRemainder 11 = .ok (.aload_n 0, 1) := dk_42 (dk_at dksX3_hasRemainder_0 11 rfl rfl)
theorem dX3_hasRemainder_12 : decode cX3_hasRemainder 12 = .ok (.getfield 3, 3) := dk_180 0 3 (dk_at dksX3_hasRemainder_0 12 rfl rfl)
theorem dX3_hasRemainder_15 : decode cX3_hasRemainder 15 = .ok (.getfield 31, 3) := dk_180 0 31 (dk_at dksX3_hasRemainder_0 15 rfl rfl)
theorem dX3_hasRemainder_18 : decode cX3_hasRemainder 18 = .ok (.getfield 63, 3) := dk_180 0 63 (dk_at dksX3_hasRemainder_0 18 rfl rfl)
theorem dX3_hasRemainder_21 : decode cX3_hasRemainder 21 = .ok (.getfield 67, 3) := dk_180 0 67 (dk_at dksX3_hasRemainder_0 21 rfl rfl)
theorem dX3_hasRemainder_24 : decode cX3_hasRemainder 24 = .ok (.iconst (-1), 1) := dk_2 (dk_at dksX3_hasRemainder_1 0 rfl rfl)
theorem dX3_hasRemainder_25 : decode cX3_hasRemainder 25 = .ok (.if_icmp .eq 7, 3) := dk_159 0 7 (dk_at dksX3_hasRemainder_1 1 rfl rfl)
theorem dX3_hasRemainder_28 : decode cX3_hasRemainder 28 = .ok (.iconst 1, 1) := dk_4 (dk_at dksX3_hasRemainder_1 4 rfl rfl)
theorem dX3_hasRemainder_29 : decode cX3_hasRemainder 29 = .ok (.goto 4, 3) := dk_167 0 4 (dk_at dksX3_hasRemainder_1 5 rfl rfl)
theorem dX3_hasRemainder_32 : decode cX3_hasRemainder 32 = .ok (.iconst 0, 1) := dk_3 (dk_at dksX3_hasRemainder_1 8 rfl rfl)
theorem dX3_hasRemainder_33 : decode cX3_hasRemainder 33 = .ok (.ireturn, 1) := dk_172 (dk_at dksX3_hasRemainder_1 9 rfl rfl)
abbrev cX3_remainder : ByteArray := prog_12_method_5_code
def yX3_remainder : MethodName := ⟨RX3, "remainder", "()I"⟩
def dkwX3_remainder_0 : List UInt8 := [42, 180, 0, 3, 180, 0, 31, 182, 0, 52, 42, 180, 0, 3, 180, 0, 55, 184, 0, 58, 172]
abbrev dktX3_remainder_0 : List UInt8 := dkwX3_remainder_0 ++ []
theorem dksX3_remainder_0 : cX3_remainder.data.toList.drop 0 = dktX3_remainder_0 := by decide +kernel
theorem dX3_remainder_0 : decode cX3_remainder 0 = .ok (.aload_n 0, 1) := dk_42 (dk_at dksX3_remainder_0 0 rfl rfl)
theorem dX3_remainder_1 : decode cX3_remainder 1 = .ok (.getfield 3, 3) := dk_180 0 3 (dk_at dksX3_remainder_0 1 rfl rfl)
theorem dX3_remainder_4 : decode cX3_remainder 4 = .ok (.getfield 31, 3) := dk_180 0 31 (dk_at dksX3_remainder_0 4 rfl rfl)
theorem dX3_remainder_7 : decode cX3_remainder 7 = .ok (.invokevirtual 52, 3) := dk_182 0 52 (dk_at dksX3_remainder_0 7 rfl rfl)
theorem dX3_remainder_10 : decode cX3_remainder 10 = .ok (.aload_n 0, 1) := dk_42 (dk_at dksX3_remainder_0 10 rfl rfl)
theorem dX3_remainder_11 : decode cX3_remainder 11 = .ok (.getfield 3, 3) := dk_180 0 3 (dk_at dksX3_remainder_0 11 rfl rfl)
theorem dX3_remainder_14 : decode cX3_remainder 14 = .ok (.getfield 55, 3) := dk_180 0 55 (dk_at dksX3_remainder_0 14 rfl rfl)
theorem dX3_remainder_17 : decode cX3_remainder 17 = .ok (.invokestatic 58, 3) := dk_184 0 58 (dk_at dksX3_remainder_0 17 rfl rfl)
theorem dX3_remainder_20 : decode cX3_remainder 20 = .ok (.ireturn, 1) := dk_172 (dk_at dksX3_remainder_0 20 rfl rfl)
abbrev cX3_put : ByteArray := prog_12_method_8_code
def yX3_put : MethodName := ⟨RX3, "put", "(I)V"⟩
def dkwX3_put_4 : List UInt8 := [180, 0, 63, 180, 0, 67, 42, 182, 0, 76, 79, 177]
abbrev dktX3_put_4 : List UInt8 := dkwX3_put_4 ++ []
def dkwX3_put_3 : List UInt8 := [132, 2, 1, 167, 255, 186, 42, 182, 0, 72, 153, 0, 25, 42, 180, 0, 20, 42, 180, 0, 3, 180, 0, 31]
abbrev dktX3_put_3 : List UInt8 := dkwX3_put_3 ++ dktX3_put_4
def dkwX3_put_2 : List UInt8 := [180, 0, 27, 42, 180, 0, 3, 180, 0, 31, 28, 182, 0, 41, 4, 96, 184, 0, 79, 181, 0, 27]
abbrev dktX3_put_2 : List UInt8 := dkwX3_put_2 ++ dktX3_put_3
def dkwX3_put_1 : List UInt8 := [180, 0, 31, 28, 182, 0, 41, 50, 42, 180, 0, 3, 180, 0, 31, 28, 182, 0, 45, 27, 79, 42, 42]
abbrev dktX3_put_1 : List UInt8 := dkwX3_put_1 ++ dktX3_put_2
def dkwX3_put_0 : List UInt8 := [3, 61, 28, 42, 180, 0, 3, 180, 0, 31, 182, 0, 35, 162, 0, 62, 42, 180, 0, 17, 42, 180, 0, 3]
abbrev dktX3_put_0 : List UInt8 := dkwX3_put_0 ++ dktX3_put_1
theorem dksX3_put_0 : cX3_put.data.toList.drop 0 = dktX3_put_0 := by decide +kernel
theorem dksX3_put_1 : cX3_put.data.toList.drop 24 = dktX3_put_1 := dk_seg dksX3_put_0 24 rfl rfl
theorem dksX3_put_2 : cX3_put.data.toList.drop 47 = dktX3_put_2 := dk_seg dksX3_put_1 23 rfl rfl
theorem dksX3_put_3 : cX3_put.data.toList.drop 69 = dktX3_put_3 := dk_seg dksX3_put_2 22 rfl rfl
theorem dksX3_put_4 : cX3_put.data.toList.drop 93 = dktX3_put_4 := dk_seg dksX3_put_3 24 rfl rfl
theorem dX3_put_0 : decode cX3_put 0 = .ok (.iconst 0, 1) := dk_3 (dk_at dksX3_put_0 0 rfl rfl)
theorem dX3_put_1 : decode cX3_put 1 = .ok (.istore_n 2, 1) := dk_61 (dk_at dksX3_put_0 1 rfl rfl)
theorem dX3_put_2 : decode cX3_put 2 = .ok (.iload_n 2, 1) := dk_28 (dk_at dksX3_put_0 2 rfl rfl)
theorem dX3_put_3 : decode cX3_put 3 = .ok (.aload_n 0, 1) := dk_42 (dk_at dksX3_put_0 3 rfl rfl)
theorem dX3_put_4 : decode cX3_put 4 = .ok (.getfield 3, 3) := dk_180 0 3 (dk_at dksX3_put_0 4 rfl rfl)
theorem dX3_put_7 : decode cX3_put 7 = .ok (.getfield 31, 3) := dk_180 0 31 (dk_at dksX3_put_0 7 rfl rfl)
theorem dX3_put_10 : decode cX3_put 10 = .ok (.invokevirtual 35, 3) := dk_182 0 35 (dk_at dksX3_put_0 10 rfl rfl)
theorem dX3_put_13 : decode cX3_put 13 = .ok (.if_icmp .ge 62, 3) := dk_162 0 62 (dk_at dksX3_put_0 13 rfl rfl)
theorem dX3_put_16 : decode cX3_put 16 = .ok (.aload_n 0, 1) := dk_42 (dk_at dksX3_put_0 16 rfl rfl)
theorem dX3_put_17 : decode cX3_put 17 = .ok (.getfield 17, 3) := dk_180 0 17 (dk_at dksX3_put_0 17 rfl rfl)
theorem dX3_put_20 : decode cX3_put 20 = .ok (.aload_n 0, 1) := dk_42 (dk_at dksX3_put_0 20 rfl rfl)
theorem dX3_put_21 : decode cX3_put 21 = .ok (.getfield 3, 3) := dk_180 0 3 (dk_at dksX3_put_0 21 rfl rfl)
theorem dX3_put_24 : decode cX3_put 24 = .ok (.getfield 31, 3) := dk_180 0 31 (dk_at dksX3_put_1 0 rfl rfl)
theorem dX3_put_27 : decode cX3_put 27 = .ok (.iload_n 2, 1) := dk_28 (dk_at dksX3_put_1 3 rfl rfl)
theorem dX3_put_28 : decode cX3_put 28 = .ok (.invokevirtual 41, 3) := dk_182 0 41 (dk_at dksX3_put_1 4 rfl rfl)
theorem dX3_put_31 : decode cX3_put 31 = .ok (.aaload, 1) := dk_50 (dk_at dksX3_put_1 7 rfl rfl)
theorem dX3_put_32 : decode cX3_put 32 = .ok (.aload_n 0, 1) := dk_42 (dk_at dksX3_put_1 8 rfl rfl)
theorem dX3_put_33 : decode cX3_put 33 = .ok (.getfield 3, 3) := dk_180 0 3 (dk_at dksX3_put_1 9 rfl rfl)
theorem dX3_put_36 : decode cX3_put 36 = .ok (.getfield 31, 3) := dk_180 0 31 (dk_at dksX3_put_1 12 rfl rfl)
theorem dX3_put_39 : decode cX3_put 39 = .ok (.iload_n 2, 1) := dk_28 (dk_at dksX3_put_1 15 rfl rfl)
theorem dX3_put_40 : decode cX3_put 40 = .ok (.invokevirtual 45, 3) := dk_182 0 45 (dk_at dksX3_put_1 16 rfl rfl)
theorem dX3_put_43 : decode cX3_put 43 = .ok (.iload_n 1, 1) := dk_27 (dk_at dksX3_put_1 19 rfl rfl)
theorem dX3_put_44 : decode cX3_put 44 = .ok (.iastore, 1) := dk_79 (dk_at dksX3_put_1 20 rfl rfl)
theorem dX3_put_45 : decode cX3_put 45 = .ok (.aload_n 0, 1) := dk_42 (dk_at dksX3_put_1 21 rfl rfl)
theorem dX3_put_46 : decode cX3_put 46 = .ok (.aload_n 0, 1) := dk_42 (dk_at dksX3_put_1 22 rfl rfl)
theorem dX3_put_47 : decode cX3_put 47 = .ok (.getfield 27, 3) := dk_180 0 27 (dk_at dksX3_put_2 0 rfl rfl)
theorem dX3_put_50 : decode cX3_put 50 = .ok (.aload_n 0, 1) := dk_42 (dk_at dksX3_put_2 3 rfl rfl)
theorem dX3_put_51 : decode cX3_put 51 = .ok (.getfield 3, 3) := dk_180 0 3 (dk_at dksX3_put_2 4 rfl rfl)
theorem dX3_put_54 : decode cX3_put 54 = .ok (.getfield 31, 3) := dk_180 0 31 (dk_at dksX3_put_2 7 rfl rfl)
theorem dX3_put_57 : decode cX3_put 57 = .ok (.iload_n 2, 1) := dk_28 (dk_at dksX3_put_2 10 rfl rfl)
theorem dX3_put_58 : decode cX3_put 58 = .ok (.invokevirtual 41, 3) := dk_182 0 41 (dk_at dksX3_put_2 11 rfl rfl)
theorem dX3_put_61 : decode cX3_put 61 = .ok (.iconst 1, 1) := dk_4 (dk_at dksX3_put_2 14 rfl rfl)
theorem dX3_put_62 : decode cX3_put 62 = .ok (.iadd, 1) := dk_96 (dk_at dksX3_put_2 15 rfl rfl)
theorem dX3_put_63 : decode cX3_put 63 = .ok (.invokestatic 79, 3) := dk_184 0 79 (dk_at dksX3_put_2 16 rfl rfl)
theorem dX3_put_66 : decode cX3_put 66 = .ok (.putfield 27, 3) := dk_181 0 27 (dk_at dksX3_put_2 19 rfl rfl)
theorem dX3_put_69 : decode cX3_put 69 = .ok (.iinc 2 1, 3) := dk_132 2 1 (dk_at dksX3_put_3 0 rfl rfl)
theorem dX3_put_72 : decode cX3_put 72 = .ok (.goto (-70), 3) := dk_167 255 186 (dk_at dksX3_put_3 3 rfl rfl)
theorem dX3_put_75 : decode cX3_put 75 = .ok (.aload_n 0, 1) := dk_42 (dk_at dksX3_put_3 6 rfl rfl)
theorem dX3_put_76 : decode cX3_put 76 = .ok (.invokevirtual 72, 3) := dk_182 0 72 (dk_at dksX3_put_3 7 rfl rfl)
theorem dX3_put_79 : decode cX3_put 79 = .ok (.ifCond .eq 25, 3) := dk_153 0 25 (dk_at dksX3_put_3 10 rfl rfl)
theorem dX3_put_82 : decode cX3_put 82 = .ok (.aload_n 0, 1) := dk_42 (dk_at dksX3_put_3 13 rfl rfl)
theorem dX3_put_83 : decode cX3_put 83 = .ok (.getfield 20, 3) := dk_180 0 20 (dk_at dksX3_put_3 14 rfl rfl)
theorem dX3_put_86 : decode cX3_put 86 = .ok (.aload_n 0, 1) := dk_42 (dk_at dksX3_put_3 17 rfl rfl)
theorem dX3_put_87 : decode cX3_put 87 = .ok (.getfield 3, 3) := dk_180 0 3 (dk_at dksX3_put_3 18 rfl rfl)
theorem dX3_put_90 : decode cX3_put 90 = .ok (.getfield 31, 3) := dk_180 0 31 (dk_at dksX3_put_3 21 rfl rfl)
theorem dX3_put_93 : decode cX3_put 93 = .ok (.getfield 63, 3) := dk_180 0 63 (dk_at dksX3_put_4 0 rfl rfl)
theorem dX3_put_96 : decode cX3_put 96 = .ok (.getfield 67, 3) := dk_180 0 67 (dk_at dksX3_put_4 3 rfl rfl)
theorem dX3_put_99 : decode cX3_put 99 = .ok (.aload_n 0, 1) := dk_42 (dk_at dksX3_put_4 6 rfl rfl)
theorem dX3_put_100 : decode cX3_put 100 = .ok (.invokevirtual 76, 3) := dk_182 0 76 (dk_at dksX3_put_4 7 rfl rfl)
theorem dX3_put_103 : decode cX3_put 103 = .ok (.iastore, 1) := dk_79 (dk_at dksX3_put_4 10 rfl rfl)
theorem dX3_put_104 : decode cX3_put 104 = .ok (.return_, 1) := dk_177 (dk_at dksX3_put_4 11 rfl rfl)
theorem q71 : (Jvm.Cond.initialized "CuttingRoom$Sheet") ∈ lw_all := lw_g (lw_at lw_m1 6 rfl) rfl
theorem q144 : (Jvm.Cond.fieldLinkNest "CuttingRoom$Sheet" (63 : Nat) "CuttingRoom$Spot" "shape" "LCuttingRoom$Shape;" "CuttingRoom") ∈ lw_tbl := lw_at lw_m1 79 rfl
theorem q171 : (Jvm.Cond.instantiable "CuttingRoom$Sheet" (4 : Nat)) ∈ lw_all := lw_g (lw_at lw_m1 106 rfl) rfl
theorem q173 : (Jvm.Cond.instanceMethod ({ cls := "CuttingRoom$Sheet", name := "<init>", desc := "(LCuttingRoom;)V" } : Jvm.MethodName)) ∈ lw_all := lw_g (lw_at lw_m1 108 rfl) rfl
theorem q174 : (Jvm.Cond.code ({ cls := "CuttingRoom$Sheet", name := "<init>", desc := "(LCuttingRoom;)V" } : Jvm.MethodName) prog_12_method_1_code (2 : Nat) (Option.none : Option Jvm.ClassFile.FieldType)) ∈ lw_all := lw_g (lw_at lw_m1 109 rfl) rfl
theorem q175 : (Jvm.Cond.methodLink "CuttingRoom$Sheet" (9 : Nat) ({ cls := "java/lang/Object", name := "<init>", desc := "()V" } : Jvm.MethodName)) ∈ lw_all := lw_g (lw_at lw_m1 110 rfl) rfl
theorem q176 : (Jvm.Cond.classLink "CuttingRoom$Sheet" (15 : Nat) "[[I") ∈ lw_all := lw_g (lw_at lw_m1 111 rfl) rfl
theorem q178 : (Jvm.Cond.methodLink "CuttingRoom$Sheet" (24 : Nat) ({ cls := "CuttingRoom$Sheet", name := "clear", desc := "()V" } : Jvm.MethodName)) ∈ lw_all := lw_g (lw_at lw_m1 113 rfl) rfl
theorem q179 : (Jvm.Cond.instanceMethod ({ cls := "CuttingRoom$Sheet", name := "clear", desc := "()V" } : Jvm.MethodName)) ∈ lw_all := lw_g (lw_at lw_m1 114 rfl) rfl
theorem q180 : (Jvm.Cond.selects "CuttingRoom$Sheet" ({ cls := "CuttingRoom$Sheet", name := "clear", desc := "()V" } : Jvm.MethodName) ({ cls := "CuttingRoom$Sheet", name := "clear", desc := "()V" } : Jvm.MethodName)) ∈ lw_all := lw_g (lw_at lw_m1 115 rfl) rfl
theorem q181 : (Jvm.Cond.code ({ cls := "CuttingRoom$Sheet", name := "clear", desc := "()V" } : Jvm.MethodName) prog_12_method_2_code (3 : Nat) (Option.none : Option Jvm.ClassFile.FieldType)) ∈ lw_all := lw_g (lw_at lw_m1 116 rfl) rfl
theorem q182 : (Jvm.Cond.fieldLink "CuttingRoom$Sheet" (17 : Nat) "CuttingRoom$Sheet" "numbers" "[[I") ∈ lw_all := lw_g (lw_at lw_m1 117 rfl) rfl
theorem q183 : (Jvm.Cond.fieldLink "CuttingRoom$Sheet" (20 : Nat) "CuttingRoom$Sheet" "remainders" "[I") ∈ lw_all := lw_g (lw_at lw_m1 118 rfl) rfl
theorem q185 : (Jvm.Cond.fieldLink "CuttingRoom$Sheet" (27 : Nat) "CuttingRoom$Sheet" "length" "I") ∈ lw_all := lw_g (lw_at lw_m1 120 rfl) rfl
theorem q188 : (Jvm.Cond.fieldLink "CuttingRoom$Sheet" (3 : Nat) "CuttingRoom$Sheet" "this$0" "LCuttingRoom;") ∈ lw_all := lw_g (lw_at lw_m1 123 rfl) rfl
theorem q189 : (Jvm.Cond.laysFinal "CuttingRoom$Sheet" "CuttingRoom$Sheet" "numbers" "[[I") ∈ lw_all := lw_g (lw_at lw_m1 124 rfl) rfl
theorem q190 : (Jvm.Cond.soleField "CuttingRoom$Sheet" "numbers") ∈ lw_all := lw_g (lw_at lw_m1 125 rfl) rfl
theorem q191 : (Jvm.Cond.laysFinal "CuttingRoom$Sheet" "CuttingRoom$Sheet" "remainders" "[I") ∈ lw_all := lw_g (lw_at lw_m1 126 rfl) rfl
theorem q192 : (Jvm.Cond.soleField "CuttingRoom$Sheet" "remainders") ∈ lw_all := lw_g (lw_at lw_m1 127 rfl) rfl
theorem q193 : (Jvm.Cond.lays "CuttingRoom$Sheet" "CuttingRoom$Sheet" "length" "I") ∈ lw_all := lw_g (lw_at lw_m1 128 rfl) rfl
theorem q194 : (Jvm.Cond.soleField "CuttingRoom$Sheet" "length") ∈ lw_all := lw_g (lw_at lw_m1 129 rfl) rfl
theorem q195 : (Jvm.Cond.laysFinal "CuttingRoom$Sheet" "CuttingRoom$Sheet" "this$0" "LCuttingRoom;") ∈ lw_all := lw_g (lw_at lw_m1 130 rfl) rfl
theorem q196 : (Jvm.Cond.soleField "CuttingRoom$Sheet" "this$0") ∈ lw_all := lw_g (lw_at lw_m1 131 rfl) rfl
theorem q197 : (Jvm.Cond.superclass "CuttingRoom$Sheet" "java/lang/Object") ∈ lw_all := lw_g (lw_at lw_m1 132 rfl) rfl
theorem q284 : (Jvm.Cond.instanceMethod ({ cls := "CuttingRoom$Sheet", name := "isTaken", desc := "()Z" } : Jvm.MethodName)) ∈ lw_all := lw_g (lw_at lw_m1 219 rfl) rfl
theorem q285 : (Jvm.Cond.selects "CuttingRoom$Sheet" ({ cls := "CuttingRoom$Sheet", name := "isTaken", desc := "()Z" } : Jvm.MethodName) ({ cls := "CuttingRoom$Sheet", name := "isTaken", desc := "()Z" } : Jvm.MethodName)) ∈ lw_all := lw_g (lw_at lw_m1 220 rfl) rfl
theorem q286 : (Jvm.Cond.code ({ cls := "CuttingRoom$Sheet", name := "isTaken", desc := "()Z" } : Jvm.MethodName) prog_12_method_4_code (2 : Nat) (Option.some Jvm.ClassFile.FieldType.boolean)) ∈ lw_all := lw_g (lw_at lw_m1 221 rfl) rfl
theorem q287 : (Jvm.Cond.methodLink "CuttingRoom$Sheet" (35 : Nat) ({ cls := "CuttingRoom$Spot", name := "cells", desc := "()I" } : Jvm.MethodName)) ∈ lw_all := lw_g (lw_at lw_m1 222 rfl) rfl
theorem q288 : (Jvm.Cond.methodLink "CuttingRoom$Sheet" (41 : Nat) ({ cls := "CuttingRoom$Spot", name := "rowOf", desc := "(I)I" } : Jvm.MethodName)) ∈ lw_all := lw_g (lw_at lw_m1 223 rfl) rfl
theorem q289 : (Jvm.Cond.methodLink "CuttingRoom$Sheet" (45 : Nat) ({ cls := "CuttingRoom$Spot", name := "columnOf", desc := "(I)I" } : Jvm.MethodName)) ∈ lw_all := lw_g (lw_at lw_m1 224 rfl) rfl
theorem q290 : (Jvm.Cond.methodLink "CuttingRoom$Sheet" (48 : Nat) ({ cls := "CuttingRoom$Sheet", name := "at", desc := "(II)I" } : Jvm.MethodName)) ∈ lw_all := lw_g (lw_at lw_m1 225 rfl) rfl
theorem q291 : (Jvm.Cond.instanceMethod ({ cls := "CuttingRoom$Sheet", name := "at", desc := "(II)I" } : Jvm.MethodName)) ∈ lw_all := lw_g (lw_at lw_m1 226 rfl) rfl
theorem q292 : (Jvm.Cond.selects "CuttingRoom$Sheet" ({ cls := "CuttingRoom$Sheet", name := "at", desc := "(II)I" } : Jvm.MethodName) ({ cls := "CuttingRoom$Sheet", name := "at", desc := "(II)I" } : Jvm.MethodName)) ∈ lw_all := lw_g (lw_at lw_m1 227 rfl) rfl
theorem q293 : (Jvm.Cond.code ({ cls := "CuttingRoom$Sheet", name := "at", desc := "(II)I" } : Jvm.MethodName) prog_12_method_3_code (3 : Nat) (Option.some Jvm.ClassFile.FieldType.int)) ∈ lw_all := lw_g (lw_at lw_m1 228 rfl) rfl
theorem q297 : (Jvm.Cond.instanceMethod ({ cls := "CuttingRoom$Sheet", name := "meets", desc := "()Z" } : Jvm.MethodName)) ∈ lw_all := lw_g (lw_at lw_m1 232 rfl) rfl
theorem q298 : (Jvm.Cond.selects "CuttingRoom$Sheet" ({ cls := "CuttingRoom$Sheet", name := "meets", desc := "()Z" } : Jvm.MethodName) ({ cls := "CuttingRoom$Sheet", name := "meets", desc := "()Z" } : Jvm.MethodName)) ∈ lw_all := lw_g (lw_at lw_m1 233 rfl) rfl
theorem q299 : (Jvm.Cond.code ({ cls := "CuttingRoom$Sheet", name := "meets", desc := "()Z" } : Jvm.MethodName) prog_12_method_7_code (1 : Nat) (Option.some Jvm.ClassFile.FieldType.boolean)) ∈ lw_all := lw_g (lw_at lw_m1 234 rfl) rfl
theorem q300 : (Jvm.Cond.methodLink "CuttingRoom$Sheet" (72 : Nat) ({ cls := "CuttingRoom$Sheet", name := "hasRemainder", desc := "()Z" } : Jvm.MethodName)) ∈ lw_all := lw_g (lw_at lw_m1 235 rfl) rfl
theorem q301 : (Jvm.Cond.privateMethod ({ cls := "CuttingRoom$Sheet", name := "hasRemainder", desc := "()Z" } : Jvm.MethodName)) ∈ lw_tbl := lw_at lw_m1 236 rfl
theorem q302 : (Jvm.Cond.instanceMethod ({ cls := "CuttingRoom$Sheet", name := "hasRemainder", desc := "()Z" } : Jvm.MethodName)) ∈ lw_all := lw_g (lw_at lw_m1 237 rfl) rfl
theorem q303 : (Jvm.Cond.code ({ cls := "CuttingRoom$Sheet", name := "hasRemainder", desc := "()Z" } : Jvm.MethodName) prog_12_method_6_code (1 : Nat) (Option.some Jvm.ClassFile.FieldType.boolean)) ∈ lw_all := lw_g (lw_at lw_m1 238 rfl) rfl
theorem q304 : (Jvm.Cond.methodLink "CuttingRoom$Sheet" (76 : Nat) ({ cls := "CuttingRoom$Sheet", name := "remainder", desc := "()I" } : Jvm.MethodName)) ∈ lw_all := lw_g (lw_at lw_m1 239 rfl) rfl
theorem q305 : (Jvm.Cond.privateMethod ({ cls := "CuttingRoom$Sheet", name := "remainder", desc := "()I" } : Jvm.MethodName)) ∈ lw_tbl := lw_at lw_m2 0 rfl
theorem q306 : (Jvm.Cond.instanceMethod ({ cls := "CuttingRoom$Sheet", name := "remainder", desc := "()I" } : Jvm.MethodName)) ∈ lw_all := lw_g (lw_at lw_m2 1 rfl) rfl
theorem q307 : (Jvm.Cond.code ({ cls := "CuttingRoom$Sheet", name := "remainder", desc := "()I" } : Jvm.MethodName) prog_12_method_5_code (1 : Nat) (Option.some Jvm.ClassFile.FieldType.int)) ∈ lw_all := lw_g (lw_at lw_m2 2 rfl) rfl
theorem q308 : (Jvm.Cond.methodLink "CuttingRoom$Sheet" (52 : Nat) ({ cls := "CuttingRoom$Spot", name := "markRow", desc := "()I" } : Jvm.MethodName)) ∈ lw_all := lw_g (lw_at lw_m2 3 rfl) rfl
theorem q312 : (Jvm.Cond.methodLink "CuttingRoom$Sheet" (58 : Nat) ({ cls := "java/lang/Math", name := "floorMod", desc := "(II)I" } : Jvm.MethodName)) ∈ lw_all := lw_g (lw_at lw_m2 7 rfl) rfl
theorem q322 : (Jvm.Cond.fieldLinkNest "CuttingRoom$Sheet" (31 : Nat) "CuttingRoom" "spot" "LCuttingRoom$Spot;" "CuttingRoom") ∈ lw_tbl := lw_at lw_m2 17 rfl
theorem q329 : (Jvm.Cond.fieldLinkNest "CuttingRoom$Sheet" (55 : Nat) "CuttingRoom" "stripes" "I" "CuttingRoom") ∈ lw_tbl := lw_at lw_m2 24 rfl
theorem q714 : (Jvm.Cond.fieldLinkNest "CuttingRoom$Sheet" (67 : Nat) "CuttingRoom$Shape" "group" "I" "CuttingRoom") ∈ lw_tbl := lw_at lw_m3 169 rfl
theorem q790 : (Jvm.Cond.selects "CuttingRoom$Sheet" ({ cls := "java/lang/Object", name := "getClass", desc := "()Ljava/lang/Class;" } : Jvm.MethodName) ({ cls := "java/lang/Object", name := "getClass", desc := "()Ljava/lang/Class;" } : Jvm.MethodName)) ∈ lw_all := lw_g (lw_at lw_m4 5 rfl) rfl
theorem q981 : (Jvm.Cond.instanceMethod ({ cls := "CuttingRoom$Sheet", name := "put", desc := "(I)V" } : Jvm.MethodName)) ∈ lw_all := lw_g (lw_at lw_m4 196 rfl) rfl
theorem q982 : (Jvm.Cond.selects "CuttingRoom$Sheet" ({ cls := "CuttingRoom$Sheet", name := "put", desc := "(I)V" } : Jvm.MethodName) ({ cls := "CuttingRoom$Sheet", name := "put", desc := "(I)V" } : Jvm.MethodName)) ∈ lw_all := lw_g (lw_at lw_m4 197 rfl) rfl
theorem q983 : (Jvm.Cond.code ({ cls := "CuttingRoom$Sheet", name := "put", desc := "(I)V" } : Jvm.MethodName) prog_12_method_8_code (3 : Nat) (Option.none : Option Jvm.ClassFile.FieldType)) ∈ lw_all := lw_g (lw_at lw_m4 198 rfl) rfl
theorem q984 : (Jvm.Cond.methodLink "CuttingRoom$Sheet" (79 : Nat) ({ cls := "java/lang/Math", name := "max", desc := "(II)I" } : Jvm.MethodName)) ∈ lw_all := lw_g (lw_at lw_m4 199 rfl) rfl
theorem q1035 : (Jvm.Cond.selects "CuttingRoom$Sheet" ({ cls := "java/lang/Object", name := "equals", desc := "(Ljava/lang/Object;)Z" } : Jvm.MethodName) ({ cls := "java/lang/Object", name := "equals", desc := "(Ljava/lang/Object;)Z" } : Jvm.MethodName)) ∈ lw_all := lw_g (lw_at lw_m5 10 rfl) rfl
theorem q1838 : (Jvm.Cond.castable "CuttingRoom$Sheet" "java/lang/Object") ∈ lw_tbl := lw_at lw_m8 93 rfl
theorem in_X3 : ∀ w ∈ wsX30, w ∈ lw_all := lw_in wsX30 [189, 191, 193, 195] (by decide +kernel) (by decide +kernel)

/-! CuttingRoom$Shape -/
set_option maxRecDepth 100000
def RX5 : String := "CuttingRoom$Shape"
def TX5 : u_T := fun k => match k with
  | 0 => ("CuttingRoom$Shape", "rule", "LCuttingRoom$Rule;", true)
  | 1 => ("CuttingRoom$Shape", "isPaired", "Z", true)
  | 2 => ("CuttingRoom$Shape", "cells", "Ljava/util/List;", true)
  | 3 => ("CuttingRoom$Shape", "group", "I", false)
  | 4 => ("CuttingRoom$Shape", "mark", "LCuttingRoom$Cell;", false)
  | 5 => ("CuttingRoom$Shape", "plain", "I", false)
  | 6 => ("CuttingRoom$Shape", "mirrored", "I", false)
  | 7 => ("CuttingRoom$Shape", "wasCut", "Z", false)
  | _ => ("CuttingRoom$Shape", "variants", "[LCuttingRoom$Variant;", true)
def tyX5 : Nat → FieldType := fun k => match k with
  | 0 => .object "CuttingRoom$Rule"
  | 1 => .boolean
  | 2 => .object "java/util/List"
  | 3 => .int
  | 4 => .object "CuttingRoom$Cell"
  | 5 => .int
  | 6 => .int
  | 7 => .boolean
  | _ => .array (.object "CuttingRoom$Variant")
abbrev wsX50 : List Cond := u_ws RX5 TX5 9
theorem nmX5 : ∀ a, a < 9 → ∀ b, b < 9 → a ≠ b → (TX5 a).2.1 ≠ (TX5 b).2.1 := by decide +kernel
theorem tyX5_ok : ∀ k, k < 9 → parseFieldDescriptor (TX5 k).2.2.1 = some (tyX5 k) := by decide +kernel
abbrev cX5_variant : ByteArray := prog_11_method_3_code
def yX5_variant : MethodName := ⟨RX5, "variant", "(ZI)LCuttingRoom$Variant;"⟩
def dkwX5_variant_0 : List UInt8 := [42, 180, 0, 33, 27, 153, 0, 9, 7, 28, 96, 167, 0, 4, 28, 50, 176]
abbrev dktX5_variant_0 : List UInt8 := dkwX5_variant_0 ++ []
theorem dksX5_variant_0 : cX5_variant.data.toList.drop 0 = dktX5_variant_0 := by decide +kernel
theorem dX5_variant_0 : decode cX5_variant 0 = .ok (.aload_n 0, 1) := dk_42 (dk_at dksX5_variant_0 0 rfl rfl)
theorem dX5_variant_1 : decode cX5_variant 1 = .ok (.getfield 33, 3) := dk_180 0 33 (dk_at dksX5_variant_0 1 rfl rfl)
theorem dX5_variant_4 : decode cX5_variant 4 = .ok (.iload_n 1, 1) := dk_27 (dk_at dksX5_variant_0 4 rfl rfl)
theorem dX5_variant_5 : decode cX5_variant 5 = .ok (.ifCond .eq 9, 3) := dk_153 0 9 (dk_at dksX5_variant_0 5 rfl rfl)
theorem dX5_variant_8 : decode cX5_variant 8 = .ok (.iconst 4, 1) := dk_7 (dk_at dksX5_variant_0 8 rfl rfl)
theorem dX5_variant_9 : decode cX5_variant 9 = .ok (.iload_n 2, 1) := dk_28 (dk_at dksX5_variant_0 9 rfl rfl)
theorem dX5_variant_10 : decode cX5_variant 10 = .ok (.iadd, 1) := dk_96 (dk_at dksX5_variant_0 10 rfl rfl)
theorem dX5_variant_11 : decode cX5_variant 11 = .ok (.goto 4, 3) := dk_167 0 4 (dk_at dksX5_variant_0 11 rfl rfl)
theorem dX5_variant_14 : decode cX5_variant 14 = .ok (.iload_n 2, 1) := dk_28 (dk_at dksX5_variant_0 14 rfl rfl)
theorem dX5_variant_15 : decode cX5_variant 15 = .ok (.aaload, 1) := dk_50 (dk_at dksX5_variant_0 15 rfl rfl)
theorem dX5_variant_16 : decode cX5_variant 16 = .ok (.areturn, 1) := dk_176 (dk_at dksX5_variant_0 16 rfl rfl)
abbrev cX5_init : ByteArray := prog_11_method_1_code
def yX5_init : MethodName := ⟨RX5, "<init>", "(LCuttingRoom$Rule;Z)V"⟩
def dkwX5_init_2 : List UInt8 := [28, 181, 0, 41, 42, 182, 0, 45, 177]
abbrev dktX5_init_2 : List UInt8 := dkwX5_init_2 ++ []
def dkwX5_init_1 : List UInt8 := [89, 3, 3, 183, 0, 24, 181, 0, 27, 42, 16, 8, 189, 0, 31, 181, 0, 33, 42, 43, 181, 0, 37, 42]
abbrev dktX5_init_1 : List UInt8 := dkwX5_init_1 ++ dktX5_init_2
def dkwX5_init_0 : List UInt8 := [42, 183, 0, 3, 42, 187, 0, 9, 89, 183, 0, 11, 181, 0, 12, 42, 2, 181, 0, 18, 42, 187, 0, 22]
abbrev dktX5_init_0 : List UInt8 := dkwX5_init_0 ++ dktX5_init_1
theorem dksX5_init_0 : cX5_init.data.toList.drop 0 = dktX5_init_0 := by decide +kernel
theorem dksX5_init_1 : cX5_init.data.toList.drop 24 = dktX5_init_1 := dk_seg dksX5_init_0 24 rfl rfl
theorem dksX5_init_2 : cX5_init.data.toList.drop 48 = dktX5_init_2 := dk_seg dksX5_init_1 24 rfl rfl
theorem dX5_init_0 : decode cX5_init 0 = .ok (.aload_n 0, 1) := dk_42 (dk_at dksX5_init_0 0 rfl rfl)
theorem dX5_init_1 : decode cX5_init 1 = .ok (.invokespecial 3, 3) := dk_183 0 3 (dk_at dksX5_init_0 1 rfl rfl)
theorem dX5_init_4 : decode cX5_init 4 = .ok (.aload_n 0, 1) := dk_42 (dk_at dksX5_init_0 4 rfl rfl)
theorem dX5_init_5 : decode cX5_init 5 = .ok (.new 9, 3) := dk_187 0 9 (dk_at dksX5_init_0 5 rfl rfl)
theorem dX5_init_8 : decode cX5_init 8 = .ok (.dup, 1) := dk_89 (dk_at dksX5_init_0 8 rfl rfl)
theorem dX5_init_9 : decode cX5_init 9 = .ok (.invokespecial 11, 3) := dk_183 0 11 (dk_at dksX5_init_0 9 rfl rfl)
theorem dX5_init_12 : decode cX5_init 12 = .ok (.putfield 12, 3) := dk_181 0 12 (dk_at dksX5_init_0 12 rfl rfl)
theorem dX5_init_15 : decode cX5_init 15 = .ok (.aload_n 0, 1) := dk_42 (dk_at dksX5_init_0 15 rfl rfl)
theorem dX5_init_16 : decode cX5_init 16 = .ok (.iconst (-1), 1) := dk_2 (dk_at dksX5_init_0 16 rfl rfl)
theorem dX5_init_17 : decode cX5_init 17 = .ok (.putfield 18, 3) := dk_181 0 18 (dk_at dksX5_init_0 17 rfl rfl)
theorem dX5_init_20 : decode cX5_init 20 = .ok (.aload_n 0, 1) := dk_42 (dk_at dksX5_init_0 20 rfl rfl)
theorem dX5_init_21 : decode cX5_init 21 = .ok (.new 22, 3) := dk_187 0 22 (dk_at dksX5_init_0 21 rfl rfl)
theorem dX5_init_24 : decode cX5_init 24 = .ok (.dup, 1) := dk_89 (dk_at dksX5_init_1 0 rfl rfl)
theorem dX5_init_25 : decode cX5_init 25 = .ok (.iconst 0, 1) := dk_3 (dk_at dksX5_init_1 1 rfl rfl)
theorem dX5_init_26 : decode cX5_init 26 = .ok (.iconst 0, 1) := dk_3 (dk_at dksX5_init_1 2 rfl rfl)
theorem dX5_init_27 : decode cX5_init 27 = .ok (.invokespecial 24, 3) := dk_183 0 24 (dk_at dksX5_init_1 3 rfl rfl)
theorem dX5_init_30 : decode cX5_init 30 = .ok (.putfield 27, 3) := dk_181 0 27 (dk_at dksX5_init_1 6 rfl rfl)
theorem dX5_init_33 : decode cX5_init 33 = .ok (.aload_n 0, 1) := dk_42 (dk_at dksX5_init_1 9 rfl rfl)
theorem dX5_init_34 : decode cX5_init 34 = .ok (.bipush 8, 2) := dk_16 8 (dk_at dksX5_init_1 10 rfl rfl)
theorem dX5_init_36 : decode cX5_init 36 = .ok (.anewarray 31, 3) := dk_189 0 31 (dk_at dksX5_init_1 12 rfl rfl)
theorem dX5_init_39 : decode cX5_init 39 = .ok (.putfield 33, 3) := dk_181 0 33 (dk_at dksX5_init_1 15 rfl rfl)
theorem dX5_init_42 : decode cX5_init 42 = .ok (.aload_n 0, 1) := dk_42 (dk_at dksX5_init_1 18 rfl rfl)
theorem dX5_init_43 : decode cX5_init 43 = .ok (.aload_n 1, 1) := dk_43 (dk_at dksX5_init_1 19 rfl rfl)
theorem dX5_init_44 : decode cX5_init 44 = .ok (.putfield 37, 3) := dk_181 0 37 (dk_at dksX5_init_1 20 rfl rfl)
theorem dX5_init_47 : decode cX5_init 47 = .ok (.aload_n 0, 1) := dk_42 (dk_at dksX5_init_1 23 rfl rfl)
theorem dX5_init_48 : decode cX5_init 48 = .ok (.iload_n 2, 1) := dk_28 (dk_at dksX5_init_2 0 rfl rfl)
theorem dX5_init_49 : decode cX5_init 49 = .ok (.putfield 41, 3) := dk_181 0 41 (dk_at dksX5_init_2 1 rfl rfl)
theorem dX5_init_52 : decode cX5_init 52 = .ok (.aload_n 0, 1) := dk_42 (dk_at dksX5_init_2 4 rfl rfl)
theorem dX5_init_53 : decode cX5_init 53 = .ok (.invokevirtual 45, 3) := dk_182 0 45 (dk_at dksX5_init_2 5 rfl rfl)
theorem dX5_init_56 : decode cX5_init 56 = .ok (.return_, 1) := dk_177 (dk_at dksX5_init_2 8 rfl rfl)
abbrev cX5_vary : ByteArray := prog_11_method_2_code
def yX5_vary : MethodName := ⟨RX5, "vary", "()V"⟩
def dkwX5_vary_1 : List UInt8 := [180, 0, 33, 7, 27, 96, 187, 0, 31, 89, 42, 4, 27, 183, 0, 48, 83, 132, 1, 1, 167, 255, 214, 177]
abbrev dktX5_vary_1 : List UInt8 := dkwX5_vary_1 ++ []
def dkwX5_vary_0 : List UInt8 := [3, 60, 27, 7, 162, 0, 43, 42, 180, 0, 33, 27, 187, 0, 31, 89, 42, 3, 27, 183, 0, 48, 83, 42]
abbrev dktX5_vary_0 : List UInt8 := dkwX5_vary_0 ++ dktX5_vary_1
theorem dksX5_vary_0 : cX5_vary.data.toList.drop 0 = dktX5_vary_0 := by decide +kernel
theorem dksX5_vary_1 : cX5_vary.data.toList.drop 24 = dktX5_vary_1 := dk_seg dksX5_vary_0 24 rfl rfl
theorem dX5_vary_0 : decode cX5_vary 0 = .ok (.iconst 0, 1) := dk_3 (dk_at dksX5_vary_0 0 rfl rfl)
theorem dX5_vary_1 : decode cX5_vary 1 = .ok (.istore_n 1, 1) := dk_60 (dk_at dksX5_vary_0 1 rfl rfl)
theorem dX5_vary_2 : decode cX5_vary 2 = .ok (.iload_n 1, 1) := dk_27 (dk_at dksX5_vary_0 2 rfl rfl)
theorem dX5_vary_3 : decode cX5_vary 3 = .ok (.iconst 4, 1) := dk_7 (dk_at dksX5_vary_0 3 rfl rfl)
theorem dX5_vary_4 : decode cX5_vary 4 = .ok (.if_icmp .ge 43, 3) := dk_162 0 43 (dk_at dksX5_vary_0 4 rfl rfl)
theorem dX5_vary_7 : decode cX5_vary 7 = .ok (.aload_n 0, 1) := dk_42 (dk_at dksX5_vary_0 7 rfl rfl)
theorem dX5_vary_8 : decode cX5_vary 8 = .ok (.getfield 33, 3) := dk_180 0 33 (dk_at dksX5_vary_0 8 rfl rfl)
theorem dX5_vary_11 : decode cX5_vary 11 = .ok (.iload_n 1, 1) := dk_27 (dk_at dksX5_vary_0 11 rfl rfl)
theorem dX5_vary_12 : decode cX5_vary 12 = .ok (.new 31, 3) := dk_187 0 31 (dk_at dksX5_vary_0 12 rfl rfl)
theorem dX5_vary_15 : decode cX5_vary 15 = .ok (.dup, 1) := dk_89 (dk_at dksX5_vary_0 15 rfl rfl)
theorem dX5_vary_16 : decode cX5_vary 16 = .ok (.aload_n 0, 1) := dk_42 (dk_at dksX5_vary_0 16 rfl rfl)
theorem dX5_vary_17 : decode cX5_vary 17 = .ok (.iconst 0, 1) := dk_3 (dk_at dksX5_vary_0 17 rfl rfl)
theorem dX5_vary_18 : decode cX5_vary 18 = .ok (.iload_n 1, 1) := dk_27 (dk_at dksX5_vary_0 18 rfl rfl)
theorem dX5_vary_19 : decode cX5_vary 19 = .ok (.invokespecial 48, 3) := dk_183 0 48 (dk_at dksX5_vary_0 19 rfl rfl)
theorem dX5_vary_22 : decode cX5_vary 22 = .ok (.aastore, 1) := dk_83 (dk_at dksX5_vary_0 22 rfl rfl)
theorem dX5_vary_23 : decode cX5_vary 23 = .ok (.aload_n 0, 1) := dk_42 (dk_at dksX5_vary_0 23 rfl rfl)
theorem dX5_vary_24 : decode cX5_vary 24 = .ok (.getfield 33, 3) := dk_180 0 33 (dk_at dksX5_vary_1 0 rfl rfl)
theorem dX5_vary_27 : decode cX5_vary 27 = .ok (.iconst 4, 1) := dk_7 (dk_at dksX5_vary_1 3 rfl rfl)
theorem dX5_vary_28 : decode cX5_vary 28 = .ok (.iload_n 1, 1) := dk_27 (dk_at dksX5_vary_1 4 rfl rfl)
theorem dX5_vary_29 : decode cX5_vary 29 = .ok (.iadd, 1) := dk_96 (dk_at dksX5_vary_1 5 rfl rfl)
theorem dX5_vary_30 : decode cX5_vary 30 = .ok (.new 31, 3) := dk_187 0 31 (dk_at dksX5_vary_1 6 rfl rfl)
theorem dX5_vary_33 : decode cX5_vary 33 = .ok (.dup, 1) := dk_89 (dk_at dksX5_vary_1 9 rfl rfl)
theorem dX5_vary_34 : decode cX5_vary 34 = .ok (.aload_n 0, 1) := dk_42 (dk_at dksX5_vary_1 10 rfl rfl)
theorem dX5_vary_35 : decode cX5_vary 35 = .ok (.iconst 1, 1) := dk_4 (dk_at dksX5_vary_1 11 rfl rfl)
theorem dX5_vary_36 : decode cX5_vary 36 = .ok (.iload_n 1, 1) := dk_27 (dk_at dksX5_vary_1 12 rfl rfl)
theorem dX5_vary_37 : decode cX5_vary 37 = .ok (.invokespecial 48, 3) := dk_183 0 48 (dk_at dksX5_vary_1 13 rfl rfl)
theorem dX5_vary_40 : decode cX5_vary 40 = .ok (.aastore, 1) := dk_83 (dk_at dksX5_vary_1 16 rfl rfl)
theorem dX5_vary_41 : decode cX5_vary 41 = .ok (.iinc 1 1, 3) := dk_132 1 1 (dk_at dksX5_vary_1 17 rfl rfl)
theorem dX5_vary_44 : decode cX5_vary 44 = .ok (.goto (-42), 3) := dk_167 255 214 (dk_at dksX5_vary_1 20 rfl rfl)
theorem dX5_vary_47 : decode cX5_vary 47 = .ok (.return_, 1) := dk_177 (dk_at dksX5_vary_1 23 rfl rfl)
abbrev cX5_hasCell : ByteArray := prog_11_method_4_code
def yX5_hasCell : MethodName := ⟨RX5, "hasCell", "(II)Z"⟩
def dkwX5_hasCell_2 : List UInt8 := [132, 3, 1, 167, 255, 213, 3, 172]
abbrev dktX5_hasCell_2 : List UInt8 := dkwX5_hasCell_2 ++ []
def dkwX5_hasCell_1 : List UInt8 := [185, 0, 57, 2, 0, 192, 0, 22, 58, 4, 25, 4, 27, 28, 182, 0, 61, 153, 0, 5, 4, 172]
abbrev dktX5_hasCell_1 : List UInt8 := dkwX5_hasCell_1 ++ dktX5_hasCell_2
def dkwX5_hasCell_0 : List UInt8 := [3, 62, 29, 42, 180, 0, 12, 185, 0, 51, 1, 0, 162, 0, 36, 42, 180, 0, 12, 29]
abbrev dktX5_hasCell_0 : List UInt8 := dkwX5_hasCell_0 ++ dktX5_hasCell_1
theorem dksX5_hasCell_0 : cX5_hasCell.data.toList.drop 0 = dktX5_hasCell_0 := by decide +kernel
theorem dksX5_hasCell_1 : cX5_hasCell.data.toList.drop 20 = dktX5_hasCell_1 := dk_seg dksX5_hasCell_0 20 rfl rfl
theorem dksX5_hasCell_2 : cX5_hasCell.data.toList.drop 42 = dktX5_hasCell_2 := dk_seg dksX5_hasCell_1 22 rfl rfl
theorem dX5_hasCell_0 : decode cX5_hasCell 0 = .ok (.iconst 0, 1) := dk_3 (dk_at dksX5_hasCell_0 0 rfl rfl)
theorem dX5_hasCell_1 : decode cX5_hasCell 1 = .ok (.istore_n 3, 1) := dk_62 (dk_at dksX5_hasCell_0 1 rfl rfl)
theorem dX5_hasCell_2 : decode cX5_hasCell 2 = .ok (.iload_n 3, 1) := dk_29 (dk_at dksX5_hasCell_0 2 rfl rfl)
theorem dX5_hasCell_3 : decode cX5_hasCell 3 = .ok (.aload_n 0, 1) := dk_42 (dk_at dksX5_hasCell_0 3 rfl rfl)
theorem dX5_hasCell_4 : decode cX5_hasCell 4 = .ok (.getfield 12, 3) := dk_180 0 12 (dk_at dksX5_hasCell_0 4 rfl rfl)
theorem dX5_hasCell_7 : decode cX5_hasCell 7 = .ok (.invokeinterface 51 1, 5) := by decide +kernel
theorem dX5_hasCell_12 : decode cX5_hasCell 12 = .ok (.if_icmp .ge 36, 3) := dk_162 0 36 (dk_at dksX5_hasCell_0 12 rfl rfl)
theorem dX5_hasCell_15 : decode cX5_hasCell 15 = .ok (.aload_n 0, 1) := dk_42 (dk_at dksX5_hasCell_0 15 rfl rfl)
theorem dX5_hasCell_16 : decode cX5_hasCell 16 = .ok (.getfield 12, 3) := dk_180 0 12 (dk_at dksX5_hasCell_0 16 rfl rfl)
theorem dX5_hasCell_19 : decode cX5_hasCell 19 = .ok (.iload_n 3, 1) := dk_29 (dk_at dksX5_hasCell_0 19 rfl rfl)
theorem dX5_hasCell_20 : decode cX5_hasCell 20 = .ok (.invokeinterface 57 2, 5) := by decide +kernel
theorem dX5_hasCell_25 : decode cX5_hasCell 25 = .ok (.checkcast 22, 3) := dk_192 0 22 (dk_at dksX5_hasCell_1 5 rfl rfl)
theorem dX5_hasCell_28 : decode cX5_hasCell 28 = .ok (.astore 4, 2) := dk_58 4 (dk_at dksX5_hasCell_1 8 rfl rfl)
theorem dX5_hasCell_30 : decode cX5_hasCell 30 = .ok (.aload 4, 2) := dk_25 4 (dk_at dksX5_hasCell_1 10 rfl rfl)
theorem dX5_hasCell_32 : decode cX5_hasCell 32 = .ok (.iload_n 1, 1) := dk_27 (dk_at dksX5_hasCell_1 12 rfl rfl)
theorem dX5_hasCell_33 : decode cX5_hasCell 33 = .ok (.iload_n 2, 1) := dk_28 (dk_at dksX5_hasCell_1 13 rfl rfl)
theorem dX5_hasCell_34 : decode cX5_hasCell 34 = .ok (.invokevirtual 61, 3) := dk_182 0 61 (dk_at dksX5_hasCell_1 14 rfl rfl)
theorem dX5_hasCell_37 : decode cX5_hasCell 37 = .ok (.ifCond .eq 5, 3) := dk_153 0 5 (dk_at dksX5_hasCell_1 17 rfl rfl)
theorem dX5_hasCell_40 : decode cX5_hasCell 40 = .ok (.iconst 1, 1) := dk_4 (dk_at dksX5_hasCell_1 20 rfl rfl)
theorem dX5_hasCell_41 : decode cX5_hasCell 41 = .ok (.ireturn, 1) := dk_172 (dk_at dksX5_hasCell_1 21 rfl rfl)
theorem dX5_hasCell_42 : decode cX5_hasCell 42 = .ok (.iinc 3 1, 3) := dk_132 3 1 (dk_at dksX5_hasCell_2 0 rfl rfl)
theorem dX5_hasCell_45 : decode cX5_hasCell 45 = .ok (.goto (-43), 3) := dk_167 255 213 (dk_at dksX5_hasCell_2 3 rfl rfl)
theorem dX5_hasCell_48 : decode cX5_hasCell 48 = .ok (.iconst 0, 1) := dk_3 (dk_at dksX5_hasCell_2 6 rfl rfl)
theorem dX5_hasCell_49 : decode cX5_hasCell 49 = .ok (.ireturn, 1) := dk_172 (dk_at dksX5_hasCell_2 7 rfl rfl)
abbrev cX5_enoughFor : ByteArray := prog_11_method_5_code
def yX5_enoughFor : MethodName := ⟨RX5, "enoughFor", "(I)I"⟩
def dkwX5_enoughFor_1 : List UInt8 := [180, 0, 65, 27, 108, 172]
abbrev dktX5_enoughFor_1 : List UInt8 := dkwX5_enoughFor_1 ++ []
def dkwX5_enoughFor_0 : List UInt8 := [42, 180, 0, 41, 153, 0, 17, 42, 180, 0, 65, 42, 180, 0, 68, 184, 0, 71, 167, 0, 7, 42]
abbrev dktX5_enoughFor_0 : List UInt8 := dkwX5_enoughFor_0 ++ dktX5_enoughFor_1
theorem dksX5_enoughFor_0 : cX5_enoughFor.data.toList.drop 0 = dktX5_enoughFor_0 := by decide +kernel
theorem dksX5_enoughFor_1 : cX5_enoughFor.data.toList.drop 22 = dktX5_enoughFor_1 := dk_seg dksX5_enoughFor_0 22 rfl rfl
theorem dX5_enoughFor_0 : decode cX5_enoughFor 0 = .ok (.aload_n 0, 1) := dk_42 (dk_at dksX5_enoughFor_0 0 rfl rfl)
theorem dX5_enoughFor_1 : decode cX5_enoughFor 1 = .ok (.getfield 41, 3) := dk_180 0 41 (dk_at dksX5_enoughFor_0 1 rfl rfl)
theorem dX5_enoughFor_4 : decode cX5_enoughFor 4 = .ok (.ifCond .eq 17, 3) := dk_153 0 17 (dk_at dksX5_enoughFor_0 4 rfl rfl)
theorem dX5_enoughFor_7 : decode cX5_enoughFor 7 = .ok (.aload_n 0, 1) := dk_42 (dk_at dksX5_enoughFor_0 7 rfl rfl)
theorem dX5_enoughFor_8 : decode cX5_enoughFor 8 = .ok (.getfield 65, 3) := dk_180 0 65 (dk_at dksX5_enoughFor_0 8 rfl rfl)
theorem dX5_enoughFor_11 : decode cX5_enoughFor 11 = .ok (.aload_n 0, 1) := dk_42 (dk_at dksX5_enoughFor_0 11 rfl rfl)
theorem dX5_enoughFor_12 : decode cX5_enoughFor 12 = .ok (.getfield 68, 3) := dk_180 0 68 (dk_at dksX5_enoughFor_0 12 rfl rfl)
theorem dX5_enoughFor_15 : decode cX5_enoughFor 15 = .ok (.invokestatic 71, 3) := dk_184 0 71 (dk_at dksX5_enoughFor_0 15 rfl rfl)
theorem dX5_enoughFor_18 : decode cX5_enoughFor 18 = .ok (.goto 7, 3) := dk_167 0 7 (dk_at dksX5_enoughFor_0 18 rfl rfl)
theorem dX5_enoughFor_21 : decode cX5_enoughFor 21 = .ok (.aload_n 0, 1) := dk_42 (dk_at dksX5_enoughFor_0 21 rfl rfl)
theorem dX5_enoughFor_22 : decode cX5_enoughFor 22 = .ok (.getfield 65, 3) := dk_180 0 65 (dk_at dksX5_enoughFor_1 0 rfl rfl)
theorem dX5_enoughFor_25 : decode cX5_enoughFor 25 = .ok (.iload_n 1, 1) := dk_27 (dk_at dksX5_enoughFor_1 3 rfl rfl)
theorem dX5_enoughFor_26 : decode cX5_enoughFor 26 = .ok (.idiv, 1) := dk_108 (dk_at dksX5_enoughFor_1 4 rfl rfl)
theorem dX5_enoughFor_27 : decode cX5_enoughFor 27 = .ok (.ireturn, 1) := dk_172 (dk_at dksX5_enoughFor_1 5 rfl rfl)
abbrev cX5_take : ByteArray := prog_11_method_6_code
def yX5_take : MethodName := ⟨RX5, "take", "(I)V"⟩
def dkwX5_take_1 : List UInt8 := [167, 0, 4, 3, 100, 181, 0, 68, 177]
abbrev dktX5_take_1 : List UInt8 := dkwX5_take_1 ++ []
def dkwX5_take_0 : List UInt8 := [42, 89, 180, 0, 65, 27, 100, 181, 0, 65, 42, 89, 180, 0, 68, 42, 180, 0, 41, 153, 0, 7, 27]
abbrev dktX5_take_0 : List UInt8 := dkwX5_take_0 ++ dktX5_take_1
theorem dksX5_take_0 : cX5_take.data.toList.drop 0 = dktX5_take_0 := by decide +kernel
theorem dksX5_take_1 : cX5_take.data.toList.drop 23 = dktX5_take_1 := dk_seg dksX5_take_0 23 rfl rfl
theorem dX5_take_0 : decode cX5_take 0 = .ok (.aload_n 0, 1) := dk_42 (dk_at dksX5_take_0 0 rfl rfl)
theorem dX5_take_1 : decode cX5_take 1 = .ok (.dup, 1) := dk_89 (dk_at dksX5_take_0 1 rfl rfl)
theorem dX5_take_2 : decode cX5_take 2 = .ok (.getfield 65, 3) := dk_180 0 65 (dk_at dksX5_take_0 2 rfl rfl)
theorem dX5_take_5 : decode cX5_take 5 = .ok (.iload_n 1, 1) := dk_27 (dk_at dksX5_take_0 5 rfl rfl)
theorem dX5_take_6 : decode cX5_take 6 = .ok (.isub, 1) := dk_100 (dk_at dksX5_take_0 6 rfl rfl)
theorem dX5_take_7 : decode cX5_take 7 = .ok (.putfield 65, 3) := dk_181 0 65 (dk_at dksX5_take_0 7 rfl rfl)
theorem dX5_take_10 : decode cX5_take 10 = .ok (.aload_n 0, 1) := dk_42 (dk_at dksX5_take_0 10 rfl rfl)
theorem dX5_take_11 : decode cX5_take 11 = .ok (.dup, 1) := dk_89 (dk_at dksX5_take_0 11 rfl rfl)
theorem dX5_take_12 : decode cX5_take 12 = .ok (.getfield 68, 3) := dk_180 0 68 (dk_at dksX5_take_0 12 rfl rfl)
theorem dX5_take_15 : decode cX5_take 15 = .ok (.aload_n 0, 1) := dk_42 (dk_at dksX5_take_0 15 rfl rfl)
theorem dX5_take_16 : decode cX5_take 16 = .ok (.getfield 41, 3) := dk_180 0 41 (dk_at dksX5_take_0 16 rfl rfl)
theorem dX5_take_19 : decode cX5_take 19 = .ok (.ifCond .eq 7, 3) := dk_153 0 7 (dk_at dksX5_take_0 19 rfl rfl)
theorem dX5_take_22 : decode cX5_take 22 = .ok (.iload_n 1, 1) := dk_27 (dk_at dksX5_take_0 22 rfl rfl)
theorem dX5_take_23 : decode cX5_take 23 = .ok (.goto 4, 3) := dk_167 0 4 (dk_at dksX5_take_1 0 rfl rfl)
theorem dX5_take_26 : decode cX5_take 26 = .ok (.iconst 0, 1) := dk_3 (dk_at dksX5_take_1 3 rfl rfl)
theorem dX5_take_27 : decode cX5_take 27 = .ok (.isub, 1) := dk_100 (dk_at dksX5_take_1 4 rfl rfl)
theorem dX5_take_28 : decode cX5_take 28 = .ok (.putfield 68, 3) := dk_181 0 68 (dk_at dksX5_take_1 5 rfl rfl)
theorem dX5_take_31 : decode cX5_take 31 = .ok (.return_, 1) := dk_177 (dk_at dksX5_take_1 8 rfl rfl)
theorem q82 : (Jvm.Cond.initialized "CuttingRoom$Shape") ∈ lw_all := lw_g (lw_at lw_m1 17 rfl) rfl
theorem q263 : (Jvm.Cond.instanceMethod ({ cls := "CuttingRoom$Shape", name := "variant", desc := "(ZI)LCuttingRoom$Variant;" } : Jvm.MethodName)) ∈ lw_all := lw_g (lw_at lw_m1 198 rfl) rfl
theorem q264 : (Jvm.Cond.selects "CuttingRoom$Shape" ({ cls := "CuttingRoom$Shape", name := "variant", desc := "(ZI)LCuttingRoom$Variant;" } : Jvm.MethodName) ({ cls := "CuttingRoom$Shape", name := "variant", desc := "(ZI)LCuttingRoom$Variant;" } : Jvm.MethodName)) ∈ lw_all := lw_g (lw_at lw_m1 199 rfl) rfl
theorem q265 : (Jvm.Cond.code ({ cls := "CuttingRoom$Shape", name := "variant", desc := "(ZI)LCuttingRoom$Variant;" } : Jvm.MethodName) prog_11_method_3_code (3 : Nat) (Option.some (Jvm.ClassFile.FieldType.object "CuttingRoom$Variant"))) ∈ lw_all := lw_g (lw_at lw_m1 200 rfl) rfl
theorem q644 : (Jvm.Cond.instantiable "CuttingRoom$Shape" (9 : Nat)) ∈ lw_all := lw_g (lw_at lw_m3 99 rfl) rfl
theorem q646 : (Jvm.Cond.instanceMethod ({ cls := "CuttingRoom$Shape", name := "<init>", desc := "(LCuttingRoom$Rule;Z)V" } : Jvm.MethodName)) ∈ lw_all := lw_g (lw_at lw_m3 101 rfl) rfl
theorem q647 : (Jvm.Cond.code ({ cls := "CuttingRoom$Shape", name := "<init>", desc := "(LCuttingRoom$Rule;Z)V" } : Jvm.MethodName) prog_11_method_1_code (3 : Nat) (Option.none : Option Jvm.ClassFile.FieldType)) ∈ lw_all := lw_g (lw_at lw_m3 102 rfl) rfl
theorem q648 : (Jvm.Cond.methodLink "CuttingRoom$Shape" (3 : Nat) ({ cls := "java/lang/Object", name := "<init>", desc := "()V" } : Jvm.MethodName)) ∈ lw_all := lw_g (lw_at lw_m3 103 rfl) rfl
theorem q649 : (Jvm.Cond.classLink "CuttingRoom$Shape" (9 : Nat) "java/util/ArrayList") ∈ lw_all := lw_g (lw_at lw_m3 104 rfl) rfl
theorem q650 : (Jvm.Cond.methodLink "CuttingRoom$Shape" (11 : Nat) ({ cls := "java/util/ArrayList", name := "<init>", desc := "()V" } : Jvm.MethodName)) ∈ lw_all := lw_g (lw_at lw_m3 105 rfl) rfl
theorem q651 : (Jvm.Cond.classLink "CuttingRoom$Shape" (22 : Nat) "CuttingRoom$Cell") ∈ lw_all := lw_g (lw_at lw_m3 106 rfl) rfl
theorem q653 : (Jvm.Cond.methodLink "CuttingRoom$Shape" (24 : Nat) ({ cls := "CuttingRoom$Cell", name := "<init>", desc := "(II)V" } : Jvm.MethodName)) ∈ lw_all := lw_g (lw_at lw_m3 108 rfl) rfl
theorem q666 : (Jvm.Cond.classLink "CuttingRoom$Shape" (31 : Nat) "CuttingRoom$Variant") ∈ lw_all := lw_g (lw_at lw_m3 121 rfl) rfl
theorem q668 : (Jvm.Cond.methodLink "CuttingRoom$Shape" (45 : Nat) ({ cls := "CuttingRoom$Shape", name := "vary", desc := "()V" } : Jvm.MethodName)) ∈ lw_all := lw_g (lw_at lw_m3 123 rfl) rfl
theorem q669 : (Jvm.Cond.instanceMethod ({ cls := "CuttingRoom$Shape", name := "vary", desc := "()V" } : Jvm.MethodName)) ∈ lw_all := lw_g (lw_at lw_m3 124 rfl) rfl
theorem q670 : (Jvm.Cond.selects "CuttingRoom$Shape" ({ cls := "CuttingRoom$Shape", name := "vary", desc := "()V" } : Jvm.MethodName) ({ cls := "CuttingRoom$Shape", name := "vary", desc := "()V" } : Jvm.MethodName)) ∈ lw_all := lw_g (lw_at lw_m3 125 rfl) rfl
theorem q671 : (Jvm.Cond.code ({ cls := "CuttingRoom$Shape", name := "vary", desc := "()V" } : Jvm.MethodName) prog_11_method_2_code (2 : Nat) (Option.none : Option Jvm.ClassFile.FieldType)) ∈ lw_all := lw_g (lw_at lw_m3 126 rfl) rfl
theorem q673 : (Jvm.Cond.methodLink "CuttingRoom$Shape" (48 : Nat) ({ cls := "CuttingRoom$Variant", name := "<init>", desc := "(LCuttingRoom$Shape;ZI)V" } : Jvm.MethodName)) ∈ lw_all := lw_g (lw_at lw_m3 128 rfl) rfl
theorem q704 : (Jvm.Cond.fieldLink "CuttingRoom$Shape" (37 : Nat) "CuttingRoom$Shape" "rule" "LCuttingRoom$Rule;") ∈ lw_all := lw_g (lw_at lw_m3 159 rfl) rfl
theorem q706 : (Jvm.Cond.fieldLink "CuttingRoom$Shape" (41 : Nat) "CuttingRoom$Shape" "isPaired" "Z") ∈ lw_all := lw_g (lw_at lw_m3 161 rfl) rfl
theorem q709 : (Jvm.Cond.fieldLink "CuttingRoom$Shape" (12 : Nat) "CuttingRoom$Shape" "cells" "Ljava/util/List;") ∈ lw_all := lw_g (lw_at lw_m3 164 rfl) rfl
theorem q713 : (Jvm.Cond.fieldLink "CuttingRoom$Shape" (18 : Nat) "CuttingRoom$Shape" "group" "I") ∈ lw_all := lw_g (lw_at lw_m3 168 rfl) rfl
theorem q716 : (Jvm.Cond.fieldLink "CuttingRoom$Shape" (27 : Nat) "CuttingRoom$Shape" "mark" "LCuttingRoom$Cell;") ∈ lw_all := lw_g (lw_at lw_m3 171 rfl) rfl
theorem q719 : (Jvm.Cond.fieldLink "CuttingRoom$Shape" (65 : Nat) "CuttingRoom$Shape" "plain" "I") ∈ lw_all := lw_g (lw_at lw_m3 174 rfl) rfl
theorem q721 : (Jvm.Cond.fieldLink "CuttingRoom$Shape" (68 : Nat) "CuttingRoom$Shape" "mirrored" "I") ∈ lw_all := lw_g (lw_at lw_m3 176 rfl) rfl
theorem q724 : (Jvm.Cond.fieldLink "CuttingRoom$Shape" (33 : Nat) "CuttingRoom$Shape" "variants" "[LCuttingRoom$Variant;") ∈ lw_all := lw_g (lw_at lw_m3 179 rfl) rfl
theorem q725 : (Jvm.Cond.laysFinal "CuttingRoom$Shape" "CuttingRoom$Shape" "rule" "LCuttingRoom$Rule;") ∈ lw_all := lw_g (lw_at lw_m3 180 rfl) rfl
theorem q726 : (Jvm.Cond.soleField "CuttingRoom$Shape" "rule") ∈ lw_all := lw_g (lw_at lw_m3 181 rfl) rfl
theorem q727 : (Jvm.Cond.laysFinal "CuttingRoom$Shape" "CuttingRoom$Shape" "isPaired" "Z") ∈ lw_all := lw_g (lw_at lw_m3 182 rfl) rfl
theorem q728 : (Jvm.Cond.soleField "CuttingRoom$Shape" "isPaired") ∈ lw_all := lw_g (lw_at lw_m3 183 rfl) rfl
theorem q729 : (Jvm.Cond.laysFinal "CuttingRoom$Shape" "CuttingRoom$Shape" "cells" "Ljava/util/List;") ∈ lw_all := lw_g (lw_at lw_m3 184 rfl) rfl
theorem q730 : (Jvm.Cond.soleField "CuttingRoom$Shape" "cells") ∈ lw_all := lw_g (lw_at lw_m3 185 rfl) rfl
theorem q731 : (Jvm.Cond.lays "CuttingRoom$Shape" "CuttingRoom$Shape" "group" "I") ∈ lw_all := lw_g (lw_at lw_m3 186 rfl) rfl
theorem q732 : (Jvm.Cond.soleField "CuttingRoom$Shape" "group") ∈ lw_all := lw_g (lw_at lw_m3 187 rfl) rfl
theorem q733 : (Jvm.Cond.lays "CuttingRoom$Shape" "CuttingRoom$Shape" "mark" "LCuttingRoom$Cell;") ∈ lw_all := lw_g (lw_at lw_m3 188 rfl) rfl
theorem q734 : (Jvm.Cond.soleField "CuttingRoom$Shape" "mark") ∈ lw_all := lw_g (lw_at lw_m3 189 rfl) rfl
theorem q735 : (Jvm.Cond.lays "CuttingRoom$Shape" "CuttingRoom$Shape" "plain" "I") ∈ lw_all := lw_g (lw_at lw_m3 190 rfl) rfl
theorem q736 : (Jvm.Cond.soleField "CuttingRoom$Shape" "plain") ∈ lw_all := lw_g (lw_at lw_m3 191 rfl) rfl
theorem q737 : (Jvm.Cond.lays "CuttingRoom$Shape" "CuttingRoom$Shape" "mirrored" "I") ∈ lw_all := lw_g (lw_at lw_m3 192 rfl) rfl
theorem q738 : (Jvm.Cond.soleField "CuttingRoom$Shape" "mirrored") ∈ lw_all := lw_g (lw_at lw_m3 193 rfl) rfl
theorem q739 : (Jvm.Cond.lays "CuttingRoom$Shape" "CuttingRoom$Shape" "wasCut" "Z") ∈ lw_all := lw_g (lw_at lw_m3 194 rfl) rfl
theorem q740 : (Jvm.Cond.soleField "CuttingRoom$Shape" "wasCut") ∈ lw_all := lw_g (lw_at lw_m3 195 rfl) rfl
theorem q741 : (Jvm.Cond.laysFinal "CuttingRoom$Shape" "CuttingRoom$Shape" "variants" "[LCuttingRoom$Variant;") ∈ lw_all := lw_g (lw_at lw_m3 196 rfl) rfl
theorem q742 : (Jvm.Cond.soleField "CuttingRoom$Shape" "variants") ∈ lw_all := lw_g (lw_at lw_m3 197 rfl) rfl
theorem q743 : (Jvm.Cond.superclass "CuttingRoom$Shape" "java/lang/Object") ∈ lw_all := lw_g (lw_at lw_m3 198 rfl) rfl
theorem q789 : (Jvm.Cond.selects "CuttingRoom$Shape" ({ cls := "java/lang/Object", name := "getClass", desc := "()Ljava/lang/Class;" } : Jvm.MethodName) ({ cls := "java/lang/Object", name := "getClass", desc := "()Ljava/lang/Class;" } : Jvm.MethodName)) ∈ lw_all := lw_g (lw_at lw_m4 4 rfl) rfl
theorem q883 : (Jvm.Cond.instanceMethod ({ cls := "CuttingRoom$Shape", name := "hasCell", desc := "(II)Z" } : Jvm.MethodName)) ∈ lw_all := lw_g (lw_at lw_m4 98 rfl) rfl
theorem q884 : (Jvm.Cond.selects "CuttingRoom$Shape" ({ cls := "CuttingRoom$Shape", name := "hasCell", desc := "(II)Z" } : Jvm.MethodName) ({ cls := "CuttingRoom$Shape", name := "hasCell", desc := "(II)Z" } : Jvm.MethodName)) ∈ lw_all := lw_g (lw_at lw_m4 99 rfl) rfl
theorem q885 : (Jvm.Cond.code ({ cls := "CuttingRoom$Shape", name := "hasCell", desc := "(II)Z" } : Jvm.MethodName) prog_11_method_4_code (5 : Nat) (Option.some Jvm.ClassFile.FieldType.boolean)) ∈ lw_all := lw_g (lw_at lw_m4 100 rfl) rfl
theorem q886 : (Jvm.Cond.interfaceEntry "CuttingRoom$Shape" (51 : Nat)) ∈ lw_tbl := lw_at lw_m4 101 rfl
theorem q887 : (Jvm.Cond.methodLink "CuttingRoom$Shape" (51 : Nat) ({ cls := "java/util/List", name := "size", desc := "()I" } : Jvm.MethodName)) ∈ lw_all := lw_g (lw_at lw_m4 102 rfl) rfl
theorem q888 : (Jvm.Cond.interfaceEntry "CuttingRoom$Shape" (57 : Nat)) ∈ lw_tbl := lw_at lw_m4 103 rfl
theorem q889 : (Jvm.Cond.methodLink "CuttingRoom$Shape" (57 : Nat) ({ cls := "java/util/List", name := "get", desc := "(I)Ljava/lang/Object;" } : Jvm.MethodName)) ∈ lw_all := lw_g (lw_at lw_m4 104 rfl) rfl
theorem q890 : (Jvm.Cond.methodLink "CuttingRoom$Shape" (61 : Nat) ({ cls := "CuttingRoom$Cell", name := "isAt", desc := "(II)Z" } : Jvm.MethodName)) ∈ lw_all := lw_g (lw_at lw_m4 105 rfl) rfl
theorem q1034 : (Jvm.Cond.selects "CuttingRoom$Shape" ({ cls := "java/lang/Object", name := "equals", desc := "(Ljava/lang/Object;)Z" } : Jvm.MethodName) ({ cls := "java/lang/Object", name := "equals", desc := "(Ljava/lang/Object;)Z" } : Jvm.MethodName)) ∈ lw_all := lw_g (lw_at lw_m5 9 rfl) rfl
theorem q1301 : (Jvm.Cond.instanceMethod ({ cls := "CuttingRoom$Shape", name := "enoughFor", desc := "(I)I" } : Jvm.MethodName)) ∈ lw_all := lw_g (lw_at lw_m6 36 rfl) rfl
theorem q1302 : (Jvm.Cond.selects "CuttingRoom$Shape" ({ cls := "CuttingRoom$Shape", name := "enoughFor", desc := "(I)I" } : Jvm.MethodName) ({ cls := "CuttingRoom$Shape", name := "enoughFor", desc := "(I)I" } : Jvm.MethodName)) ∈ lw_all := lw_g (lw_at lw_m6 37 rfl) rfl
theorem q1303 : (Jvm.Cond.code ({ cls := "CuttingRoom$Shape", name := "enoughFor", desc := "(I)I" } : Jvm.MethodName) prog_11_method_5_code (2 : Nat) (Option.some Jvm.ClassFile.FieldType.int)) ∈ lw_all := lw_g (lw_at lw_m6 38 rfl) rfl
theorem q1304 : (Jvm.Cond.methodLink "CuttingRoom$Shape" (71 : Nat) ({ cls := "java/lang/Math", name := "min", desc := "(II)I" } : Jvm.MethodName)) ∈ lw_all := lw_g (lw_at lw_m6 39 rfl) rfl
theorem q1329 : (Jvm.Cond.instanceMethod ({ cls := "CuttingRoom$Shape", name := "take", desc := "(I)V" } : Jvm.MethodName)) ∈ lw_all := lw_g (lw_at lw_m6 64 rfl) rfl
theorem q1330 : (Jvm.Cond.selects "CuttingRoom$Shape" ({ cls := "CuttingRoom$Shape", name := "take", desc := "(I)V" } : Jvm.MethodName) ({ cls := "CuttingRoom$Shape", name := "take", desc := "(I)V" } : Jvm.MethodName)) ∈ lw_all := lw_g (lw_at lw_m6 65 rfl) rfl
theorem q1331 : (Jvm.Cond.code ({ cls := "CuttingRoom$Shape", name := "take", desc := "(I)V" } : Jvm.MethodName) prog_11_method_6_code (2 : Nat) (Option.none : Option Jvm.ClassFile.FieldType)) ∈ lw_all := lw_g (lw_at lw_m6 66 rfl) rfl
theorem q1846 : (Jvm.Cond.castable "CuttingRoom$Shape" "java/lang/Object") ∈ lw_tbl := lw_at lw_m8 101 rfl
theorem in_X5 : ∀ w ∈ wsX50, w ∈ lw_all := lw_in wsX50 [725, 727, 729, 731, 733, 735, 737, 739, 741] (by decide +kernel) (by decide +kernel)

/-! CuttingRoom$Cell -/
set_option maxRecDepth 100000
def RX6 : String := "CuttingRoom$Cell"
def TX6 : u_T := fun k => match k with
  | 0 => ("CuttingRoom$Cell", "row", "I", true)
  | _ => ("CuttingRoom$Cell", "column", "I", true)
def tyX6 : Nat → FieldType := fun k => match k with
  | 0 => .int
  | _ => .int
abbrev wsX60 : List Cond := u_ws RX6 TX6 2
theorem nmX6 : ∀ a, a < 2 → ∀ b, b < 2 → a ≠ b → (TX6 a).2.1 ≠ (TX6 b).2.1 := by decide +kernel
theorem tyX6_ok : ∀ k, k < 2 → parseFieldDescriptor (TX6 k).2.2.1 = some (tyX6 k) := by decide +kernel
abbrev cX6_init : ByteArray := prog_2_method_1_code
def yX6_init : MethodName := ⟨RX6, "<init>", "(II)V"⟩
def dkwX6_init_0 : List UInt8 := [42, 183, 0, 3, 42, 27, 181, 0, 9, 42, 28, 181, 0, 15, 177]
abbrev dktX6_init_0 : List UInt8 := dkwX6_init_0 ++ []
theorem dksX6_init_0 : cX6_init.data.toList.drop 0 = dktX6_init_0 := by decide +kernel
theorem dX6_init_0 : decode cX6_init 0 = .ok (.aload_n 0, 1) := dk_42 (dk_at dksX6_init_0 0 rfl rfl)
theorem dX6_init_1 : decode cX6_init 1 = .ok (.invokespecial 3, 3) := dk_183 0 3 (dk_at dksX6_init_0 1 rfl rfl)
theorem dX6_init_4 : decode cX6_init 4 = .ok (.aload_n 0, 1) := dk_42 (dk_at dksX6_init_0 4 rfl rfl)
theorem dX6_init_5 : decode cX6_init 5 = .ok (.iload_n 1, 1) := dk_27 (dk_at dksX6_init_0 5 rfl rfl)
theorem dX6_init_6 : decode cX6_init 6 = .ok (.putfield 9, 3) := dk_181 0 9 (dk_at dksX6_init_0 6 rfl rfl)
theorem dX6_init_9 : decode cX6_init 9 = .ok (.aload_n 0, 1) := dk_42 (dk_at dksX6_init_0 9 rfl rfl)
theorem dX6_init_10 : decode cX6_init 10 = .ok (.iload_n 2, 1) := dk_28 (dk_at dksX6_init_0 10 rfl rfl)
theorem dX6_init_11 : decode cX6_init 11 = .ok (.putfield 15, 3) := dk_181 0 15 (dk_at dksX6_init_0 11 rfl rfl)
theorem dX6_init_14 : decode cX6_init 14 = .ok (.return_, 1) := dk_177 (dk_at dksX6_init_0 14 rfl rfl)
abbrev cX6_changed : ByteArray := prog_2_method_3_code
def yX6_changed : MethodName := ⟨RX6, "changed", "(ZI)LCuttingRoom$Cell;"⟩
def dkwX6_changed_2 : List UInt8 := [100, 183, 0, 18, 78, 132, 4, 1, 167, 255, 229, 45, 176]
abbrev dktX6_changed_2 : List UInt8 := dkwX6_changed_2 ++ []
def dkwX6_changed_1 : List UInt8 := [42, 78, 3, 54, 4, 21, 4, 28, 162, 0, 27, 187, 0, 10, 89, 45, 180, 0, 15, 7, 45, 180, 0, 9]
abbrev dktX6_changed_1 : List UInt8 := dkwX6_changed_1 ++ dktX6_changed_2
def dkwX6_changed_0 : List UInt8 := [27, 153, 0, 23, 187, 0, 10, 89, 42, 180, 0, 9, 7, 42, 180, 0, 15, 100, 183, 0, 18, 167, 0, 4]
abbrev dktX6_changed_0 : List UInt8 := dkwX6_changed_0 ++ dktX6_changed_1
theorem dksX6_changed_0 : cX6_changed.data.toList.drop 0 = dktX6_changed_0 := by decide +kernel
theorem dksX6_changed_1 : cX6_changed.data.toList.drop 24 = dktX6_changed_1 := dk_seg dksX6_changed_0 24 rfl rfl
theorem dksX6_changed_2 : cX6_changed.data.toList.drop 48 = dktX6_changed_2 := dk_seg dksX6_changed_1 24 rfl rfl
theorem dX6_changed_0 : decode cX6_changed 0 = .ok (.iload_n 1, 1) := dk_27 (dk_at dksX6_changed_0 0 rfl rfl)
theorem dX6_changed_1 : decode cX6_changed 1 = .ok (.ifCond .eq 23, 3) := dk_153 0 23 (dk_at dksX6_changed_0 1 rfl rfl)
theorem dX6_changed_4 : decode cX6_changed 4 = .ok (.new 10, 3) := dk_187 0 10 (dk_at dksX6_changed_0 4 rfl rfl)
theorem dX6_changed_7 : decode cX6_changed 7 = .ok (.dup, 1) := dk_89 (dk_at dksX6_changed_0 7 rfl rfl)
theorem dX6_changed_8 : decode cX6_changed 8 = .ok (.aload_n 0, 1) := dk_42 (dk_at dksX6_changed_0 8 rfl rfl)
theorem dX6_changed_9 : decode cX6_changed 9 = .ok (.getfield 9, 3) := dk_180 0 9 (dk_at dksX6_changed_0 9 rfl rfl)
theorem dX6_changed_12 : decode cX6_changed 12 = .ok (.iconst 4, 1) := dk_7 (dk_at dksX6_changed_0 12 rfl rfl)
theorem dX6_changed_13 : decode cX6_changed 13 = .ok (.aload_n 0, 1) := dk_42 (dk_at dksX6_changed_0 13 rfl rfl)
theorem dX6_changed_14 : decode cX6_changed 14 = .ok (.getfield 15, 3) := dk_180 0 15 (dk_at dksX6_changed_0 14 rfl rfl)
theorem dX6_changed_17 : decode cX6_changed 17 = .ok (.isub, 1) := dk_100 (dk_at dksX6_changed_0 17 rfl rfl)
theorem dX6_changed_18 : decode cX6_changed 18 = .ok (.invokespecial 18, 3) := dk_183 0 18 (dk_at dksX6_changed_0 18 rfl rfl)
theorem dX6_changed_21 : decode cX6_changed 21 = .ok (.goto 4, 3) := dk_167 0 4 (dk_at dksX6_changed_0 21 rfl rfl)
theorem dX6_changed_24 : decode cX6_changed 24 = .ok (.aload_n 0, 1) := dk_42 (dk_at dksX6_changed_1 0 rfl rfl)
theorem dX6_changed_25 : decode cX6_changed 25 = .ok (.astore_n 3, 1) := dk_78 (dk_at dksX6_changed_1 1 rfl rfl)
theorem dX6_changed_26 : decode cX6_changed 26 = .ok (.iconst 0, 1) := dk_3 (dk_at dksX6_changed_1 2 rfl rfl)
theorem dX6_changed_27 : decode cX6_changed 27 = .ok (.istore 4, 2) := dk_54 4 (dk_at dksX6_changed_1 3 rfl rfl)
theorem dX6_changed_29 : decode cX6_changed 29 = .ok (.iload 4, 2) := dk_21 4 (dk_at dksX6_changed_1 5 rfl rfl)
theorem dX6_changed_31 : decode cX6_changed 31 = .ok (.iload_n 2, 1) := dk_28 (dk_at dksX6_changed_1 7 rfl rfl)
theorem dX6_changed_32 : decode cX6_changed 32 = .ok (.if_icmp .ge 27, 3) := dk_162 0 27 (dk_at dksX6_changed_1 8 rfl rfl)
theorem dX6_changed_35 : decode cX6_changed 35 = .ok (.new 10, 3) := dk_187 0 10 (dk_at dksX6_changed_1 11 rfl rfl)
theorem dX6_changed_38 : decode cX6_changed 38 = .ok (.dup, 1) := dk_89 (dk_at dksX6_changed_1 14 rfl rfl)
theorem dX6_changed_39 : decode cX6_changed 39 = .ok (.aload_n 3, 1) := dk_45 (dk_at dksX6_changed_1 15 rfl rfl)
theorem dX6_changed_40 : decode cX6_changed 40 = .ok (.getfield 15, 3) := dk_180 0 15 (dk_at dksX6_changed_1 16 rfl rfl)
theorem dX6_changed_43 : decode cX6_changed 43 = .ok (.iconst 4, 1) := dk_7 (dk_at dksX6_changed_1 19 rfl rfl)
theorem dX6_changed_44 : decode cX6_changed 44 = .ok (.aload_n 3, 1) := dk_45 (dk_at dksX6_changed_1 20 rfl rfl)
theorem dX6_changed_45 : decode cX6_changed 45 = .ok (.getfield 9, 3) := dk_180 0 9 (dk_at dksX6_changed_1 21 rfl rfl)
theorem dX6_changed_48 : decode cX6_changed 48 = .ok (.isub, 1) := dk_100 (dk_at dksX6_changed_2 0 rfl rfl)
theorem dX6_changed_49 : decode cX6_changed 49 = .ok (.invokespecial 18, 3) := dk_183 0 18 (dk_at dksX6_changed_2 1 rfl rfl)
theorem dX6_changed_52 : decode cX6_changed 52 = .ok (.astore_n 3, 1) := dk_78 (dk_at dksX6_changed_2 4 rfl rfl)
theorem dX6_changed_53 : decode cX6_changed 53 = .ok (.iinc 4 1, 3) := dk_132 4 1 (dk_at dksX6_changed_2 5 rfl rfl)
theorem dX6_changed_56 : decode cX6_changed 56 = .ok (.goto (-27), 3) := dk_167 255 229 (dk_at dksX6_changed_2 8 rfl rfl)
theorem dX6_changed_59 : decode cX6_changed 59 = .ok (.aload_n 3, 1) := dk_45 (dk_at dksX6_changed_2 11 rfl rfl)
theorem dX6_changed_60 : decode cX6_changed 60 = .ok (.areturn, 1) := dk_176 (dk_at dksX6_changed_2 12 rfl rfl)
abbrev cX6_isAt : ByteArray := prog_2_method_2_code
def yX6_isAt : MethodName := ⟨RX6, "isAt", "(II)Z"⟩
def dkwX6_isAt_0 : List UInt8 := [42, 180, 0, 9, 27, 160, 0, 15, 42, 180, 0, 15, 28, 160, 0, 7, 4, 167, 0, 4, 3, 172]
abbrev dktX6_isAt_0 : List UInt8 := dkwX6_isAt_0 ++ []
theorem dksX6_isAt_0 : cX6_isAt.data.toList.drop 0 = dktX6_isAt_0 := by decide +kernel
theorem dX6_isAt_0 : decode cX6_isAt 0 = .ok (.aload_n 0, 1) := dk_42 (dk_at dksX6_isAt_0 0 rfl rfl)
theorem dX6_isAt_1 : decode cX6_isAt 1 = .ok (.getfield 9, 3) := dk_180 0 9 (dk_at dksX6_isAt_0 1 rfl rfl)
theorem dX6_isAt_4 : decode cX6_isAt 4 = .ok (.iload_n 1, 1) := dk_27 (dk_at dksX6_isAt_0 4 rfl rfl)
theorem dX6_isAt_5 : decode cX6_isAt 5 = .ok (.if_icmp .ne 15, 3) := dk_160 0 15 (dk_at dksX6_isAt_0 5 rfl rfl)
theorem dX6_isAt_8 : decode cX6_isAt 8 = .ok (.aload_n 0, 1) := dk_42 (dk_at dksX6_isAt_0 8 rfl rfl)
theorem dX6_isAt_9 : decode cX6_isAt 9 = .ok (.getfield 15, 3) := dk_180 0 15 (dk_at dksX6_isAt_0 9 rfl rfl)
theorem dX6_isAt_12 : decode cX6_isAt 12 = .ok (.iload_n 2, 1) := dk_28 (dk_at dksX6_isAt_0 12 rfl rfl)
theorem dX6_isAt_13 : decode cX6_isAt 13 = .ok (.if_icmp .ne 7, 3) := dk_160 0 7 (dk_at dksX6_isAt_0 13 rfl rfl)
theorem dX6_isAt_16 : decode cX6_isAt 16 = .ok (.iconst 1, 1) := dk_4 (dk_at dksX6_isAt_0 16 rfl rfl)
theorem dX6_isAt_17 : decode cX6_isAt 17 = .ok (.goto 4, 3) := dk_167 0 4 (dk_at dksX6_isAt_0 17 rfl rfl)
theorem dX6_isAt_20 : decode cX6_isAt 20 = .ok (.iconst 0, 1) := dk_3 (dk_at dksX6_isAt_0 20 rfl rfl)
theorem dX6_isAt_21 : decode cX6_isAt 21 = .ok (.ireturn, 1) := dk_172 (dk_at dksX6_isAt_0 21 rfl rfl)
theorem q83 : (Jvm.Cond.initialized "CuttingRoom$Cell") ∈ lw_all := lw_g (lw_at lw_m1 18 rfl) rfl
theorem q652 : (Jvm.Cond.instantiable "CuttingRoom$Cell" (2 : Nat)) ∈ lw_all := lw_g (lw_at lw_m3 107 rfl) rfl
theorem q654 : (Jvm.Cond.instanceMethod ({ cls := "CuttingRoom$Cell", name := "<init>", desc := "(II)V" } : Jvm.MethodName)) ∈ lw_all := lw_g (lw_at lw_m3 109 rfl) rfl
theorem q655 : (Jvm.Cond.code ({ cls := "CuttingRoom$Cell", name := "<init>", desc := "(II)V" } : Jvm.MethodName) prog_2_method_1_code (3 : Nat) (Option.none : Option Jvm.ClassFile.FieldType)) ∈ lw_all := lw_g (lw_at lw_m3 110 rfl) rfl
theorem q656 : (Jvm.Cond.methodLink "CuttingRoom$Cell" (3 : Nat) ({ cls := "java/lang/Object", name := "<init>", desc := "()V" } : Jvm.MethodName)) ∈ lw_all := lw_g (lw_at lw_m3 111 rfl) rfl
theorem q657 : (Jvm.Cond.fieldLink "CuttingRoom$Cell" (9 : Nat) "CuttingRoom$Cell" "row" "I") ∈ lw_all := lw_g (lw_at lw_m3 112 rfl) rfl
theorem q659 : (Jvm.Cond.fieldLink "CuttingRoom$Cell" (15 : Nat) "CuttingRoom$Cell" "column" "I") ∈ lw_all := lw_g (lw_at lw_m3 114 rfl) rfl
theorem q661 : (Jvm.Cond.laysFinal "CuttingRoom$Cell" "CuttingRoom$Cell" "row" "I") ∈ lw_all := lw_g (lw_at lw_m3 116 rfl) rfl
theorem q662 : (Jvm.Cond.soleField "CuttingRoom$Cell" "row") ∈ lw_all := lw_g (lw_at lw_m3 117 rfl) rfl
theorem q663 : (Jvm.Cond.laysFinal "CuttingRoom$Cell" "CuttingRoom$Cell" "column" "I") ∈ lw_all := lw_g (lw_at lw_m3 118 rfl) rfl
theorem q664 : (Jvm.Cond.soleField "CuttingRoom$Cell" "column") ∈ lw_all := lw_g (lw_at lw_m3 119 rfl) rfl
theorem q665 : (Jvm.Cond.superclass "CuttingRoom$Cell" "java/lang/Object") ∈ lw_all := lw_g (lw_at lw_m3 120 rfl) rfl
theorem q683 : (Jvm.Cond.instanceMethod ({ cls := "CuttingRoom$Cell", name := "changed", desc := "(ZI)LCuttingRoom$Cell;" } : Jvm.MethodName)) ∈ lw_all := lw_g (lw_at lw_m3 138 rfl) rfl
theorem q684 : (Jvm.Cond.selects "CuttingRoom$Cell" ({ cls := "CuttingRoom$Cell", name := "changed", desc := "(ZI)LCuttingRoom$Cell;" } : Jvm.MethodName) ({ cls := "CuttingRoom$Cell", name := "changed", desc := "(ZI)LCuttingRoom$Cell;" } : Jvm.MethodName)) ∈ lw_all := lw_g (lw_at lw_m3 139 rfl) rfl
theorem q685 : (Jvm.Cond.code ({ cls := "CuttingRoom$Cell", name := "changed", desc := "(ZI)LCuttingRoom$Cell;" } : Jvm.MethodName) prog_2_method_3_code (5 : Nat) (Option.some (Jvm.ClassFile.FieldType.object "CuttingRoom$Cell"))) ∈ lw_all := lw_g (lw_at lw_m3 140 rfl) rfl
theorem q686 : (Jvm.Cond.classLink "CuttingRoom$Cell" (10 : Nat) "CuttingRoom$Cell") ∈ lw_all := lw_g (lw_at lw_m3 141 rfl) rfl
theorem q687 : (Jvm.Cond.methodLink "CuttingRoom$Cell" (18 : Nat) ({ cls := "CuttingRoom$Cell", name := "<init>", desc := "(II)V" } : Jvm.MethodName)) ∈ lw_all := lw_g (lw_at lw_m3 142 rfl) rfl
theorem q782 : (Jvm.Cond.selects "CuttingRoom$Cell" ({ cls := "java/lang/Object", name := "getClass", desc := "()Ljava/lang/Class;" } : Jvm.MethodName) ({ cls := "java/lang/Object", name := "getClass", desc := "()Ljava/lang/Class;" } : Jvm.MethodName)) ∈ lw_all := lw_g (lw_at lw_m3 237 rfl) rfl
theorem q891 : (Jvm.Cond.instanceMethod ({ cls := "CuttingRoom$Cell", name := "isAt", desc := "(II)Z" } : Jvm.MethodName)) ∈ lw_all := lw_g (lw_at lw_m4 106 rfl) rfl
theorem q892 : (Jvm.Cond.selects "CuttingRoom$Cell" ({ cls := "CuttingRoom$Cell", name := "isAt", desc := "(II)Z" } : Jvm.MethodName) ({ cls := "CuttingRoom$Cell", name := "isAt", desc := "(II)Z" } : Jvm.MethodName)) ∈ lw_all := lw_g (lw_at lw_m4 107 rfl) rfl
theorem q893 : (Jvm.Cond.code ({ cls := "CuttingRoom$Cell", name := "isAt", desc := "(II)Z" } : Jvm.MethodName) prog_2_method_2_code (3 : Nat) (Option.some Jvm.ClassFile.FieldType.boolean)) ∈ lw_all := lw_g (lw_at lw_m4 108 rfl) rfl
theorem q1025 : (Jvm.Cond.selects "CuttingRoom$Cell" ({ cls := "java/lang/Object", name := "equals", desc := "(Ljava/lang/Object;)Z" } : Jvm.MethodName) ({ cls := "java/lang/Object", name := "equals", desc := "(Ljava/lang/Object;)Z" } : Jvm.MethodName)) ∈ lw_all := lw_g (lw_at lw_m5 0 rfl) rfl
theorem q1847 : (Jvm.Cond.castable "CuttingRoom$Cell" "java/lang/Object") ∈ lw_tbl := lw_at lw_m8 102 rfl
theorem in_X6 : ∀ w ∈ wsX60, w ∈ lw_all := lw_in wsX60 [661, 663] (by decide +kernel) (by decide +kernel)

/-! CuttingRoom$Variant -/
set_option maxRecDepth 100000
def RX7 : String := "CuttingRoom$Variant"
def TX7 : u_T := fun k => match k with
  | 0 => ("CuttingRoom$Variant", "rows", "[I", true)
  | 1 => ("CuttingRoom$Variant", "columns", "[I", true)
  | _ => ("CuttingRoom$Variant", "markRow", "I", true)
def tyX7 : Nat → FieldType := fun k => match k with
  | 0 => .array .int
  | 1 => .array .int
  | _ => .int
abbrev wsX70 : List Cond := u_ws RX7 TX7 3
theorem nmX7 : ∀ a, a < 3 → ∀ b, b < 3 → a ≠ b → (TX7 a).2.1 ≠ (TX7 b).2.1 := by decide +kernel
theorem tyX7_ok : ∀ k, k < 3 → parseFieldDescriptor (TX7 k).2.2.1 = some (tyX7 k) := by decide +kernel
abbrev cX7_has : ByteArray := prog_16_method_2_code
def yX7_has : MethodName := ⟨RX7, "has", "(II)Z"⟩
def dkwX7_has_1 : List UInt8 := [180, 0, 27, 29, 46, 28, 160, 0, 5, 4, 172, 132, 3, 1, 167, 255, 222, 3, 172]
abbrev dktX7_has_1 : List UInt8 := dkwX7_has_1 ++ []
def dkwX7_has_0 : List UInt8 := [3, 62, 29, 42, 180, 0, 21, 190, 162, 0, 31, 42, 180, 0, 21, 29, 46, 27, 160, 0, 15, 42]
abbrev dktX7_has_0 : List UInt8 := dkwX7_has_0 ++ dktX7_has_1
theorem dksX7_has_0 : cX7_has.data.toList.drop 0 = dktX7_has_0 := by decide +kernel
theorem dksX7_has_1 : cX7_has.data.toList.drop 22 = dktX7_has_1 := dk_seg dksX7_has_0 22 rfl rfl
theorem dX7_has_0 : decode cX7_has 0 = .ok (.iconst 0, 1) := dk_3 (dk_at dksX7_has_0 0 rfl rfl)
theorem dX7_has_1 : decode cX7_has 1 = .ok (.istore_n 3, 1) := dk_62 (dk_at dksX7_has_0 1 rfl rfl)
theorem dX7_has_2 : decode cX7_has 2 = .ok (.iload_n 3, 1) := dk_29 (dk_at dksX7_has_0 2 rfl rfl)
theorem dX7_has_3 : decode cX7_has 3 = .ok (.aload_n 0, 1) := dk_42 (dk_at dksX7_has_0 3 rfl rfl)
theorem dX7_has_4 : decode cX7_has 4 = .ok (.getfield 21, 3) := dk_180 0 21 (dk_at dksX7_has_0 4 rfl rfl)
theorem dX7_has_7 : decode cX7_has 7 = .ok (.arraylength, 1) := dk_190 (dk_at dksX7_has_0 7 rfl rfl)
theorem dX7_has_8 : decode cX7_has 8 = .ok (.if_icmp .ge 31, 3) := dk_162 0 31 (dk_at dksX7_has_0 8 rfl rfl)
theorem dX7_has_11 : decode cX7_has 11 = .ok (.aload_n 0, 1) := dk_42 (dk_at dksX7_has_0 11 rfl rfl)
theorem dX7_has_12 : decode cX7_has 12 = .ok (.getfield 21, 3) := dk_180 0 21 (dk_at dksX7_has_0 12 rfl rfl)
theorem dX7_has_15 : decode cX7_has 15 = .ok (.iload_n 3, 1) := dk_29 (dk_at dksX7_has_0 15 rfl rfl)
theorem dX7_has_16 : decode cX7_has 16 = .ok (.iaload, 1) := dk_46 (dk_at dksX7_has_0 16 rfl rfl)
theorem dX7_has_17 : decode cX7_has 17 = .ok (.iload_n 1, 1) := dk_27 (dk_at dksX7_has_0 17 rfl rfl)
theorem dX7_has_18 : decode cX7_has 18 = .ok (.if_icmp .ne 15, 3) := dk_160 0 15 (dk_at dksX7_has_0 18 rfl rfl)
theorem dX7_has_21 : decode cX7_has 21 = .ok (.aload_n 0, 1) := dk_42 (dk_at dksX7_has_0 21 rfl rfl)
theorem dX7_has_22 : decode cX7_has 22 = .ok (.getfield 27, 3) := dk_180 0 27 (dk_at dksX7_has_1 0 rfl rfl)
theorem dX7_has_25 : decode cX7_has 25 = .ok (.iload_n 3, 1) := dk_29 (dk_at dksX7_has_1 3 rfl rfl)
theorem dX7_has_26 : decode cX7_has 26 = .ok (.iaload, 1) := dk_46 (dk_at dksX7_has_1 4 rfl rfl)
theorem dX7_has_27 : decode cX7_has 27 = .ok (.iload_n 2, 1) := dk_28 (dk_at dksX7_has_1 5 rfl rfl)
theorem dX7_has_28 : decode cX7_has 28 = .ok (.if_icmp .ne 5, 3) := dk_160 0 5 (dk_at dksX7_has_1 6 rfl rfl)
theorem dX7_has_31 : decode cX7_has 31 = .ok (.iconst 1, 1) := dk_4 (dk_at dksX7_has_1 9 rfl rfl)
theorem dX7_has_32 : decode cX7_has 32 = .ok (.ireturn, 1) := dk_172 (dk_at dksX7_has_1 10 rfl rfl)
theorem dX7_has_33 : decode cX7_has 33 = .ok (.iinc 3 1, 3) := dk_132 3 1 (dk_at dksX7_has_1 11 rfl rfl)
theorem dX7_has_36 : decode cX7_has 36 = .ok (.goto (-34), 3) := dk_167 255 222 (dk_at dksX7_has_1 14 rfl rfl)
theorem dX7_has_39 : decode cX7_has 39 = .ok (.iconst 0, 1) := dk_3 (dk_at dksX7_has_1 17 rfl rfl)
theorem dX7_has_40 : decode cX7_has 40 = .ok (.ireturn, 1) := dk_172 (dk_at dksX7_has_1 18 rfl rfl)
abbrev cX7_init : ByteArray := prog_16_method_1_code
def yX7_init : MethodName := ⟨RX7, "<init>", "(LCuttingRoom$Shape;ZI)V"⟩
def dkwX7_init_8 : List UInt8 := [21, 4, 100, 181, 0, 57, 177]
abbrev dktX7_init_8 : List UInt8 := dkwX7_init_8 ++ []
def dkwX7_init_7 : List UInt8 := [21, 5, 100, 79, 132, 6, 1, 167, 255, 219, 42, 43, 180, 0, 53, 28, 29, 182, 0, 36, 180, 0, 40]
abbrev dktX7_init_7 : List UInt8 := dkwX7_init_7 ++ dktX7_init_8
def dkwX7_init_6 : List UInt8 := [162, 0, 33, 42, 180, 0, 21, 21, 6, 92, 46, 21, 4, 100, 79, 42, 180, 0, 27, 21, 6, 92, 46]
abbrev dktX7_init_6 : List UInt8 := dkwX7_init_6 ++ dktX7_init_7
def dkwX7_init_5 : List UInt8 := [180, 0, 44, 184, 0, 47, 54, 5, 132, 6, 1, 167, 255, 174, 3, 54, 6, 21, 6, 42, 180, 0, 21, 190]
abbrev dktX7_init_5 : List UInt8 := dkwX7_init_5 ++ dktX7_init_6
def dkwX7_init_4 : List UInt8 := [25, 7, 180, 0, 44, 79, 21, 4, 25, 7, 180, 0, 40, 184, 0, 47, 54, 4, 21, 5, 25, 7]
abbrev dktX7_init_4 : List UInt8 := dkwX7_init_4 ++ dktX7_init_5
def dkwX7_init_3 : List UInt8 := [182, 0, 36, 58, 7, 42, 180, 0, 21, 21, 6, 25, 7, 180, 0, 40, 79, 42, 180, 0, 27, 21, 6]
abbrev dktX7_init_3 : List UInt8 := dkwX7_init_3 ++ dktX7_init_4
def dkwX7_init_2 : List UInt8 := [180, 0, 21, 190, 162, 0, 78, 43, 180, 0, 9, 21, 6, 185, 0, 30, 2, 0, 192, 0, 34, 28, 29]
abbrev dktX7_init_2 : List UInt8 := dkwX7_init_2 ++ dktX7_init_3
def dkwX7_init_1 : List UInt8 := [181, 0, 21, 42, 43, 180, 0, 9, 185, 0, 15, 1, 0, 188, 10, 181, 0, 27, 3, 54, 6, 21, 6, 42]
abbrev dktX7_init_1 : List UInt8 := dkwX7_init_1 ++ dktX7_init_2
def dkwX7_init_0 : List UInt8 := [42, 183, 0, 3, 8, 54, 4, 8, 54, 5, 42, 43, 180, 0, 9, 185, 0, 15, 1, 0, 188, 10]
abbrev dktX7_init_0 : List UInt8 := dkwX7_init_0 ++ dktX7_init_1
theorem dksX7_init_0 : cX7_init.data.toList.drop 0 = dktX7_init_0 := by decide +kernel
theorem dksX7_init_1 : cX7_init.data.toList.drop 22 = dktX7_init_1 := dk_seg dksX7_init_0 22 rfl rfl
theorem dksX7_init_2 : cX7_init.data.toList.drop 46 = dktX7_init_2 := dk_seg dksX7_init_1 24 rfl rfl
theorem dksX7_init_3 : cX7_init.data.toList.drop 69 = dktX7_init_3 := dk_seg dksX7_init_2 23 rfl rfl
theorem dksX7_init_4 : cX7_init.data.toList.drop 92 = dktX7_init_4 := dk_seg dksX7_init_3 23 rfl rfl
theorem dksX7_init_5 : cX7_init.data.toList.drop 114 = dktX7_init_5 := dk_seg dksX7_init_4 22 rfl rfl
theorem dksX7_init_6 : cX7_init.data.toList.drop 138 = dktX7_init_6 := dk_seg dksX7_init_5 24 rfl rfl
theorem dksX7_init_7 : cX7_init.data.toList.drop 161 = dktX7_init_7 := dk_seg dksX7_init_6 23 rfl rfl
theorem dksX7_init_8 : cX7_init.data.toList.drop 184 = dktX7_init_8 := dk_seg dksX7_init_7 23 rfl rfl
theorem dX7_init_0 : decode cX7_init 0 = .ok (.aload_n 0, 1) := dk_42 (dk_at dksX7_init_0 0 rfl rfl)
theorem dX7_init_1 : decode cX7_init 1 = .ok (.invokespecial 3, 3) := dk_183 0 3 (dk_at dksX7_init_0 1 rfl rfl)
theorem dX7_init_4 : decode cX7_init 4 = .ok (.iconst 5, 1) := dk_8 (dk_at dksX7_init_0 4 rfl rfl)
theorem dX7_init_5 : decode cX7_init 5 = .ok (.istore 4, 2) := dk_54 4 (dk_at dksX7_init_0 5 rfl rfl)
theorem dX7_init_7 : decode cX7_init 7 = .ok (.iconst 5, 1) := dk_8 (dk_at dksX7_init_0 7 rfl rfl)
theorem dX7_init_8 : decode cX7_init 8 = .ok (.istore 5, 2) := dk_54 5 (dk_at dksX7_init_0 8 rfl rfl)
theorem dX7_init_10 : decode cX7_init 10 = .ok (.aload_n 0, 1) := dk_42 (dk_at dksX7_init_0 10 rfl rfl)
theorem dX7_init_11 : decode cX7_init 11 = .ok (.aload_n 1, 1) := dk_43 (dk_at dksX7_init_0 11 rfl rfl)
theorem dX7_init_12 : decode cX7_init 12 = .ok (.getfield 9, 3) := dk_180 0 9 (dk_at dksX7_init_0 12 rfl rfl)
theorem dX7_init_15 : decode cX7_init 15 = .ok (.invokeinterface 15 1, 5) := by decide +kernel
theorem dX7_init_20 : decode cX7_init 20 = .ok (.newarray .int, 2) := dk_188_10 (dk_at dksX7_init_0 20 rfl rfl)
theorem dX7_init_22 : decode cX7_init 22 = .ok (.putfield 21, 3) := dk_181 0 21 (dk_at dksX7_init_1 0 rfl rfl)
theorem dX7_init_25 : decode cX7_init 25 = .ok (.aload_n 0, 1) := dk_42 (dk_at dksX7_init_1 3 rfl rfl)
theorem dX7_init_26 : decode cX7_init 26 = .ok (.aload_n 1, 1) := dk_43 (dk_at dksX7_init_1 4 rfl rfl)
theorem dX7_init_27 : decode cX7_init 27 = .ok (.getfield 9, 3) := dk_180 0 9 (dk_at dksX7_init_1 5 rfl rfl)
theorem dX7_init_30 : decode cX7_init 30 = .ok (.invokeinterface 15 1, 5) := by decide +kernel
theorem dX7_init_35 : decode cX7_init 35 = .ok (.newarray .int, 2) := dk_188_10 (dk_at dksX7_init_1 13 rfl rfl)
theorem dX7_init_37 : decode cX7_init 37 = .ok (.putfield 27, 3) := dk_181 0 27 (dk_at dksX7_init_1 15 rfl rfl)
theorem dX7_init_40 : decode cX7_init 40 = .ok (.iconst 0, 1) := dk_3 (dk_at dksX7_init_1 18 rfl rfl)
theorem dX7_init_41 : decode cX7_init 41 = .ok (.istore 6, 2) := dk_54 6 (dk_at dksX7_init_1 19 rfl rfl)
theorem dX7_init_43 : decode cX7_init 43 = .ok (.iload 6, 2) := dk_21 6 (dk_at dksX7_init_1 21 rfl rfl)
theorem dX7_init_45 : decode cX7_init 45 = .ok (.aload_n 0, 1) := dk_42 (dk_at dksX7_init_1 23 rfl rfl)
theorem dX7_init_46 : decode cX7_init 46 = .ok (.getfield 21, 3) := dk_180 0 21 (dk_at dksX7_init_2 0 rfl rfl)
theorem dX7_init_49 : decode cX7_init 49 = .ok (.arraylength, 1) := dk_190 (dk_at dksX7_init_2 3 rfl rfl)
theorem dX7_init_50 : decode cX7_init 50 = .ok (.if_icmp .ge 78, 3) := dk_162 0 78 (dk_at dksX7_init_2 4 rfl rfl)
theorem dX7_init_53 : decode cX7_init 53 = .ok (.aload_n 1, 1) := dk_43 (dk_at dksX7_init_2 7 rfl rfl)
theorem dX7_init_54 : decode cX7_init 54 = .ok (.getfield 9, 3) := dk_180 0 9 (dk_at dksX7_init_2 8 rfl rfl)
theorem dX7_init_57 : decode cX7_init 57 = .ok (.iload 6, 2) := dk_21 6 (dk_at dksX7_init_2 11 rfl rfl)
theorem dX7_init_59 : decode cX7_init 59 = .ok (.invokeinterface 30 2, 5) := by decide +kernel
theorem dX7_init_64 : decode cX7_init 64 = .ok (.checkcast 34, 3) := dk_192 0 34 (dk_at dksX7_init_2 18 rfl rfl)
theorem dX7_init_67 : decode cX7_init 67 = .ok (.iload_n 2, 1) := dk_28 (dk_at dksX7_init_2 21 rfl rfl)
theorem dX7_init_68 : decode cX7_init 68 = .ok (.iload_n 3, 1) := dk_29 (dk_at dksX7_init_2 22 rfl rfl)
theorem dX7_init_69 : decode cX7_init 69 = .ok (.invokevirtual 36, 3) := dk_182 0 36 (dk_at dksX7_init_3 0 rfl rfl)
theorem dX7_init_72 : decode cX7_init 72 = .ok (.astore 7, 2) := dk_58 7 (dk_at dksX7_init_3 3 rfl rfl)
theorem dX7_init_74 : decode cX7_init 74 = .ok (.aload_n 0, 1) := dk_42 (dk_at dksX7_init_3 5 rfl rfl)
theorem dX7_init_75 : decode cX7_init 75 = .ok (.getfield 21, 3) := dk_180 0 21 (dk_at dksX7_init_3 6 rfl rfl)
theorem dX7_init_78 : decode cX7_init 78 = .ok (.iload 6, 2) := dk_21 6 (dk_at dksX7_init_3 9 rfl rfl)
theorem dX7_init_80 : decode cX7_init 80 = .ok (.aload 7, 2) := dk_25 7 (dk_at dksX7_init_3 11 rfl rfl)
theorem dX7_init_82 : decode cX7_init 82 = .ok (.getfield 40, 3) := dk_180 0 40 (dk_at dksX7_init_3 13 rfl rfl)
theorem dX7_init_85 : decode cX7_init 85 = .ok (.iastore, 1) := dk_79 (dk_at dksX7_init_3 16 rfl rfl)
theorem dX7_init_86 : decode cX7_init 86 = .ok (.aload_n 0, 1) := dk_42 (dk_at dksX7_init_3 17 rfl rfl)
theorem dX7_init_87 : decode cX7_init 87 = .ok (.getfield 27, 3) := dk_180 0 27 (dk_at dksX7_init_3 18 rfl rfl)
theorem dX7_init_90 : decode cX7_init 90 = .ok (.iload 6, 2) := dk_21 6 (dk_at dksX7_init_3 21 rfl rfl)
theorem dX7_init_92 : decode cX7_init 92 = .ok (.aload 7, 2) := dk_25 7 (dk_at dksX7_init_4 0 rfl rfl)
theorem dX7_init_94 : decode cX7_init 94 = .ok (.getfield 44, 3) := dk_180 0 44 (dk_at dksX7_init_4 2 rfl rfl)
theorem dX7_init_97 : decode cX7_init 97 = .ok (.iastore, 1) := dk_79 (dk_at dksX7_init_4 5 rfl rfl)
theorem dX7_init_98 : decode cX7_init 98 = .ok (.iload 4, 2) := dk_21 4 (dk_at dksX7_init_4 6 rfl rfl)
theorem dX7_init_100 : decode cX7_init 100 = .ok (.aload 7, 2) := dk_25 7 (dk_at dksX7_init_4 8 rfl rfl)
theorem dX7_init_102 : decode cX7_init 102 = .ok (.getfield 40, 3) := dk_180 0 40 (dk_at dksX7_init_4 10 rfl rfl)
theorem dX7_init_105 : decode cX7_init 105 = .ok (.invokestatic 47, 3) := dk_184 0 47 (dk_at dksX7_init_4 13 rfl rfl)
theorem dX7_init_108 : decode cX7_init 108 = .ok (.istore 4, 2) := dk_54 4 (dk_at dksX7_init_4 16 rfl rfl)
theorem dX7_init_110 : decode cX7_init 110 = .ok (.iload 5, 2) := dk_21 5 (dk_at dksX7_init_4 18 rfl rfl)
theorem dX7_init_112 : decode cX7_init 112 = .ok (.aload 7, 2) := dk_25 7 (dk_at dksX7_init_4 20 rfl rfl)
theorem dX7_init_114 : decode cX7_init 114 = .ok (.getfield 44, 3) := dk_180 0 44 (dk_at dksX7_init_5 0 rfl rfl)
theorem dX7_init_117 : decode cX7_init 117 = .ok (.invokestatic 47, 3) := dk_184 0 47 (dk_at dksX7_init_5 3 rfl rfl)
theorem dX7_init_120 : decode cX7_init 120 = .ok (.istore 5, 2) := dk_54 5 (dk_at dksX7_init_5 6 rfl rfl)
theorem dX7_init_122 : decode cX7_init 122 = .ok (.iinc 6 1, 3) := dk_132 6 1 (dk_at dksX7_init_5 8 rfl rfl)
theorem dX7_init_125 : decode cX7_init 125 = .ok (.goto (-82), 3) := dk_167 255 174 (dk_at dksX7_init_5 11 rfl rfl)
theorem dX7_init_128 : decode cX7_init 128 = .ok (.iconst 0, 1) := dk_3 (dk_at dksX7_init_5 14 rfl rfl)
theorem dX7_init_129 : decode cX7_init 129 = .ok (.istore 6, 2) := dk_54 6 (dk_at dksX7_init_5 15 rfl rfl)
theorem dX7_init_131 : decode cX7_init 131 = .ok (.iload 6, 2) := dk_21 6 (dk_at dksX7_init_5 17 rfl rfl)
theorem dX7_init_133 : decode cX7_init 133 = .ok (.aload_n 0, 1) := dk_42 (dk_at dksX7_init_5 19 rfl rfl)
theorem dX7_init_134 : decode cX7_init 134 = .ok (.getfield 21, 3) := dk_180 0 21 (dk_at dksX7_init_5 20 rfl rfl)
theorem dX7_init_137 : decode cX7_init 137 = .ok (.arraylength, 1) := dk_190 (dk_at dksX7_init_5 23 rfl rfl)
theorem dX7_init_138 : decode cX7_init 138 = .ok (.if_icmp .ge 33, 3) := dk_162 0 33 (dk_at dksX7_init_6 0 rfl rfl)
theorem dX7_init_141 : decode cX7_init 141 = .ok (.aload_n 0, 1) := dk_42 (dk_at dksX7_init_6 3 rfl rfl)
theorem dX7_init_142 : decode cX7_init 142 = .ok (.getfield 21, 3) := dk_180 0 21 (dk_at dksX7_init_6 4 rfl rfl)
theorem dX7_init_145 : decode cX7_init 145 = .ok (.iload 6, 2) := dk_21 6 (dk_at dksX7_init_6 7 rfl rfl)
theorem dX7_init_147 : decode cX7_init 147 = .ok (.dup2, 1) := dk_92 (dk_at dksX7_init_6 9 rfl rfl)
theorem dX7_init_148 : decode cX7_init 148 = .ok (.iaload, 1) := dk_46 (dk_at dksX7_init_6 10 rfl rfl)
theorem dX7_init_149 : decode cX7_init 149 = .ok (.iload 4, 2) := dk_21 4 (dk_at dksX7_init_6 11 rfl rfl)
theorem dX7_init_151 : decode cX7_init 151 = .ok (.isub, 1) := dk_100 (dk_at dksX7_init_6 13 rfl rfl)
theorem dX7_init_152 : decode cX7_init 152 = .ok (.iastore, 1) := dk_79 (dk_at dksX7_init_6 14 rfl rfl)
theorem dX7_init_153 : decode cX7_init 153 = .ok (.aload_n 0, 1) := dk_42 (dk_at dksX7_init_6 15 rfl rfl)
theorem dX7_init_154 : decode cX7_init 154 = .ok (.getfield 27, 3) := dk_180 0 27 (dk_at dksX7_init_6 16 rfl rfl)
theorem dX7_init_157 : decode cX7_init 157 = .ok (.iload 6, 2) := dk_21 6 (dk_at dksX7_init_6 19 rfl rfl)
theorem dX7_init_159 : decode cX7_init 159 = .ok (.dup2, 1) := dk_92 (dk_at dksX7_init_6 21 rfl rfl)
theorem dX7_init_160 : decode cX7_init 160 = .ok (.iaload, 1) := dk_46 (dk_at dksX7_init_6 22 rfl rfl)
theorem dX7_init_161 : decode cX7_init 161 = .ok (.iload 5, 2) := dk_21 5 (dk_at dksX7_init_7 0 rfl rfl)
theorem dX7_init_163 : decode cX7_init 163 = .ok (.isub, 1) := dk_100 (dk_at dksX7_init_7 2 rfl rfl)
theorem dX7_init_164 : decode cX7_init 164 = .ok (.iastore, 1) := dk_79 (dk_at dksX7_init_7 3 rfl rfl)
theorem dX7_init_165 : decode cX7_init 165 = .ok (.iinc 6 1, 3) := dk_132 6 1 (dk_at dksX7_init_7 4 rfl rfl)
theorem dX7_init_168 : decode cX7_init 168 = .ok (.goto (-37), 3) := dk_167 255 219 (dk_at dksX7_init_7 7 rfl rfl)
theorem dX7_init_171 : decode cX7_init 171 = .ok (.aload_n 0, 1) := dk_42 (dk_at dksX7_init_7 10 rfl rfl)
theorem dX7_init_172 : decode cX7_init 172 = .ok (.aload_n 1, 1) := dk_43 (dk_at dksX7_init_7 11 rfl rfl)
theorem dX7_init_173 : decode cX7_init 173 = .ok (.getfield 53, 3) := dk_180 0 53 (dk_at dksX7_init_7 12 rfl rfl)
theorem dX7_init_176 : decode cX7_init 176 = .ok (.iload_n 2, 1) := dk_28 (dk_at dksX7_init_7 15 rfl rfl)
theorem dX7_init_177 : decode cX7_init 177 = .ok (.iload_n 3, 1) := dk_29 (dk_at dksX7_init_7 16 rfl rfl)
theorem dX7_init_178 : decode cX7_init 178 = .ok (.invokevirtual 36, 3) := dk_182 0 36 (dk_at dksX7_init_7 17 rfl rfl)
theorem dX7_init_181 : decode cX7_init 181 = .ok (.getfield 40, 3) := dk_180 0 40 (dk_at dksX7_init_7 20 rfl rfl)
theorem dX7_init_184 : decode cX7_init 184 = .ok (.iload 4, 2) := dk_21 4 (dk_at dksX7_init_8 0 rfl rfl)
theorem dX7_init_186 : decode cX7_init 186 = .ok (.isub, 1) := dk_100 (dk_at dksX7_init_8 2 rfl rfl)
theorem dX7_init_187 : decode cX7_init 187 = .ok (.putfield 57, 3) := dk_181 0 57 (dk_at dksX7_init_8 3 rfl rfl)
theorem dX7_init_190 : decode cX7_init 190 = .ok (.return_, 1) := dk_177 (dk_at dksX7_init_8 6 rfl rfl)
theorem q84 : (Jvm.Cond.initialized "CuttingRoom$Variant") ∈ lw_all := lw_g (lw_at lw_m1 19 rfl) rfl
theorem q519 : (Jvm.Cond.instanceMethod ({ cls := "CuttingRoom$Variant", name := "has", desc := "(II)Z" } : Jvm.MethodName)) ∈ lw_all := lw_g (lw_at lw_m2 214 rfl) rfl
theorem q520 : (Jvm.Cond.selects "CuttingRoom$Variant" ({ cls := "CuttingRoom$Variant", name := "has", desc := "(II)Z" } : Jvm.MethodName) ({ cls := "CuttingRoom$Variant", name := "has", desc := "(II)Z" } : Jvm.MethodName)) ∈ lw_all := lw_g (lw_at lw_m2 215 rfl) rfl
theorem q521 : (Jvm.Cond.code ({ cls := "CuttingRoom$Variant", name := "has", desc := "(II)Z" } : Jvm.MethodName) prog_16_method_2_code (4 : Nat) (Option.some Jvm.ClassFile.FieldType.boolean)) ∈ lw_all := lw_g (lw_at lw_m2 216 rfl) rfl
theorem q658 : (Jvm.Cond.fieldLinkNest "CuttingRoom$Variant" (40 : Nat) "CuttingRoom$Cell" "row" "I" "CuttingRoom") ∈ lw_tbl := lw_at lw_m3 113 rfl
theorem q660 : (Jvm.Cond.fieldLinkNest "CuttingRoom$Variant" (44 : Nat) "CuttingRoom$Cell" "column" "I" "CuttingRoom") ∈ lw_tbl := lw_at lw_m3 115 rfl
theorem q672 : (Jvm.Cond.instantiable "CuttingRoom$Variant" (3 : Nat)) ∈ lw_all := lw_g (lw_at lw_m3 127 rfl) rfl
theorem q674 : (Jvm.Cond.instanceMethod ({ cls := "CuttingRoom$Variant", name := "<init>", desc := "(LCuttingRoom$Shape;ZI)V" } : Jvm.MethodName)) ∈ lw_all := lw_g (lw_at lw_m3 129 rfl) rfl
theorem q675 : (Jvm.Cond.code ({ cls := "CuttingRoom$Variant", name := "<init>", desc := "(LCuttingRoom$Shape;ZI)V" } : Jvm.MethodName) prog_16_method_1_code (8 : Nat) (Option.none : Option Jvm.ClassFile.FieldType)) ∈ lw_all := lw_g (lw_at lw_m3 130 rfl) rfl
theorem q676 : (Jvm.Cond.methodLink "CuttingRoom$Variant" (3 : Nat) ({ cls := "java/lang/Object", name := "<init>", desc := "()V" } : Jvm.MethodName)) ∈ lw_all := lw_g (lw_at lw_m3 131 rfl) rfl
theorem q677 : (Jvm.Cond.interfaceEntry "CuttingRoom$Variant" (15 : Nat)) ∈ lw_tbl := lw_at lw_m3 132 rfl
theorem q678 : (Jvm.Cond.methodLink "CuttingRoom$Variant" (15 : Nat) ({ cls := "java/util/List", name := "size", desc := "()I" } : Jvm.MethodName)) ∈ lw_all := lw_g (lw_at lw_m3 133 rfl) rfl
theorem q679 : (Jvm.Cond.interfaceEntry "CuttingRoom$Variant" (30 : Nat)) ∈ lw_tbl := lw_at lw_m3 134 rfl
theorem q680 : (Jvm.Cond.methodLink "CuttingRoom$Variant" (30 : Nat) ({ cls := "java/util/List", name := "get", desc := "(I)Ljava/lang/Object;" } : Jvm.MethodName)) ∈ lw_all := lw_g (lw_at lw_m3 135 rfl) rfl
theorem q681 : (Jvm.Cond.classLink "CuttingRoom$Variant" (34 : Nat) "CuttingRoom$Cell") ∈ lw_all := lw_g (lw_at lw_m3 136 rfl) rfl
theorem q682 : (Jvm.Cond.methodLink "CuttingRoom$Variant" (36 : Nat) ({ cls := "CuttingRoom$Cell", name := "changed", desc := "(ZI)LCuttingRoom$Cell;" } : Jvm.MethodName)) ∈ lw_all := lw_g (lw_at lw_m3 137 rfl) rfl
theorem q688 : (Jvm.Cond.methodLink "CuttingRoom$Variant" (47 : Nat) ({ cls := "java/lang/Math", name := "min", desc := "(II)I" } : Jvm.MethodName)) ∈ lw_all := lw_g (lw_at lw_m3 143 rfl) rfl
theorem q691 : (Jvm.Cond.fieldLink "CuttingRoom$Variant" (21 : Nat) "CuttingRoom$Variant" "rows" "[I") ∈ lw_all := lw_g (lw_at lw_m3 146 rfl) rfl
theorem q693 : (Jvm.Cond.fieldLink "CuttingRoom$Variant" (27 : Nat) "CuttingRoom$Variant" "columns" "[I") ∈ lw_all := lw_g (lw_at lw_m3 148 rfl) rfl
theorem q695 : (Jvm.Cond.fieldLink "CuttingRoom$Variant" (57 : Nat) "CuttingRoom$Variant" "markRow" "I") ∈ lw_all := lw_g (lw_at lw_m3 150 rfl) rfl
theorem q697 : (Jvm.Cond.laysFinal "CuttingRoom$Variant" "CuttingRoom$Variant" "rows" "[I") ∈ lw_all := lw_g (lw_at lw_m3 152 rfl) rfl
theorem q698 : (Jvm.Cond.soleField "CuttingRoom$Variant" "rows") ∈ lw_all := lw_g (lw_at lw_m3 153 rfl) rfl
theorem q699 : (Jvm.Cond.laysFinal "CuttingRoom$Variant" "CuttingRoom$Variant" "columns" "[I") ∈ lw_all := lw_g (lw_at lw_m3 154 rfl) rfl
theorem q700 : (Jvm.Cond.soleField "CuttingRoom$Variant" "columns") ∈ lw_all := lw_g (lw_at lw_m3 155 rfl) rfl
theorem q701 : (Jvm.Cond.laysFinal "CuttingRoom$Variant" "CuttingRoom$Variant" "markRow" "I") ∈ lw_all := lw_g (lw_at lw_m3 156 rfl) rfl
theorem q702 : (Jvm.Cond.soleField "CuttingRoom$Variant" "markRow") ∈ lw_all := lw_g (lw_at lw_m3 157 rfl) rfl
theorem q703 : (Jvm.Cond.superclass "CuttingRoom$Variant" "java/lang/Object") ∈ lw_all := lw_g (lw_at lw_m3 158 rfl) rfl
theorem q710 : (Jvm.Cond.fieldLinkNest "CuttingRoom$Variant" (9 : Nat) "CuttingRoom$Shape" "cells" "Ljava/util/List;" "CuttingRoom") ∈ lw_tbl := lw_at lw_m3 165 rfl
theorem q717 : (Jvm.Cond.fieldLinkNest "CuttingRoom$Variant" (53 : Nat) "CuttingRoom$Shape" "mark" "LCuttingRoom$Cell;" "CuttingRoom") ∈ lw_tbl := lw_at lw_m3 172 rfl
theorem q794 : (Jvm.Cond.selects "CuttingRoom$Variant" ({ cls := "java/lang/Object", name := "getClass", desc := "()Ljava/lang/Class;" } : Jvm.MethodName) ({ cls := "java/lang/Object", name := "getClass", desc := "()Ljava/lang/Class;" } : Jvm.MethodName)) ∈ lw_all := lw_g (lw_at lw_m4 9 rfl) rfl
theorem q1039 : (Jvm.Cond.selects "CuttingRoom$Variant" ({ cls := "java/lang/Object", name := "equals", desc := "(Ljava/lang/Object;)Z" } : Jvm.MethodName) ({ cls := "java/lang/Object", name := "equals", desc := "(Ljava/lang/Object;)Z" } : Jvm.MethodName)) ∈ lw_all := lw_g (lw_at lw_m5 14 rfl) rfl
theorem q1834 : (Jvm.Cond.castable "CuttingRoom$Variant" "java/lang/Object") ∈ lw_tbl := lw_at lw_m8 89 rfl
theorem in_X7 : ∀ w ∈ wsX70, w ∈ lw_all := lw_in wsX70 [697, 699, 701] (by decide +kernel) (by decide +kernel)

/-! CuttingRoom$Piece -/
set_option maxRecDepth 100000
def RX8 : String := "CuttingRoom$Piece"
def TX8 : u_T := fun k => match k with
  | 0 => ("CuttingRoom$Piece", "number", "I", true)
  | 1 => ("CuttingRoom$Piece", "shape", "LCuttingRoom$Shape;", true)
  | 2 => ("CuttingRoom$Piece", "turns", "I", true)
  | 3 => ("CuttingRoom$Piece", "isMirrored", "Z", true)
  | 4 => ("CuttingRoom$Piece", "row", "I", true)
  | _ => ("CuttingRoom$Piece", "column", "I", true)
def tyX8 : Nat → FieldType := fun k => match k with
  | 0 => .int
  | 1 => .object "CuttingRoom$Shape"
  | 2 => .int
  | 3 => .boolean
  | 4 => .int
  | _ => .int
abbrev wsX80 : List Cond := u_ws RX8 TX8 6
theorem nmX8 : ∀ a, a < 6 → ∀ b, b < 6 → a ≠ b → (TX8 a).2.1 ≠ (TX8 b).2.1 := by decide +kernel
theorem tyX8_ok : ∀ k, k < 6 → parseFieldDescriptor (TX8 k).2.2.1 = some (tyX8 k) := by decide +kernel
abbrev cX8_has : ByteArray := prog_6_method_2_code
def yX8_has : MethodName := ⟨RX8, "has", "(II)Z"⟩
def dkwX8_has_1 : List UInt8 := [180, 0, 36, 100, 182, 0, 43, 172]
abbrev dktX8_has_1 : List UInt8 := dkwX8_has_1 ++ []
def dkwX8_has_0 : List UInt8 := [42, 180, 0, 19, 42, 180, 0, 28, 42, 180, 0, 23, 182, 0, 37, 27, 42, 180, 0, 32, 100, 28, 42]
abbrev dktX8_has_0 : List UInt8 := dkwX8_has_0 ++ dktX8_has_1
theorem dksX8_has_0 : cX8_has.data.toList.drop 0 = dktX8_has_0 := by decide +kernel
theorem dksX8_has_1 : cX8_has.data.toList.drop 23 = dktX8_has_1 := dk_seg dksX8_has_0 23 rfl rfl
theorem dX8_has_0 : decode cX8_has 0 = .ok (.aload_n 0, 1) := dk_42 (dk_at dksX8_has_0 0 rfl rfl)
theorem dX8_has_1 : decode cX8_has 1 = .ok (.getfield 19, 3) := dk_180 0 19 (dk_at dksX8_has_0 1 rfl rfl)
theorem dX8_has_4 : decode cX8_has 4 = .ok (.aload_n 0, 1) := dk_42 (dk_at dksX8_has_0 4 rfl rfl)
theorem dX8_has_5 : decode cX8_has 5 = .ok (.getfield 28, 3) := dk_180 0 28 (dk_at dksX8_has_0 5 rfl rfl)
theorem dX8_has_8 : decode cX8_has 8 = .ok (.aload_n 0, 1) := dk_42 (dk_at dksX8_has_0 8 rfl rfl)
theorem dX8_has_9 : decode cX8_has 9 = .ok (.getfield 23, 3) := dk_180 0 23 (dk_at dksX8_has_0 9 rfl rfl)
theorem dX8_has_12 : decode cX8_has 12 = .ok (.invokevirtual 37, 3) := dk_182 0 37 (dk_at dksX8_has_0 12 rfl rfl)
theorem dX8_has_15 : decode cX8_has 15 = .ok (.iload_n 1, 1) := dk_27 (dk_at dksX8_has_0 15 rfl rfl)
theorem dX8_has_16 : decode cX8_has 16 = .ok (.aload_n 0, 1) := dk_42 (dk_at dksX8_has_0 16 rfl rfl)
theorem dX8_has_17 : decode cX8_has 17 = .ok (.getfield 32, 3) := dk_180 0 32 (dk_at dksX8_has_0 17 rfl rfl)
theorem dX8_has_20 : decode cX8_has 20 = .ok (.isub, 1) := dk_100 (dk_at dksX8_has_0 20 rfl rfl)
theorem dX8_has_21 : decode cX8_has 21 = .ok (.iload_n 2, 1) := dk_28 (dk_at dksX8_has_0 21 rfl rfl)
theorem dX8_has_22 : decode cX8_has 22 = .ok (.aload_n 0, 1) := dk_42 (dk_at dksX8_has_0 22 rfl rfl)
theorem dX8_has_23 : decode cX8_has 23 = .ok (.getfield 36, 3) := dk_180 0 36 (dk_at dksX8_has_1 0 rfl rfl)
theorem dX8_has_26 : decode cX8_has 26 = .ok (.isub, 1) := dk_100 (dk_at dksX8_has_1 3 rfl rfl)
theorem dX8_has_27 : decode cX8_has 27 = .ok (.invokevirtual 43, 3) := dk_182 0 43 (dk_at dksX8_has_1 4 rfl rfl)
theorem dX8_has_30 : decode cX8_has 30 = .ok (.ireturn, 1) := dk_172 (dk_at dksX8_has_1 7 rfl rfl)
abbrev cX8_init : ByteArray := prog_6_method_1_code
def yX8_init : MethodName := ⟨RX8, "<init>", "(ILCuttingRoom$Spot;)V"⟩
def dkwX8_init_2 : List UInt8 := [181, 0, 36, 177]
abbrev dktX8_init_2 : List UInt8 := dkwX8_init_2 ++ []
def dkwX8_init_1 : List UInt8 := [181, 0, 23, 42, 44, 180, 0, 24, 181, 0, 28, 42, 44, 180, 0, 29, 181, 0, 32, 42, 44, 180, 0, 33]
abbrev dktX8_init_1 : List UInt8 := dkwX8_init_1 ++ dktX8_init_2
def dkwX8_init_0 : List UInt8 := [42, 183, 0, 1, 42, 27, 181, 0, 7, 42, 44, 180, 0, 13, 181, 0, 19, 42, 44, 180, 0, 20]
abbrev dktX8_init_0 : List UInt8 := dkwX8_init_0 ++ dktX8_init_1
theorem dksX8_init_0 : cX8_init.data.toList.drop 0 = dktX8_init_0 := by decide +kernel
theorem dksX8_init_1 : cX8_init.data.toList.drop 22 = dktX8_init_1 := dk_seg dksX8_init_0 22 rfl rfl
theorem dksX8_init_2 : cX8_init.data.toList.drop 46 = dktX8_init_2 := dk_seg dksX8_init_1 24 rfl rfl
theorem dX8_init_0 : decode cX8_init 0 = .ok (.aload_n 0, 1) := dk_42 (dk_at dksX8_init_0 0 rfl rfl)
theorem dX8_init_1 : decode cX8_init 1 = .ok (.invokespecial 1, 3) := dk_183 0 1 (dk_at dksX8_init_0 1 rfl rfl)
theorem dX8_init_4 : decode cX8_init 4 = .ok (.aload_n 0, 1) := dk_42 (dk_at dksX8_init_0 4 rfl rfl)
theorem dX8_init_5 : decode cX8_init 5 = .ok (.iload_n 1, 1) := dk_27 (dk_at dksX8_init_0 5 rfl rfl)
theorem dX8_init_6 : decode cX8_init 6 = .ok (.putfield 7, 3) := dk_181 0 7 (dk_at dksX8_init_0 6 rfl rfl)
theorem dX8_init_9 : decode cX8_init 9 = .ok (.aload_n 0, 1) := dk_42 (dk_at dksX8_init_0 9 rfl rfl)
theorem dX8_init_10 : decode cX8_init 10 = .ok (.aload_n 2, 1) := dk_44 (dk_at dksX8_init_0 10 rfl rfl)
theorem dX8_init_11 : decode cX8_init 11 = .ok (.getfield 13, 3) := dk_180 0 13 (dk_at dksX8_init_0 11 rfl rfl)
theorem dX8_init_14 : decode cX8_init 14 = .ok (.putfield 19, 3) := dk_181 0 19 (dk_at dksX8_init_0 14 rfl rfl)
theorem dX8_init_17 : decode cX8_init 17 = .ok (.aload_n 0, 1) := dk_42 (dk_at dksX8_init_0 17 rfl rfl)
theorem dX8_init_18 : decode cX8_init 18 = .ok (.aload_n 2, 1) := dk_44 (dk_at dksX8_init_0 18 rfl rfl)
theorem dX8_init_19 : decode cX8_init 19 = .ok (.getfield 20, 3) := dk_180 0 20 (dk_at dksX8_init_0 19 rfl rfl)
theorem dX8_init_22 : decode cX8_init 22 = .ok (.putfield 23, 3) := dk_181 0 23 (dk_at dksX8_init_1 0 rfl rfl)
theorem dX8_init_25 : decode cX8_init 25 = .ok (.aload_n 0, 1) := dk_42 (dk_at dksX8_init_1 3 rfl rfl)
theorem dX8_init_26 : decode cX8_init 26 = .ok (.aload_n 2, 1) := dk_44 (dk_at dksX8_init_1 4 rfl rfl)
theorem dX8_init_27 : decode cX8_init 27 = .ok (.getfield 24, 3) := dk_180 0 24 (dk_at dksX8_init_1 5 rfl rfl)
theorem dX8_init_30 : decode cX8_init 30 = .ok (.putfield 28, 3) := dk_181 0 28 (dk_at dksX8_init_1 8 rfl rfl)
theorem dX8_init_33 : decode cX8_init 33 = .ok (.aload_n 0, 1) := dk_42 (dk_at dksX8_init_1 11 rfl rfl)
theorem dX8_init_34 : decode cX8_init 34 = .ok (.aload_n 2, 1) := dk_44 (dk_at dksX8_init_1 12 rfl rfl)
theorem dX8_init_35 : decode cX8_init 35 = .ok (.getfield 29, 3) := dk_180 0 29 (dk_at dksX8_init_1 13 rfl rfl)
theorem dX8_init_38 : decode cX8_init 38 = .ok (.putfield 32, 3) := dk_181 0 32 (dk_at dksX8_init_1 16 rfl rfl)
theorem dX8_init_41 : decode cX8_init 41 = .ok (.aload_n 0, 1) := dk_42 (dk_at dksX8_init_1 19 rfl rfl)
theorem dX8_init_42 : decode cX8_init 42 = .ok (.aload_n 2, 1) := dk_44 (dk_at dksX8_init_1 20 rfl rfl)
theorem dX8_init_43 : decode cX8_init 43 = .ok (.getfield 33, 3) := dk_180 0 33 (dk_at dksX8_init_1 21 rfl rfl)
theorem dX8_init_46 : decode cX8_init 46 = .ok (.putfield 36, 3) := dk_181 0 36 (dk_at dksX8_init_2 0 rfl rfl)
theorem dX8_init_49 : decode cX8_init 49 = .ok (.return_, 1) := dk_177 (dk_at dksX8_init_2 3 rfl rfl)
theorem q93 : (Jvm.Cond.initialized "CuttingRoom$Piece") ∈ lw_all := lw_g (lw_at lw_m1 28 rfl) rfl
theorem q142 : (Jvm.Cond.fieldLinkNest "CuttingRoom$Piece" (13 : Nat) "CuttingRoom$Spot" "shape" "LCuttingRoom$Shape;" "CuttingRoom") ∈ lw_tbl := lw_at lw_m1 77 rfl
theorem q146 : (Jvm.Cond.fieldLinkNest "CuttingRoom$Piece" (20 : Nat) "CuttingRoom$Spot" "turns" "I" "CuttingRoom") ∈ lw_tbl := lw_at lw_m1 81 rfl
theorem q149 : (Jvm.Cond.fieldLinkNest "CuttingRoom$Piece" (24 : Nat) "CuttingRoom$Spot" "isMirrored" "Z" "CuttingRoom") ∈ lw_tbl := lw_at lw_m1 84 rfl
theorem q152 : (Jvm.Cond.fieldLinkNest "CuttingRoom$Piece" (29 : Nat) "CuttingRoom$Spot" "row" "I" "CuttingRoom") ∈ lw_tbl := lw_at lw_m1 87 rfl
theorem q155 : (Jvm.Cond.fieldLinkNest "CuttingRoom$Piece" (33 : Nat) "CuttingRoom$Spot" "column" "I" "CuttingRoom") ∈ lw_tbl := lw_at lw_m1 90 rfl
theorem q514 : (Jvm.Cond.instanceMethod ({ cls := "CuttingRoom$Piece", name := "has", desc := "(II)Z" } : Jvm.MethodName)) ∈ lw_all := lw_g (lw_at lw_m2 209 rfl) rfl
theorem q515 : (Jvm.Cond.selects "CuttingRoom$Piece" ({ cls := "CuttingRoom$Piece", name := "has", desc := "(II)Z" } : Jvm.MethodName) ({ cls := "CuttingRoom$Piece", name := "has", desc := "(II)Z" } : Jvm.MethodName)) ∈ lw_all := lw_g (lw_at lw_m2 210 rfl) rfl
theorem q516 : (Jvm.Cond.code ({ cls := "CuttingRoom$Piece", name := "has", desc := "(II)Z" } : Jvm.MethodName) prog_6_method_2_code (3 : Nat) (Option.some Jvm.ClassFile.FieldType.boolean)) ∈ lw_all := lw_g (lw_at lw_m2 211 rfl) rfl
theorem q517 : (Jvm.Cond.methodLink "CuttingRoom$Piece" (37 : Nat) ({ cls := "CuttingRoom$Shape", name := "variant", desc := "(ZI)LCuttingRoom$Variant;" } : Jvm.MethodName)) ∈ lw_all := lw_g (lw_at lw_m2 212 rfl) rfl
theorem q518 : (Jvm.Cond.methodLink "CuttingRoom$Piece" (43 : Nat) ({ cls := "CuttingRoom$Variant", name := "has", desc := "(II)Z" } : Jvm.MethodName)) ∈ lw_all := lw_g (lw_at lw_m2 213 rfl) rfl
theorem q785 : (Jvm.Cond.selects "CuttingRoom$Piece" ({ cls := "java/lang/Object", name := "getClass", desc := "()Ljava/lang/Class;" } : Jvm.MethodName) ({ cls := "java/lang/Object", name := "getClass", desc := "()Ljava/lang/Class;" } : Jvm.MethodName)) ∈ lw_all := lw_g (lw_at lw_m4 0 rfl) rfl
theorem q945 : (Jvm.Cond.instantiable "CuttingRoom$Piece" (6 : Nat)) ∈ lw_all := lw_g (lw_at lw_m4 160 rfl) rfl
theorem q947 : (Jvm.Cond.instanceMethod ({ cls := "CuttingRoom$Piece", name := "<init>", desc := "(ILCuttingRoom$Spot;)V" } : Jvm.MethodName)) ∈ lw_all := lw_g (lw_at lw_m4 162 rfl) rfl
theorem q948 : (Jvm.Cond.code ({ cls := "CuttingRoom$Piece", name := "<init>", desc := "(ILCuttingRoom$Spot;)V" } : Jvm.MethodName) prog_6_method_1_code (3 : Nat) (Option.none : Option Jvm.ClassFile.FieldType)) ∈ lw_all := lw_g (lw_at lw_m4 163 rfl) rfl
theorem q949 : (Jvm.Cond.methodLink "CuttingRoom$Piece" (1 : Nat) ({ cls := "java/lang/Object", name := "<init>", desc := "()V" } : Jvm.MethodName)) ∈ lw_all := lw_g (lw_at lw_m4 164 rfl) rfl
theorem q950 : (Jvm.Cond.fieldLink "CuttingRoom$Piece" (7 : Nat) "CuttingRoom$Piece" "number" "I") ∈ lw_all := lw_g (lw_at lw_m4 165 rfl) rfl
theorem q952 : (Jvm.Cond.fieldLink "CuttingRoom$Piece" (19 : Nat) "CuttingRoom$Piece" "shape" "LCuttingRoom$Shape;") ∈ lw_all := lw_g (lw_at lw_m4 167 rfl) rfl
theorem q955 : (Jvm.Cond.fieldLink "CuttingRoom$Piece" (23 : Nat) "CuttingRoom$Piece" "turns" "I") ∈ lw_all := lw_g (lw_at lw_m4 170 rfl) rfl
theorem q958 : (Jvm.Cond.fieldLink "CuttingRoom$Piece" (28 : Nat) "CuttingRoom$Piece" "isMirrored" "Z") ∈ lw_all := lw_g (lw_at lw_m4 173 rfl) rfl
theorem q961 : (Jvm.Cond.fieldLink "CuttingRoom$Piece" (32 : Nat) "CuttingRoom$Piece" "row" "I") ∈ lw_all := lw_g (lw_at lw_m4 176 rfl) rfl
theorem q964 : (Jvm.Cond.fieldLink "CuttingRoom$Piece" (36 : Nat) "CuttingRoom$Piece" "column" "I") ∈ lw_all := lw_g (lw_at lw_m4 179 rfl) rfl
theorem q967 : (Jvm.Cond.laysFinal "CuttingRoom$Piece" "CuttingRoom$Piece" "number" "I") ∈ lw_all := lw_g (lw_at lw_m4 182 rfl) rfl
theorem q968 : (Jvm.Cond.soleField "CuttingRoom$Piece" "number") ∈ lw_all := lw_g (lw_at lw_m4 183 rfl) rfl
theorem q969 : (Jvm.Cond.laysFinal "CuttingRoom$Piece" "CuttingRoom$Piece" "shape" "LCuttingRoom$Shape;") ∈ lw_all := lw_g (lw_at lw_m4 184 rfl) rfl
theorem q970 : (Jvm.Cond.soleField "CuttingRoom$Piece" "shape") ∈ lw_all := lw_g (lw_at lw_m4 185 rfl) rfl
theorem q971 : (Jvm.Cond.laysFinal "CuttingRoom$Piece" "CuttingRoom$Piece" "turns" "I") ∈ lw_all := lw_g (lw_at lw_m4 186 rfl) rfl
theorem q972 : (Jvm.Cond.soleField "CuttingRoom$Piece" "turns") ∈ lw_all := lw_g (lw_at lw_m4 187 rfl) rfl
theorem q973 : (Jvm.Cond.laysFinal "CuttingRoom$Piece" "CuttingRoom$Piece" "isMirrored" "Z") ∈ lw_all := lw_g (lw_at lw_m4 188 rfl) rfl
theorem q974 : (Jvm.Cond.soleField "CuttingRoom$Piece" "isMirrored") ∈ lw_all := lw_g (lw_at lw_m4 189 rfl) rfl
theorem q975 : (Jvm.Cond.laysFinal "CuttingRoom$Piece" "CuttingRoom$Piece" "row" "I") ∈ lw_all := lw_g (lw_at lw_m4 190 rfl) rfl
theorem q976 : (Jvm.Cond.soleField "CuttingRoom$Piece" "row") ∈ lw_all := lw_g (lw_at lw_m4 191 rfl) rfl
theorem q977 : (Jvm.Cond.laysFinal "CuttingRoom$Piece" "CuttingRoom$Piece" "column" "I") ∈ lw_all := lw_g (lw_at lw_m4 192 rfl) rfl
theorem q978 : (Jvm.Cond.soleField "CuttingRoom$Piece" "column") ∈ lw_all := lw_g (lw_at lw_m4 193 rfl) rfl
theorem q979 : (Jvm.Cond.superclass "CuttingRoom$Piece" "java/lang/Object") ∈ lw_all := lw_g (lw_at lw_m4 194 rfl) rfl
theorem q1028 : (Jvm.Cond.selects "CuttingRoom$Piece" ({ cls := "java/lang/Object", name := "equals", desc := "(Ljava/lang/Object;)Z" } : Jvm.MethodName) ({ cls := "java/lang/Object", name := "equals", desc := "(Ljava/lang/Object;)Z" } : Jvm.MethodName)) ∈ lw_all := lw_g (lw_at lw_m5 3 rfl) rfl
theorem q1850 : (Jvm.Cond.castable "CuttingRoom$Piece" "java/lang/Object") ∈ lw_tbl := lw_at lw_m8 105 rfl
theorem in_X8 : ∀ w ∈ wsX80, w ∈ lw_all := lw_in wsX80 [967, 969, 971, 973, 975, 977] (by decide +kernel) (by decide +kernel)

/-! CuttingRoom$Style -/
set_option maxRecDepth 100000
def RX9 : String := "CuttingRoom$Style"
def TX9 : u_T := fun k => match k with
  | 0 => ("CuttingRoom$Style", "parts", "Ljava/util/List;", true)
  | _ => ("CuttingRoom$Style", "made", "I", false)
def tyX9 : Nat → FieldType := fun k => match k with
  | 0 => .object "java/util/List"
  | _ => .int
abbrev wsX90 : List Cond := u_ws RX9 TX9 2
theorem nmX9 : ∀ a, a < 2 → ∀ b, b < 2 → a ≠ b → (TX9 a).2.1 ≠ (TX9 b).2.1 := by decide +kernel
theorem tyX9_ok : ∀ k, k < 2 → parseFieldDescriptor (TX9 k).2.2.1 = some (tyX9 k) := by decide +kernel
abbrev cX9_pieces : ByteArray := prog_15_method_3_code
def yX9_pieces : MethodName := ⟨RX9, "pieces", "()I"⟩
def dkwX9_pieces_1 : List UInt8 := [185, 0, 22, 2, 0, 192, 0, 26, 78, 27, 45, 182, 0, 32, 96, 60, 132, 2, 1, 167, 255, 219, 27, 172]
abbrev dktX9_pieces_1 : List UInt8 := dkwX9_pieces_1 ++ []
def dkwX9_pieces_0 : List UInt8 := [3, 60, 3, 61, 28, 42, 180, 0, 10, 185, 0, 16, 1, 0, 162, 0, 30, 42, 180, 0, 10, 28]
abbrev dktX9_pieces_0 : List UInt8 := dkwX9_pieces_0 ++ dktX9_pieces_1
theorem dksX9_pieces_0 : cX9_pieces.data.toList.drop 0 = dktX9_pieces_0 := by decide +kernel
theorem dksX9_pieces_1 : cX9_pieces.data.toList.drop 22 = dktX9_pieces_1 := dk_seg dksX9_pieces_0 22 rfl rfl
theorem dX9_pieces_0 : decode cX9_pieces 0 = .ok (.iconst 0, 1) := dk_3 (dk_at dksX9_pieces_0 0 rfl rfl)
theorem dX9_pieces_1 : decode cX9_pieces 1 = .ok (.istore_n 1, 1) := dk_60 (dk_at dksX9_pieces_0 1 rfl rfl)
theorem dX9_pieces_2 : decode cX9_pieces 2 = .ok (.iconst 0, 1) := dk_3 (dk_at dksX9_pieces_0 2 rfl rfl)
theorem dX9_pieces_3 : decode cX9_pieces 3 = .ok (.istore_n 2, 1) := dk_61 (dk_at dksX9_pieces_0 3 rfl rfl)
theorem dX9_pieces_4 : decode cX9_pieces 4 = .ok (.iload_n 2, 1) := dk_28 (dk_at dksX9_pieces_0 4 rfl rfl)
theorem dX9_pieces_5 : decode cX9_pieces 5 = .ok (.aload_n 0, 1) := dk_42 (dk_at dksX9_pieces_0 5 rfl rfl)
theorem dX9_pieces_6 : decode cX9_pieces 6 = .ok (.getfield 10, 3) := dk_180 0 10 (dk_at dksX9_pieces_0 6 rfl rfl)
theorem dX9_pieces_9 : decode cX9_pieces 9 = .ok (.invokeinterface 16 1, 5) := by decide +kernel
theorem dX9_pieces_14 : decode cX9_pieces 14 = .ok (.if_icmp .ge 30, 3) := dk_162 0 30 (dk_at dksX9_pieces_0 14 rfl rfl)
theorem dX9_pieces_17 : decode cX9_pieces 17 = .ok (.aload_n 0, 1) := dk_42 (dk_at dksX9_pieces_0 17 rfl rfl)
theorem dX9_pieces_18 : decode cX9_pieces 18 = .ok (.getfield 10, 3) := dk_180 0 10 (dk_at dksX9_pieces_0 18 rfl rfl)
theorem dX9_pieces_21 : decode cX9_pieces 21 = .ok (.iload_n 2, 1) := dk_28 (dk_at dksX9_pieces_0 21 rfl rfl)
theorem dX9_pieces_22 : decode cX9_pieces 22 = .ok (.invokeinterface 22 2, 5) := by decide +kernel
theorem dX9_pieces_27 : decode cX9_pieces 27 = .ok (.checkcast 26, 3) := dk_192 0 26 (dk_at dksX9_pieces_1 5 rfl rfl)
theorem dX9_pieces_30 : decode cX9_pieces 30 = .ok (.astore_n 3, 1) := dk_78 (dk_at dksX9_pieces_1 8 rfl rfl)
theorem dX9_pieces_31 : decode cX9_pieces 31 = .ok (.iload_n 1, 1) := dk_27 (dk_at dksX9_pieces_1 9 rfl rfl)
theorem dX9_pieces_32 : decode cX9_pieces 32 = .ok (.aload_n 3, 1) := dk_45 (dk_at dksX9_pieces_1 10 rfl rfl)
theorem dX9_pieces_33 : decode cX9_pieces 33 = .ok (.invokevirtual 32, 3) := dk_182 0 32 (dk_at dksX9_pieces_1 11 rfl rfl)
theorem dX9_pieces_36 : decode cX9_pieces 36 = .ok (.iadd, 1) := dk_96 (dk_at dksX9_pieces_1 14 rfl rfl)
theorem dX9_pieces_37 : decode cX9_pieces 37 = .ok (.istore_n 1, 1) := dk_60 (dk_at dksX9_pieces_1 15 rfl rfl)
theorem dX9_pieces_38 : decode cX9_pieces 38 = .ok (.iinc 2 1, 3) := dk_132 2 1 (dk_at dksX9_pieces_1 16 rfl rfl)
theorem dX9_pieces_41 : decode cX9_pieces 41 = .ok (.goto (-37), 3) := dk_167 255 219 (dk_at dksX9_pieces_1 19 rfl rfl)
theorem dX9_pieces_44 : decode cX9_pieces 44 = .ok (.iload_n 1, 1) := dk_27 (dk_at dksX9_pieces_1 22 rfl rfl)
theorem dX9_pieces_45 : decode cX9_pieces 45 = .ok (.ireturn, 1) := dk_172 (dk_at dksX9_pieces_1 23 rfl rfl)
abbrev cX9_init : ByteArray := prog_15_method_1_code
def yX9_init : MethodName := ⟨RX9, "<init>", "()V"⟩
def dkwX9_init_0 : List UInt8 := [42, 183, 0, 1, 42, 187, 0, 7, 89, 183, 0, 9, 181, 0, 10, 177]
abbrev dktX9_init_0 : List UInt8 := dkwX9_init_0 ++ []
theorem dksX9_init_0 : cX9_init.data.toList.drop 0 = dktX9_init_0 := by decide +kernel
theorem dX9_init_0 : decode cX9_init 0 = .ok (.aload_n 0, 1) := dk_42 (dk_at dksX9_init_0 0 rfl rfl)
theorem dX9_init_1 : decode cX9_init 1 = .ok (.invokespecial 1, 3) := dk_183 0 1 (dk_at dksX9_init_0 1 rfl rfl)
theorem dX9_init_4 : decode cX9_init 4 = .ok (.aload_n 0, 1) := dk_42 (dk_at dksX9_init_0 4 rfl rfl)
theorem dX9_init_5 : decode cX9_init 5 = .ok (.new 7, 3) := dk_187 0 7 (dk_at dksX9_init_0 5 rfl rfl)
theorem dX9_init_8 : decode cX9_init 8 = .ok (.dup, 1) := dk_89 (dk_at dksX9_init_0 8 rfl rfl)
theorem dX9_init_9 : decode cX9_init 9 = .ok (.invokespecial 9, 3) := dk_183 0 9 (dk_at dksX9_init_0 9 rfl rfl)
theorem dX9_init_12 : decode cX9_init 12 = .ok (.putfield 10, 3) := dk_181 0 10 (dk_at dksX9_init_0 12 rfl rfl)
theorem dX9_init_15 : decode cX9_init 15 = .ok (.return_, 1) := dk_177 (dk_at dksX9_init_0 15 rfl rfl)
abbrev cX9_hasShape : ByteArray := prog_15_method_2_code
def yX9_hasShape : MethodName := ⟨RX9, "hasShape", "(LCuttingRoom$Shape;)Z"⟩
def dkwX9_hasShape_2 : List UInt8 := [167, 255, 216, 3, 172]
abbrev dktX9_hasShape_2 : List UInt8 := dkwX9_hasShape_2 ++ []
def dkwX9_hasShape_1 : List UInt8 := [185, 0, 22, 2, 0, 192, 0, 26, 78, 45, 180, 0, 28, 43, 166, 0, 5, 4, 172, 132, 2, 1]
abbrev dktX9_hasShape_1 : List UInt8 := dkwX9_hasShape_1 ++ dktX9_hasShape_2
def dkwX9_hasShape_0 : List UInt8 := [3, 61, 28, 42, 180, 0, 10, 185, 0, 16, 1, 0, 162, 0, 33, 42, 180, 0, 10, 28]
abbrev dktX9_hasShape_0 : List UInt8 := dkwX9_hasShape_0 ++ dktX9_hasShape_1
theorem dksX9_hasShape_0 : cX9_hasShape.data.toList.drop 0 = dktX9_hasShape_0 := by decide +kernel
theorem dksX9_hasShape_1 : cX9_hasShape.data.toList.drop 20 = dktX9_hasShape_1 := dk_seg dksX9_hasShape_0 20 rfl rfl
theorem dksX9_hasShape_2 : cX9_hasShape.data.toList.drop 42 = dktX9_hasShape_2 := dk_seg dksX9_hasShape_1 22 rfl rfl
theorem dX9_hasShape_0 : decode cX9_hasShape 0 = .ok (.iconst 0, 1) := dk_3 (dk_at dksX9_hasShape_0 0 rfl rfl)
theorem dX9_hasShape_1 : decode cX9_hasShape 1 = .ok (.istore_n 2, 1) := dk_61 (dk_at dksX9_hasShape_0 1 rfl rfl)
theorem dX9_hasShape_2 : decode cX9_hasShape 2 = .ok (.iload_n 2, 1) := dk_28 (dk_at dksX9_hasShape_0 2 rfl rfl)
theorem dX9_hasShape_3 : decode cX9_hasShape 3 = .ok (.aload_n 0, 1) := dk_42 (dk_at dksX9_hasShape_0 3 rfl rfl)
theorem dX9_hasShape_4 : decode cX9_hasShape 4 = .ok (.getfield 10, 3) := dk_180 0 10 (dk_at dksX9_hasShape_0 4 rfl rfl)
theorem dX9_hasShape_7 : decode cX9_hasShape 7 = .ok (.invokeinterface 16 1, 5) := by decide +kernel
theorem dX9_hasShape_12 : decode cX9_hasShape 12 = .ok (.if_icmp .ge 33, 3) := dk_162 0 33 (dk_at dksX9_hasShape_0 12 rfl rfl)
theorem dX9_hasShape_15 : decode cX9_hasShape 15 = .ok (.aload_n 0, 1) := dk_42 (dk_at dksX9_hasShape_0 15 rfl rfl)
theorem dX9_hasShape_16 : decode cX9_hasShape 16 = .ok (.getfield 10, 3) := dk_180 0 10 (dk_at dksX9_hasShape_0 16 rfl rfl)
theorem dX9_hasShape_19 : decode cX9_hasShape 19 = .ok (.iload_n 2, 1) := dk_28 (dk_at dksX9_hasShape_0 19 rfl rfl)
theorem dX9_hasShape_20 : decode cX9_hasShape 20 = .ok (.invokeinterface 22 2, 5) := by decide +kernel
theorem dX9_hasShape_25 : decode cX9_hasShape 25 = .ok (.checkcast 26, 3) := dk_192 0 26 (dk_at dksX9_hasShape_1 5 rfl rfl)
theorem dX9_hasShape_28 : decode cX9_hasShape 28 = .ok (.astore_n 3, 1) := dk_78 (dk_at dksX9_hasShape_1 8 rfl rfl)
theorem dX9_hasShape_29 : decode cX9_hasShape 29 = .ok (.aload_n 3, 1) := dk_45 (dk_at dksX9_hasShape_1 9 rfl rfl)
theorem dX9_hasShape_30 : decode cX9_hasShape 30 = .ok (.getfield 28, 3) := dk_180 0 28 (dk_at dksX9_hasShape_1 10 rfl rfl)
theorem dX9_hasShape_33 : decode cX9_hasShape 33 = .ok (.aload_n 1, 1) := dk_43 (dk_at dksX9_hasShape_1 13 rfl rfl)
theorem dX9_hasShape_34 : decode cX9_hasShape 34 = .ok (.if_acmp .ne 5, 3) := dk_166 0 5 (dk_at dksX9_hasShape_1 14 rfl rfl)
theorem dX9_hasShape_37 : decode cX9_hasShape 37 = .ok (.iconst 1, 1) := dk_4 (dk_at dksX9_hasShape_1 17 rfl rfl)
theorem dX9_hasShape_38 : decode cX9_hasShape 38 = .ok (.ireturn, 1) := dk_172 (dk_at dksX9_hasShape_1 18 rfl rfl)
theorem dX9_hasShape_39 : decode cX9_hasShape 39 = .ok (.iinc 2 1, 3) := dk_132 2 1 (dk_at dksX9_hasShape_1 19 rfl rfl)
theorem dX9_hasShape_42 : decode cX9_hasShape 42 = .ok (.goto (-40), 3) := dk_167 255 216 (dk_at dksX9_hasShape_2 0 rfl rfl)
theorem dX9_hasShape_45 : decode cX9_hasShape 45 = .ok (.iconst 0, 1) := dk_3 (dk_at dksX9_hasShape_2 3 rfl rfl)
theorem dX9_hasShape_46 : decode cX9_hasShape 46 = .ok (.ireturn, 1) := dk_172 (dk_at dksX9_hasShape_2 4 rfl rfl)
abbrev cX9_canMake : ByteArray := prog_15_method_4_code
def yX9_canMake : MethodName := ⟨RX9, "canMake", "()I"⟩
def dkwX9_canMake_3 : List UInt8 := [180, 0, 28, 45, 180, 0, 35, 182, 0, 39, 184, 0, 45, 60, 132, 2, 1, 167, 255, 210, 27, 172]
abbrev dktX9_canMake_3 : List UInt8 := dkwX9_canMake_3 ++ []
def dkwX9_canMake_2 : List UInt8 := [185, 0, 16, 1, 0, 162, 0, 39, 42, 180, 0, 10, 28, 185, 0, 22, 2, 0, 192, 0, 26, 78, 27, 45]
abbrev dktX9_canMake_2 : List UInt8 := dkwX9_canMake_2 ++ dktX9_canMake_3
def dkwX9_canMake_1 : List UInt8 := [185, 0, 22, 2, 0, 192, 0, 26, 180, 0, 35, 182, 0, 39, 60, 3, 61, 28, 42, 180, 0, 10]
abbrev dktX9_canMake_1 : List UInt8 := dkwX9_canMake_1 ++ dktX9_canMake_2
def dkwX9_canMake_0 : List UInt8 := [42, 180, 0, 10, 3, 185, 0, 22, 2, 0, 192, 0, 26, 180, 0, 28, 42, 180, 0, 10, 3]
abbrev dktX9_canMake_0 : List UInt8 := dkwX9_canMake_0 ++ dktX9_canMake_1
theorem dksX9_canMake_0 : cX9_canMake.data.toList.drop 0 = dktX9_canMake_0 := by decide +kernel
theorem dksX9_canMake_1 : cX9_canMake.data.toList.drop 21 = dktX9_canMake_1 := dk_seg dksX9_canMake_0 21 rfl rfl
theorem dksX9_canMake_2 : cX9_canMake.data.toList.drop 43 = dktX9_canMake_2 := dk_seg dksX9_canMake_1 22 rfl rfl
theorem dksX9_canMake_3 : cX9_canMake.data.toList.drop 67 = dktX9_canMake_3 := dk_seg dksX9_canMake_2 24 rfl rfl
theorem dX9_canMake_0 : decode cX9_canMake 0 = .ok (.aload_n 0, 1) := dk_42 (dk_at dksX9_canMake_0 0 rfl rfl)
theorem dX9_canMake_1 : decode cX9_canMake 1 = .ok (.getfield 10, 3) := dk_180 0 10 (dk_at dksX9_canMake_0 1 rfl rfl)
theorem dX9_canMake_4 : decode cX9_canMake 4 = .ok (.iconst 0, 1) := dk_3 (dk_at dksX9_canMake_0 4 rfl rfl)
theorem dX9_canMake_5 : decode cX9_canMake 5 = .ok (.invokeinterface 22 2, 5) := by decide +kernel
theorem dX9_canMake_10 : decode cX9_canMake 10 = .ok (.checkcast 26, 3) := dk_192 0 26 (dk_at dksX9_canMake_0 10 rfl rfl)
theorem dX9_canMake_13 : decode cX9_canMake 13 = .ok (.getfield 28, 3) := dk_180 0 28 (dk_at dksX9_canMake_0 13 rfl rfl)
theorem dX9_canMake_16 : decode cX9_canMake 16 = .ok (.aload_n 0, 1) := dk_42 (dk_at dksX9_canMake_0 16 rfl rfl)
theorem dX9_canMake_17 : decode cX9_canMake 17 = .ok (.getfield 10, 3) := dk_180 0 10 (dk_at dksX9_canMake_0 17 rfl rfl)
theorem dX9_canMake_20 : decode cX9_canMake 20 = .ok (.iconst 0, 1) := dk_3 (dk_at dksX9_canMake_0 20 rfl rfl)
theorem dX9_canMake_21 : decode cX9_canMake 21 = .ok (.invokeinterface 22 2, 5) := by decide +kernel
theorem dX9_canMake_26 : decode cX9_canMake 26 = .ok (.checkcast 26, 3) := dk_192 0 26 (dk_at dksX9_canMake_1 5 rfl rfl)
theorem dX9_canMake_29 : decode cX9_canMake 29 = .ok (.getfield 35, 3) := dk_180 0 35 (dk_at dksX9_canMake_1 8 rfl rfl)
theorem dX9_canMake_32 : decode cX9_canMake 32 = .ok (.invokevirtual 39, 3) := dk_182 0 39 (dk_at dksX9_canMake_1 11 rfl rfl)
theorem dX9_canMake_35 : decode cX9_canMake 35 = .ok (.istore_n 1, 1) := dk_60 (dk_at dksX9_canMake_1 14 rfl rfl)
theorem dX9_canMake_36 : decode cX9_canMake 36 = .ok (.iconst 0, 1) := dk_3 (dk_at dksX9_canMake_1 15 rfl rfl)
theorem dX9_canMake_37 : decode cX9_canMake 37 = .ok (.istore_n 2, 1) := dk_61 (dk_at dksX9_canMake_1 16 rfl rfl)
theorem dX9_canMake_38 : decode cX9_canMake 38 = .ok (.iload_n 2, 1) := dk_28 (dk_at dksX9_canMake_1 17 rfl rfl)
theorem dX9_canMake_39 : decode cX9_canMake 39 = .ok (.aload_n 0, 1) := dk_42 (dk_at dksX9_canMake_1 18 rfl rfl)
theorem dX9_canMake_40 : decode cX9_canMake 40 = .ok (.getfield 10, 3) := dk_180 0 10 (dk_at dksX9_canMake_1 19 rfl rfl)
theorem dX9_canMake_43 : decode cX9_canMake 43 = .ok (.invokeinterface 16 1, 5) := by decide +kernel
theorem dX9_canMake_48 : decode cX9_canMake 48 = .ok (.if_icmp .ge 39, 3) := dk_162 0 39 (dk_at dksX9_canMake_2 5 rfl rfl)
theorem dX9_canMake_51 : decode cX9_canMake 51 = .ok (.aload_n 0, 1) := dk_42 (dk_at dksX9_canMake_2 8 rfl rfl)
theorem dX9_canMake_52 : decode cX9_canMake 52 = .ok (.getfield 10, 3) := dk_180 0 10 (dk_at dksX9_canMake_2 9 rfl rfl)
theorem dX9_canMake_55 : decode cX9_canMake 55 = .ok (.iload_n 2, 1) := dk_28 (dk_at dksX9_canMake_2 12 rfl rfl)
theorem dX9_canMake_56 : decode cX9_canMake 56 = .ok (.invokeinterface 22 2, 5) := by decide +kernel
theorem dX9_canMake_61 : decode cX9_canMake 61 = .ok (.checkcast 26, 3) := dk_192 0 26 (dk_at dksX9_canMake_2 18 rfl rfl)
theorem dX9_canMake_64 : decode cX9_canMake 64 = .ok (.astore_n 3, 1) := dk_78 (dk_at dksX9_canMake_2 21 rfl rfl)
theorem dX9_canMake_65 : decode cX9_canMake 65 = .ok (.iload_n 1, 1) := dk_27 (dk_at dksX9_canMake_2 22 rfl rfl)
theorem dX9_canMake_66 : decode cX9_canMake 66 = .ok (.aload_n 3, 1) := dk_45 (dk_at dksX9_canMake_2 23 rfl rfl)
theorem dX9_canMake_67 : decode cX9_canMake 67 = .ok (.getfield 28, 3) := dk_180 0 28 (dk_at dksX9_canMake_3 0 rfl rfl)
theorem dX9_canMake_70 : decode cX9_canMake 70 = .ok (.aload_n 3, 1) := dk_45 (dk_at dksX9_canMake_3 3 rfl rfl)
theorem dX9_canMake_71 : decode cX9_canMake 71 = .ok (.getfield 35, 3) := dk_180 0 35 (dk_at dksX9_canMake_3 4 rfl rfl)
theorem dX9_canMake_74 : decode cX9_canMake 74 = .ok (.invokevirtual 39, 3) := dk_182 0 39 (dk_at dksX9_canMake_3 7 rfl rfl)
theorem dX9_canMake_77 : decode cX9_canMake 77 = .ok (.invokestatic 45, 3) := dk_184 0 45 (dk_at dksX9_canMake_3 10 rfl rfl)
theorem dX9_canMake_80 : decode cX9_canMake 80 = .ok (.istore_n 1, 1) := dk_60 (dk_at dksX9_canMake_3 13 rfl rfl)
theorem dX9_canMake_81 : decode cX9_canMake 81 = .ok (.iinc 2 1, 3) := dk_132 2 1 (dk_at dksX9_canMake_3 14 rfl rfl)
theorem dX9_canMake_84 : decode cX9_canMake 84 = .ok (.goto (-46), 3) := dk_167 255 210 (dk_at dksX9_canMake_3 17 rfl rfl)
theorem dX9_canMake_87 : decode cX9_canMake 87 = .ok (.iload_n 1, 1) := dk_27 (dk_at dksX9_canMake_3 20 rfl rfl)
theorem dX9_canMake_88 : decode cX9_canMake 88 = .ok (.ireturn, 1) := dk_172 (dk_at dksX9_canMake_3 21 rfl rfl)
abbrev cX9_take : ByteArray := prog_15_method_5_code
def yX9_take : MethodName := ⟨RX9, "take", "(I)V"⟩
def dkwX9_take_2 : List UInt8 := [132, 2, 1, 167, 255, 213, 177]
abbrev dktX9_take_2 : List UInt8 := dkwX9_take_2 ++ []
def dkwX9_take_1 : List UInt8 := [185, 0, 22, 2, 0, 192, 0, 26, 78, 45, 180, 0, 28, 45, 180, 0, 35, 27, 104, 182, 0, 51]
abbrev dktX9_take_1 : List UInt8 := dkwX9_take_1 ++ dktX9_take_2
def dkwX9_take_0 : List UInt8 := [3, 61, 28, 42, 180, 0, 10, 185, 0, 16, 1, 0, 162, 0, 36, 42, 180, 0, 10, 28]
abbrev dktX9_take_0 : List UInt8 := dkwX9_take_0 ++ dktX9_take_1
theorem dksX9_take_0 : cX9_take.data.toList.drop 0 = dktX9_take_0 := by decide +kernel
theorem dksX9_take_1 : cX9_take.data.toList.drop 20 = dktX9_take_1 := dk_seg dksX9_take_0 20 rfl rfl
theorem dksX9_take_2 : cX9_take.data.toList.drop 42 = dktX9_take_2 := dk_seg dksX9_take_1 22 rfl rfl
theorem dX9_take_0 : decode cX9_take 0 = .ok (.iconst 0, 1) := dk_3 (dk_at dksX9_take_0 0 rfl rfl)
theorem dX9_take_1 : decode cX9_take 1 = .ok (.istore_n 2, 1) := dk_61 (dk_at dksX9_take_0 1 rfl rfl)
theorem dX9_take_2 : decode cX9_take 2 = .ok (.iload_n 2, 1) := dk_28 (dk_at dksX9_take_0 2 rfl rfl)
theorem dX9_take_3 : decode cX9_take 3 = .ok (.aload_n 0, 1) := dk_42 (dk_at dksX9_take_0 3 rfl rfl)
theorem dX9_take_4 : decode cX9_take 4 = .ok (.getfield 10, 3) := dk_180 0 10 (dk_at dksX9_take_0 4 rfl rfl)
theorem dX9_take_7 : decode cX9_take 7 = .ok (.invokeinterface 16 1, 5) := by decide +kernel
theorem dX9_take_12 : decode cX9_take 12 = .ok (.if_icmp .ge 36, 3) := dk_162 0 36 (dk_at dksX9_take_0 12 rfl rfl)
theorem dX9_take_15 : decode cX9_take 15 = .ok (.aload_n 0, 1) := dk_42 (dk_at dksX9_take_0 15 rfl rfl)
theorem dX9_take_16 : decode cX9_take 16 = .ok (.getfield 10, 3) := dk_180 0 10 (dk_at dksX9_take_0 16 rfl rfl)
theorem dX9_take_19 : decode cX9_take 19 = .ok (.iload_n 2, 1) := dk_28 (dk_at dksX9_take_0 19 rfl rfl)
theorem dX9_take_20 : decode cX9_take 20 = .ok (.invokeinterface 22 2, 5) := by decide +kernel
theorem dX9_take_25 : decode cX9_take 25 = .ok (.checkcast 26, 3) := dk_192 0 26 (dk_at dksX9_take_1 5 rfl rfl)
theorem dX9_take_28 : decode cX9_take 28 = .ok (.astore_n 3, 1) := dk_78 (dk_at dksX9_take_1 8 rfl rfl)
theorem dX9_take_29 : decode cX9_take 29 = .ok (.aload_n 3, 1) := dk_45 (dk_at dksX9_take_1 9 rfl rfl)
theorem dX9_take_30 : decode cX9_take 30 = .ok (.getfield 28, 3) := dk_180 0 28 (dk_at dksX9_take_1 10 rfl rfl)
theorem dX9_take_33 : decode cX9_take 33 = .ok (.aload_n 3, 1) := dk_45 (dk_at dksX9_take_1 13 rfl rfl)
theorem dX9_take_34 : decode cX9_take 34 = .ok (.getfield 35, 3) := dk_180 0 35 (dk_at dksX9_take_1 14 rfl rfl)
theorem dX9_take_37 : decode cX9_take 37 = .ok (.iload_n 1, 1) := dk_27 (dk_at dksX9_take_1 17 rfl rfl)
theorem dX9_take_38 : decode cX9_take 38 = .ok (.imul, 1) := dk_104 (dk_at dksX9_take_1 18 rfl rfl)
theorem dX9_take_39 : decode cX9_take 39 = .ok (.invokevirtual 51, 3) := dk_182 0 51 (dk_at dksX9_take_1 19 rfl rfl)
theorem dX9_take_42 : decode cX9_take 42 = .ok (.iinc 2 1, 3) := dk_132 2 1 (dk_at dksX9_take_2 0 rfl rfl)
theorem dX9_take_45 : decode cX9_take 45 = .ok (.goto (-43), 3) := dk_167 255 213 (dk_at dksX9_take_2 3 rfl rfl)
theorem dX9_take_48 : decode cX9_take 48 = .ok (.return_, 1) := dk_177 (dk_at dksX9_take_2 6 rfl rfl)
theorem q95 : (Jvm.Cond.initialized "CuttingRoom$Style") ∈ lw_all := lw_g (lw_at lw_m1 30 rfl) rfl
theorem q529 : (Jvm.Cond.instanceMethod ({ cls := "CuttingRoom$Style", name := "pieces", desc := "()I" } : Jvm.MethodName)) ∈ lw_all := lw_g (lw_at lw_m2 224 rfl) rfl
theorem q530 : (Jvm.Cond.selects "CuttingRoom$Style" ({ cls := "CuttingRoom$Style", name := "pieces", desc := "()I" } : Jvm.MethodName) ({ cls := "CuttingRoom$Style", name := "pieces", desc := "()I" } : Jvm.MethodName)) ∈ lw_all := lw_g (lw_at lw_m2 225 rfl) rfl
theorem q531 : (Jvm.Cond.code ({ cls := "CuttingRoom$Style", name := "pieces", desc := "()I" } : Jvm.MethodName) prog_15_method_3_code (4 : Nat) (Option.some Jvm.ClassFile.FieldType.int)) ∈ lw_all := lw_g (lw_at lw_m2 226 rfl) rfl
theorem q532 : (Jvm.Cond.interfaceEntry "CuttingRoom$Style" (16 : Nat)) ∈ lw_tbl := lw_at lw_m2 227 rfl
theorem q533 : (Jvm.Cond.methodLink "CuttingRoom$Style" (16 : Nat) ({ cls := "java/util/List", name := "size", desc := "()I" } : Jvm.MethodName)) ∈ lw_all := lw_g (lw_at lw_m2 228 rfl) rfl
theorem q534 : (Jvm.Cond.interfaceEntry "CuttingRoom$Style" (22 : Nat)) ∈ lw_tbl := lw_at lw_m2 229 rfl
theorem q535 : (Jvm.Cond.methodLink "CuttingRoom$Style" (22 : Nat) ({ cls := "java/util/List", name := "get", desc := "(I)Ljava/lang/Object;" } : Jvm.MethodName)) ∈ lw_all := lw_g (lw_at lw_m2 230 rfl) rfl
theorem q536 : (Jvm.Cond.classLink "CuttingRoom$Style" (26 : Nat) "CuttingRoom$Part") ∈ lw_all := lw_g (lw_at lw_m2 231 rfl) rfl
theorem q537 : (Jvm.Cond.methodLink "CuttingRoom$Style" (32 : Nat) ({ cls := "CuttingRoom$Part", name := "pieces", desc := "()I" } : Jvm.MethodName)) ∈ lw_all := lw_g (lw_at lw_m2 232 rfl) rfl
theorem q793 : (Jvm.Cond.selects "CuttingRoom$Style" ({ cls := "java/lang/Object", name := "getClass", desc := "()Ljava/lang/Class;" } : Jvm.MethodName) ({ cls := "java/lang/Object", name := "getClass", desc := "()Ljava/lang/Class;" } : Jvm.MethodName)) ∈ lw_all := lw_g (lw_at lw_m4 8 rfl) rfl
theorem q1038 : (Jvm.Cond.selects "CuttingRoom$Style" ({ cls := "java/lang/Object", name := "equals", desc := "(Ljava/lang/Object;)Z" } : Jvm.MethodName) ({ cls := "java/lang/Object", name := "equals", desc := "(Ljava/lang/Object;)Z" } : Jvm.MethodName)) ∈ lw_all := lw_g (lw_at lw_m5 13 rfl) rfl
theorem q1115 : (Jvm.Cond.instantiable "CuttingRoom$Style" (2 : Nat)) ∈ lw_all := lw_g (lw_at lw_m5 90 rfl) rfl
theorem q1117 : (Jvm.Cond.instanceMethod ({ cls := "CuttingRoom$Style", name := "<init>", desc := "()V" } : Jvm.MethodName)) ∈ lw_all := lw_g (lw_at lw_m5 92 rfl) rfl
theorem q1118 : (Jvm.Cond.code ({ cls := "CuttingRoom$Style", name := "<init>", desc := "()V" } : Jvm.MethodName) prog_15_method_1_code (1 : Nat) (Option.none : Option Jvm.ClassFile.FieldType)) ∈ lw_all := lw_g (lw_at lw_m5 93 rfl) rfl
theorem q1119 : (Jvm.Cond.methodLink "CuttingRoom$Style" (1 : Nat) ({ cls := "java/lang/Object", name := "<init>", desc := "()V" } : Jvm.MethodName)) ∈ lw_all := lw_g (lw_at lw_m5 94 rfl) rfl
theorem q1120 : (Jvm.Cond.classLink "CuttingRoom$Style" (7 : Nat) "java/util/ArrayList") ∈ lw_all := lw_g (lw_at lw_m5 95 rfl) rfl
theorem q1121 : (Jvm.Cond.methodLink "CuttingRoom$Style" (9 : Nat) ({ cls := "java/util/ArrayList", name := "<init>", desc := "()V" } : Jvm.MethodName)) ∈ lw_all := lw_g (lw_at lw_m5 96 rfl) rfl
theorem q1122 : (Jvm.Cond.fieldLink "CuttingRoom$Style" (10 : Nat) "CuttingRoom$Style" "parts" "Ljava/util/List;") ∈ lw_all := lw_g (lw_at lw_m5 97 rfl) rfl
theorem q1125 : (Jvm.Cond.laysFinal "CuttingRoom$Style" "CuttingRoom$Style" "parts" "Ljava/util/List;") ∈ lw_all := lw_g (lw_at lw_m5 100 rfl) rfl
theorem q1126 : (Jvm.Cond.soleField "CuttingRoom$Style" "parts") ∈ lw_all := lw_g (lw_at lw_m5 101 rfl) rfl
theorem q1127 : (Jvm.Cond.lays "CuttingRoom$Style" "CuttingRoom$Style" "made" "I") ∈ lw_all := lw_g (lw_at lw_m5 102 rfl) rfl
theorem q1128 : (Jvm.Cond.soleField "CuttingRoom$Style" "made") ∈ lw_all := lw_g (lw_at lw_m5 103 rfl) rfl
theorem q1129 : (Jvm.Cond.superclass "CuttingRoom$Style" "java/lang/Object") ∈ lw_all := lw_g (lw_at lw_m5 104 rfl) rfl
theorem q1142 : (Jvm.Cond.instanceMethod ({ cls := "CuttingRoom$Style", name := "hasShape", desc := "(LCuttingRoom$Shape;)Z" } : Jvm.MethodName)) ∈ lw_all := lw_g (lw_at lw_m5 117 rfl) rfl
theorem q1143 : (Jvm.Cond.selects "CuttingRoom$Style" ({ cls := "CuttingRoom$Style", name := "hasShape", desc := "(LCuttingRoom$Shape;)Z" } : Jvm.MethodName) ({ cls := "CuttingRoom$Style", name := "hasShape", desc := "(LCuttingRoom$Shape;)Z" } : Jvm.MethodName)) ∈ lw_all := lw_g (lw_at lw_m5 118 rfl) rfl
theorem q1144 : (Jvm.Cond.code ({ cls := "CuttingRoom$Style", name := "hasShape", desc := "(LCuttingRoom$Shape;)Z" } : Jvm.MethodName) prog_15_method_2_code (4 : Nat) (Option.some Jvm.ClassFile.FieldType.boolean)) ∈ lw_all := lw_g (lw_at lw_m5 119 rfl) rfl
theorem q1152 : (Jvm.Cond.fieldLinkNest "CuttingRoom$Style" (28 : Nat) "CuttingRoom$Part" "shape" "LCuttingRoom$Shape;" "CuttingRoom") ∈ lw_tbl := lw_at lw_m5 127 rfl
theorem q1155 : (Jvm.Cond.fieldLinkNest "CuttingRoom$Style" (35 : Nat) "CuttingRoom$Part" "count" "I" "CuttingRoom") ∈ lw_tbl := lw_at lw_m5 130 rfl
theorem q1297 : (Jvm.Cond.instanceMethod ({ cls := "CuttingRoom$Style", name := "canMake", desc := "()I" } : Jvm.MethodName)) ∈ lw_all := lw_g (lw_at lw_m6 32 rfl) rfl
theorem q1298 : (Jvm.Cond.selects "CuttingRoom$Style" ({ cls := "CuttingRoom$Style", name := "canMake", desc := "()I" } : Jvm.MethodName) ({ cls := "CuttingRoom$Style", name := "canMake", desc := "()I" } : Jvm.MethodName)) ∈ lw_all := lw_g (lw_at lw_m6 33 rfl) rfl
theorem q1299 : (Jvm.Cond.code ({ cls := "CuttingRoom$Style", name := "canMake", desc := "()I" } : Jvm.MethodName) prog_15_method_4_code (4 : Nat) (Option.some Jvm.ClassFile.FieldType.int)) ∈ lw_all := lw_g (lw_at lw_m6 34 rfl) rfl
theorem q1300 : (Jvm.Cond.methodLink "CuttingRoom$Style" (39 : Nat) ({ cls := "CuttingRoom$Shape", name := "enoughFor", desc := "(I)I" } : Jvm.MethodName)) ∈ lw_all := lw_g (lw_at lw_m6 35 rfl) rfl
theorem q1305 : (Jvm.Cond.methodLink "CuttingRoom$Style" (45 : Nat) ({ cls := "java/lang/Math", name := "min", desc := "(II)I" } : Jvm.MethodName)) ∈ lw_all := lw_g (lw_at lw_m6 40 rfl) rfl
theorem q1325 : (Jvm.Cond.instanceMethod ({ cls := "CuttingRoom$Style", name := "take", desc := "(I)V" } : Jvm.MethodName)) ∈ lw_all := lw_g (lw_at lw_m6 60 rfl) rfl
theorem q1326 : (Jvm.Cond.selects "CuttingRoom$Style" ({ cls := "CuttingRoom$Style", name := "take", desc := "(I)V" } : Jvm.MethodName) ({ cls := "CuttingRoom$Style", name := "take", desc := "(I)V" } : Jvm.MethodName)) ∈ lw_all := lw_g (lw_at lw_m6 61 rfl) rfl
theorem q1327 : (Jvm.Cond.code ({ cls := "CuttingRoom$Style", name := "take", desc := "(I)V" } : Jvm.MethodName) prog_15_method_5_code (4 : Nat) (Option.none : Option Jvm.ClassFile.FieldType)) ∈ lw_all := lw_g (lw_at lw_m6 62 rfl) rfl
theorem q1328 : (Jvm.Cond.methodLink "CuttingRoom$Style" (51 : Nat) ({ cls := "CuttingRoom$Shape", name := "take", desc := "(I)V" } : Jvm.MethodName)) ∈ lw_all := lw_g (lw_at lw_m6 63 rfl) rfl
theorem q1852 : (Jvm.Cond.castable "CuttingRoom$Style" "java/lang/Object") ∈ lw_tbl := lw_at lw_m8 107 rfl
theorem in_X9 : ∀ w ∈ wsX90, w ∈ lw_all := lw_in wsX90 [1125, 1127] (by decide +kernel) (by decide +kernel)
