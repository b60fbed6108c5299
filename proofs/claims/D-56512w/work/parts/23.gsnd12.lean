/-! SOUNDNESS 12: the lambdas' classes -/
set_option maxRecDepth 100000
def lcB : ByteArray := ⟨#[0x2a, 0xb4, 0x00, 0x0f, 0x2b, 0xb6, 0x00, 0x16, 0xac]⟩
theorem lcB0 : decode lcB 0 = .ok (.aload_n 0, 1) := by decide +kernel
theorem lcB1 : decode lcB 1 = .ok (.getfield 15, 3) := by decide +kernel
theorem lcB4 : decode lcB 4 = .ok (.aload_n 1, 1) := by decide +kernel
theorem lcB5 : decode lcB 5 = .ok (.invokevirtual 22, 3) := by decide +kernel
theorem lcB8 : decode lcB 8 = .ok (.ireturn, 1) := by decide +kernel
def lcS : ByteArray := ⟨#[0x2b, 0xb8, 0x00, 0x11, 0xac]⟩
theorem lcS0 : decode lcS 0 = .ok (.aload_n 1, 1) := by decide +kernel
theorem lcS1 : decode lcS 1 = .ok (.invokestatic 17, 3) := by decide +kernel
theorem lcS4 : decode lcS 4 = .ok (.ireturn, 1) := by decide +kernel
def lD (σ : Lambda.Shape) : ClassFile := (σ.file "CuttingRoom").getD { minorVersion := 0, majorVersion := 0, constantPool := #[], accessFlags := 0, thisClass := 0, superClass := 0, interfaces := #[], fields := #[], methods := #[], attributes := #[] }
def lfw (σ : Lambda.Shape) : Method := ((layoutMethods (lD σ)).bind (·[1]?)).getD default
def llaid (σ : Lambda.Shape) : Array Field × Array FieldType × Array FieldType := (layoutFields (lD σ) 0).getD (#[], #[], #[])
def lbs : List Lambda.Shape := [lS0, lS1, lS2, lS3, lS4]
def lss : List Lambda.Shape := [lS5, lS6]
theorem l_some : ∀ σ ∈ lbs ++ lss, (σ.file "CuttingRoom").isSome = true ∧ ((layoutMethods (lD σ)).bind (·[1]?)).isSome = true ∧ (layoutFields (lD σ) 0).isSome = true := by decide +kernel
theorem l_file {σ : Lambda.Shape} (h : σ ∈ lbs ++ lss) : σ.file "CuttingRoom" = some (lD σ) := by
  obtain ⟨x, hx⟩ := Option.isSome_iff_exists.mp (l_some σ h).1
  simp [lD, hx]
theorem l_second {σ : Lambda.Shape} (h : σ ∈ lbs ++ lss) : ∀ ms, layoutMethods (lD σ) = some ms → ms[1]? = some (lfw σ) := by
  intro ms hms
  obtain ⟨x, hx⟩ := Option.isSome_iff_exists.mp (l_some σ h).2.1
  have hf : lfw σ = x := by simp [lfw, hx]
  rw [hms] at hx
  rw [hf]
  exact hx
theorem l_laid {σ : Lambda.Shape} (h : σ ∈ lbs ++ lss) : layoutFields (lD σ) 0 = some (llaid σ) := by
  obtain ⟨x, hx⟩ := Option.isSome_iff_exists.mp (l_some σ h).2.2
  simp [llaid, hx]
theorem l_codeB : ∀ σ ∈ lbs, (lfw σ).code.map (fun c => (c.code.data, c.maxLocals)) = some (lcB.data, 2) := by decide +kernel
theorem l_codeS : ∀ σ ∈ lss, (lfw σ).code.map (fun c => (c.code.data, c.maxLocals)) = some (lcS.data, 2) := by decide +kernel
theorem l_flags : ∀ σ ∈ lbs ++ lss, ((lfw σ).accessFlags, (lfw σ).name, (lfw σ).sig.returnType) = (0x0001, "find", some FieldType.char) ∧ σ.implDesc.toString = "(LCuttingRoom$Sheet;)C" ∧ σ.implClass = "CuttingRoom" ∧ σ.iface = "CuttingRoom$Hindrance" ∧ σ.name = "find" ∧ σ.sam.toString = "(LCuttingRoom$Sheet;)C" := by decide +kernel
theorem l_eM : ∀ σ ∈ lbs, (lD σ).constantPool[22]? = some (.methodref 19 21) ∧ (lD σ).constantPool.className? 19 = some "CuttingRoom" ∧ (lD σ).constantPool.nameAndType? 21 = some (σ.implName, "(LCuttingRoom$Sheet;)C") := by decide +kernel
theorem l_eC : ∀ σ ∈ lbs, (lD σ).constantPool[19]? = some (.class_ 18) ∧ (lD σ).constantPool.string? 18 = some "CuttingRoom" ∧ 19 ≠ (lD σ).thisClass := by decide +kernel
theorem l_eF : ∀ σ ∈ lbs, (lD σ).constantPool[15]? = some (.fieldref 2 14) ∧ (lD σ).constantPool.nameAndType? 14 = some ("arg$1", "LCuttingRoom;") ∧ (llaid σ).1.findIdx? (·.name == "arg$1") = some 0 ∧ ((llaid σ).1[0]?).map (fun f => (f.isStatic, f.slot)) = some (false, 0) ∧ (llaid σ).2.1 = #[.object "CuttingRoom"] := by decide +kernel
theorem l_sM : ∀ σ ∈ lss, (lD σ).constantPool[17]? = some (.methodref 14 16) ∧ (lD σ).constantPool.className? 14 = some "CuttingRoom" ∧ (lD σ).constantPool.nameAndType? 16 = some (σ.implName, "(LCuttingRoom$Sheet;)C") := by decide +kernel
theorem l_sC : ∀ σ ∈ lss, (lD σ).constantPool[14]? = some (.class_ 13) ∧ (lD σ).constantPool.string? 13 = some "CuttingRoom" ∧ 14 ≠ (lD σ).thisClass := by decide +kernel
