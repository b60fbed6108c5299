/-! PURE 4: ints as images of integers -/
set_option maxRecDepth 100000
abbrev I (z : Int) : Int32 := Int32.ofInt z
abbrev J (z : Int) : Int64 := Int64.ofInt z
theorem I_toInt {a : Int} (h1 : -2147483648 ≤ a) (h2 : a < 2147483648) : (I a).toInt = a := Int32.toInt_ofInt_of_le (by omega) (by omega)
theorem J_toInt {a : Int} (h1 : -9223372036854775808 ≤ a) (h2 : a < 9223372036854775808) : (J a).toInt = a := Int64.toInt_ofInt_of_le (by omega) (by omega)
theorem I_of (x : Int32) : I x.toInt = x := Int32.ofInt_toInt x
theorem I_lo (x : Int32) : -2147483648 ≤ x.toInt := Int32.le_toInt x
theorem I_hi (x : Int32) : x.toInt < 2147483648 := Int32.toInt_lt x
theorem I_lit (n : Nat) : (@OfNat.ofNat Int32 n Int32.instOfNat) = I (@OfNat.ofNat Int n instOfNat) := (Int32.ofInt_eq_ofNat (n := n)).symm
theorem I_neg1 : (-1 : Int32) = I (-1) := by decide
theorem I_nat (n : Nat) : Int32.ofNat n = I (n : Int) := (Int32.ofInt_eq_ofNat (n := n)).symm
theorem I_add (a b : Int) : I a + I b = I (a + b) := (Int32.ofInt_add a b).symm
theorem I_sub (a b : Int) : I a - I b = I (a - b) := (Int32.ofInt_sub a b).symm
theorem I_mul (a b : Int) : I a * I b = I (a * b) := (Int32.ofInt_mul a b).symm
theorem J_lit (n : Nat) : (@OfNat.ofNat Int64 n Int64.instOfNat) = J (@OfNat.ofNat Int n instOfNat) := (Int64.ofInt_eq_ofNat (n := n)).symm
theorem J_add (a b : Int) : J a + J b = J (a + b) := (Int64.ofInt_add a b).symm
theorem J_mul (a b : Int) : J a * J b = J (a * b) := (Int64.ofInt_mul a b).symm
theorem I_lt {a b : Int} (h1 : -2147483648 ≤ a) (h2 : a < 2147483648) (h3 : -2147483648 ≤ b) (h4 : b < 2147483648) : (I a < I b) = (a < b) := by rw [Int32.lt_iff_toInt_lt, I_toInt h1 h2, I_toInt h3 h4]
theorem I_le {a b : Int} (h1 : -2147483648 ≤ a) (h2 : a < 2147483648) (h3 : -2147483648 ≤ b) (h4 : b < 2147483648) : (I a ≤ I b) = (a ≤ b) := by rw [Int32.le_iff_toInt_le, I_toInt h1 h2, I_toInt h3 h4]
theorem I_eq {a b : Int} (h1 : -2147483648 ≤ a) (h2 : a < 2147483648) (h3 : -2147483648 ≤ b) (h4 : b < 2147483648) : (I a = I b) = (a = b) := by rw [← Int32.toInt_inj, I_toInt h1 h2, I_toInt h3 h4]
theorem I_ltT {a b : Int} (h : -2147483648 ≤ a ∧ a < b ∧ b < 2147483648) : (I a < I b) = True := by rw [I_lt (by omega) (by omega) (by omega) (by omega)]; exact eq_true h.2.1
theorem I_ltF {a b : Int} (h : -2147483648 ≤ b ∧ b ≤ a ∧ a < 2147483648) : (I a < I b) = False := by rw [I_lt (by omega) (by omega) (by omega) (by omega)]; exact eq_false (by omega)
theorem I_leT {a b : Int} (h : -2147483648 ≤ a ∧ a ≤ b ∧ b < 2147483648) : (I a ≤ I b) = True := by rw [I_le (by omega) (by omega) (by omega) (by omega)]; exact eq_true h.2.1
theorem I_leF {a b : Int} (h : -2147483648 ≤ b ∧ b < a ∧ a < 2147483648) : (I a ≤ I b) = False := by rw [I_le (by omega) (by omega) (by omega) (by omega)]; exact eq_false (by omega)
theorem I_eqT {a b : Int} (h : a = b) : (I a = I b) = True := by rw [h]; exact eq_true rfl
theorem I_eqF {a b : Int} (h : -2147483648 ≤ a ∧ a < 2147483648 ∧ -2147483648 ≤ b ∧ b < 2147483648 ∧ a ≠ b) : (I a = I b) = False := by rw [I_eq (by omega) (by omega) (by omega) (by omega)]; exact eq_false (by omega)
theorem I_cn {a : Int} (h1 : -2147483648 ≤ a) (h2 : a < 2147483648) : (I a).toNatClampNeg = a.toNat := Int32.toNatClampNeg_ofInt_of_le (by omega) (by omega)
theorem I_max : Int32.maxValue.toInt = 2147483647 := by decide
theorem I_min : Int32.minValue.toInt = -2147483648 := by decide
theorem I_tdiv {a b : Int} (h1 : -2147483648 ≤ a) (h2 : a < 2147483648) (h3 : -2147483648 ≤ b) (h4 : b < 2147483648) : I a / I b = I (a.tdiv b) := by
  refine (Int32.ofInt_tdiv ?_ ?_ ?_ ?_).symm
  · rw [I_min]; exact h1
  · rw [I_max]; omega
  · rw [I_min]; exact h3
  · rw [I_max]; omega
theorem I_div {a b : Int} (h1 : 0 ≤ a) (h2 : a < 2147483648) (h3 : 0 ≤ b) (h4 : b < 2147483648) : I a / I b = I (a / b) := by rw [I_tdiv (by omega) h2 (by omega) h4, Int.tdiv_eq_ediv_of_nonneg h1]
theorem I_rem {a b : Int} (h1 : 0 ≤ a) (h2 : a < 2147483648) (h3 : 0 ≤ b) (h4 : b < 2147483648) : I a - I a / I b * I b = I (a % b) := by
  rw [I_div h1 h2 h3 h4, I_mul, I_sub]
  congr 1
  have := Int.emod_add_mul_ediv a b
  rw [Int.mul_comm (a / b) b]
  omega
theorem I_remS {a b : Int} (h1 : -2147483648 ≤ a) (h2 : a < 2147483648) (h3 : -2147483648 ≤ b) (h4 : b < 2147483648) : I a - I a / I b * I b = I (a.tmod b) := by
  rw [I_tdiv h1 h2 h3 h4, I_mul, I_sub]
  congr 1
  have := Int.tmod_add_mul_tdiv a b
  rw [Int.mul_comm (a.tdiv b) b]
  omega
theorem I_narI (z : Int) : narrow .int (.int (I z)) = .int (I z) := rfl
theorem IJ {a : Int} (h1 : -2147483648 ≤ a) (h2 : a < 2147483648) : (I a).toInt64 = J a := Int32.toInt64_ofInt (by rw [I_min]; exact h1) (by rw [I_max]; omega)
theorem c_int (v : Int32) : (narrow .int (.int v) = .int v ∧ fits .int (.int v) = true) = True := eq_true ⟨rfl, rfl⟩
theorem c_long (v : Int64) : (narrow .long (.long v) = .long v ∧ fits .long (.long v) = true) = True := eq_true ⟨rfl, rfl⟩
theorem c_obj (n : String) (v : Nat) : (narrow (.object n) (.ref v) = .ref v ∧ fits (.object n) (.ref v) = true) = True := eq_true ⟨rfl, rfl⟩
theorem c_arr (n : FieldType) (v : Nat) : (narrow (.array n) (.ref v) = .ref v ∧ fits (.array n) (.ref v) = true) = True := eq_true ⟨rfl, rfl⟩
theorem c_bool {z : Int} (h : 0 ≤ z ∧ z ≤ 1) : (narrow .boolean (.int (I z)) = .int (I z) ∧ fits .boolean (.int (I z)) = true) = True := by
  rcases (show z = 0 ∨ z = 1 by omega) with rfl | rfl <;> decide
theorem c_boolN {z : Int} (h : 0 ≤ z ∧ z ≤ 1) : (narrow .boolean (.int (I z)) = .int (I z)) = True := by
  rcases (show z = 0 ∨ z = 1 by omega) with rfl | rfl <;> decide
theorem vn_bool {z : Int} (h : 0 ≤ z ∧ z ≤ 1) : vp_nar .boolean (I z) = I z := by
  rcases (show z = 0 ∨ z = 1 by omega) with rfl | rfl <;> decide
theorem I_u16 {z : Int} (h : 0 ≤ z ∧ z < 65536) : (I z).toUInt32.toUInt16.toUInt32.toInt32 = I z := by
  obtain ⟨n, rfl⟩ : ∃ n : Nat, z = n := ⟨z.toNat, by omega⟩
  have hn : n < 65536 := by omega
  apply Int32.toBitVec_inj.mp
  apply BitVec.eq_of_toNat_eq
  have e : (I (n : Int)).toBitVec = BitVec.ofNat 32 n := by
    show (Int32.ofInt (n : Int)).toBitVec = _
    rw [Int32.ofInt_eq_ofNat]; rfl
  show ((I (n : Int)).toUInt32.toUInt16.toUInt32).toNat = (I (n : Int)).toBitVec.toNat
  rw [UInt16.toNat_toUInt32, UInt32.toNat_toUInt16]
  show (I (n : Int)).toBitVec.toNat % 65536 = _
  rw [e, BitVec.toNat_ofNat]
  omega
theorem c_charN {z : Int} (h : 0 ≤ z ∧ z < 65536) : (narrow .char (.int (I z)) = .int (I z)) = True := by
  refine eq_true ?_
  show Value.int (I z).toUInt32.toUInt16.toUInt32.toInt32 = _
  rw [I_u16 h]
theorem vn_char {z : Int} (h : 0 ≤ z ∧ z < 65536) : vp_nar .char (I z) = I z := by
  show (I z).toUInt32.toUInt16.toUInt32.toInt32 = _
  exact I_u16 h
