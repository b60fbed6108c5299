/-! PURE 28: the quotients are numbers -/
set_option maxRecDepth 100000
theorem fp_32 : ∀ n : Fin 1001, ∃ c q, FP.Core.decode FP.Core.b32 (FP.i2f (I (n.val : Int))).toNat = .fin false c q ∧ (n.val ≠ 0 → c ≠ 0) := by
  have h : ∀ n : Fin 1001, (match FP.Core.decode FP.Core.b32 (FP.i2f (I (n.val : Int))).toNat with | .fin false c _ => decide (n.val ≠ 0 → c ≠ 0) | _ => false) = true := by decide +kernel
  intro n
  have := h n
  split at this
  · exact ⟨_, _, ‹_›, of_decide_eq_true this⟩
  · cases this
theorem fp_64 : ∀ n : Fin 1001, ∃ c q, FP.Core.decode FP.Core.b64 (FP.i2d (I (n.val : Int))).toNat = .fin false c q ∧ (n.val ≠ 0 → c ≠ 0) := by
  have h : ∀ n : Fin 1001, (match FP.Core.decode FP.Core.b64 (FP.i2d (I (n.val : Int))).toNat with | .fin false c _ => decide (n.val ≠ 0 → c ≠ 0) | _ => false) = true := by decide +kernel
  intro n
  have := h n
  split at this
  · exact ⟨_, _, ‹_›, of_decide_eq_true this⟩
  · cases this
/-- a datum that is no NaN and lies within the format -/
def fpP (f : FP.Core.Fmt) (d : FP.Core.Datum) : Prop := (∃ s, d = .inf s) ∨ ∃ s c q, d = .fin s c q ∧ c < 2 ^ f.p ∧ q ≤ f.qmax
theorem fp_bound {f : FP.Core.Fmt} {s : Bool} {c : Nat} {q : Int} (h : c < 2 ^ f.p) : fpP f (FP.Core.bound f s c q) := by
  unfold FP.Core.bound
  split
  · exact Or.inr ⟨_, _, _, rfl, h, ‹_›⟩
  · exact Or.inl ⟨_, rfl⟩
theorem fp_settle {f : FP.Core.Fmt} (ht : f.tails < 2 ^ f.p) {s : Bool} {c : Nat} {q : Int} : fpP f (FP.Core.settle f s c q) := by
  unfold FP.Core.settle
  split
  · exact fp_bound ‹_›
  · exact fp_bound ht
theorem fp_ratio {f : FP.Core.Fmt} (ht : f.tails < 2 ^ f.p) (hq : f.qmin ≤ f.qmax) {s : Bool} {a b : Nat} {e : Int} : fpP f (FP.Core.roundRatio f s a b e) := by
  unfold FP.Core.roundRatio
  split
  · exact Or.inr ⟨_, _, _, rfl, Nat.two_pow_pos _, hq⟩
  · exact fp_settle ht
theorem fp_enc32 {d : FP.Core.Datum} (h : fpP FP.Core.b32 d) : FP.Core.encode FP.Core.b32 d % 2 ^ 31 ≤ 0x7f800000 ∧ FP.Core.encode FP.Core.b32 d < 2 ^ 32 := by
  have h1 : FP.Core.b32.tails = 2 ^ 23 := by decide
  have h2 : FP.Core.b32.exps = 256 := by decide
  have h3 : FP.Core.b32.qmax - FP.Core.b32.qmin = 253 := by decide
  have h4 : FP.Core.b32.p = 24 := rfl
  rcases h with ⟨s, rfl⟩ | ⟨s, c, q, rfl, hc, hq⟩
  · unfold FP.Core.encode FP.Core.assemble
    rw [h1, h2]
    cases s <;> decide
  · have e0 : FP.Core.encode FP.Core.b32 (.fin s c q) = if c < FP.Core.b32.tails then FP.Core.assemble FP.Core.b32 s 0 c else FP.Core.assemble FP.Core.b32 s ((q - FP.Core.b32.qmin).toNat + 1) (c - FP.Core.b32.tails) := rfl
    rw [e0]
    unfold FP.Core.assemble
    rw [h4] at hc
    rw [h1, h2]
    have hs : s.toNat ≤ 1 := by cases s <;> decide
    split
    · omega
    · omega
theorem fp_enc64 {d : FP.Core.Datum} (h : fpP FP.Core.b64 d) : FP.Core.encode FP.Core.b64 d % 2 ^ 63 ≤ 0x7ff0000000000000 ∧ FP.Core.encode FP.Core.b64 d < 2 ^ 64 := by
  have h1 : FP.Core.b64.tails = 2 ^ 52 := by decide
  have h2 : FP.Core.b64.exps = 2048 := by decide
  have h3 : FP.Core.b64.qmax - FP.Core.b64.qmin = 2045 := by decide
  have h4 : FP.Core.b64.p = 53 := rfl
  rcases h with ⟨s, rfl⟩ | ⟨s, c, q, rfl, hc, hq⟩
  · unfold FP.Core.encode FP.Core.assemble
    rw [h1, h2]
    cases s <;> decide
  · have e0 : FP.Core.encode FP.Core.b64 (.fin s c q) = if c < FP.Core.b64.tails then FP.Core.assemble FP.Core.b64 s 0 c else FP.Core.assemble FP.Core.b64 s ((q - FP.Core.b64.qmin).toNat + 1) (c - FP.Core.b64.tails) := rfl
    rw [e0]
    unfold FP.Core.assemble
    rw [h4] at hc
    rw [h1, h2]
    have hs : s.toNat ≤ 1 := by cases s <;> decide
    split
    · omega
    · omega
theorem fp_and32 {n : Nat} (h1 : n % 2 ^ 31 ≤ 0x7f800000) (h2 : n < 2 ^ 32) : (UInt32.ofNat n) &&& 0x7fffffff ≤ 0x7f800000 := by
  rw [UInt32.le_iff_toNat_le, UInt32.toNat_and]
  have e1 : (UInt32.ofNat n).toNat = n := UInt32.toNat_ofNat_of_lt' h2
  have e2 : (0x7fffffff : UInt32).toNat = 2 ^ 31 - 1 := by decide
  rw [e1, e2, Nat.and_two_pow_sub_one_eq_mod]
  exact h1
theorem fp_and64 {n : Nat} (h1 : n % 2 ^ 63 ≤ 0x7ff0000000000000) (h2 : n < 2 ^ 64) : (UInt64.ofNat n) &&& 0x7fffffffffffffff ≤ 0x7ff0000000000000 := by
  rw [UInt64.le_iff_toNat_le, UInt64.toNat_and]
  have e1 : (UInt64.ofNat n).toNat = n := UInt64.toNat_ofNat_of_lt' h2
  have e2 : (0x7fffffffffffffff : UInt64).toNat = 2 ^ 63 - 1 := by decide
  rw [e1, e2, Nat.and_two_pow_sub_one_eq_mod]
  exact h1
theorem fp_dec32 {n : Nat} (h1 : n % 2 ^ 31 ≤ 0x7f800000) : FP.Core.decode FP.Core.b32 n ≠ .nan := by
  have e1 : FP.Core.b32.tails = 2 ^ 23 := by decide
  have e2 : FP.Core.b32.exps = 256 := by decide
  unfold FP.Core.decode FP.Core.fieldE FP.Core.fieldT
  rw [e1, e2]
  split
  · rw [if_pos (by omega)]
    exact fun h => by cases h
  · split
    · exact fun h => by cases h
    · exact fun h => by cases h
theorem fp_fdiv {a b : Int} (ha : 0 ≤ a ∧ a ≤ 1000) (hb : 1 ≤ b ∧ b ≤ 1000) : ∃ n, FP.fdiv (FP.i2f (I a)) (FP.i2f (I b)) = UInt32.ofNat n ∧ n % 2 ^ 31 ≤ 0x7f800000 ∧ n < 2 ^ 32 := by
  obtain ⟨c, q, h1, -⟩ := fp_32 ⟨a.toNat, by omega⟩
  obtain ⟨c', q', h2, h3⟩ := fp_32 ⟨b.toNat, by omega⟩
  dsimp only at h1 h2 h3
  rw [show ((a.toNat : Nat) : Int) = a by omega] at h1
  rw [show ((b.toNat : Nat) : Int) = b by omega] at h2
  have hc := h3 (by omega)
  refine ⟨FP.Core.div FP.Core.b32 (FP.i2f (I a)).toNat (FP.i2f (I b)).toNat, rfl, ?_⟩
  unfold FP.Core.div
  rw [h1, h2]
  unfold FP.Core.quotient
  dsimp only
  rw [if_neg hc]
  exact fp_enc32 (fp_ratio (by decide) (by decide))
theorem fp_ok32 {a b : Int} (ha : 0 ≤ a ∧ a ≤ 1000) (hb : 1 ≤ b ∧ b ≤ 1000) : (FP.fdiv (FP.i2f (I a)) (FP.i2f (I b)) &&& 0x7fffffff ≤ 0x7f800000) = True := by
  obtain ⟨n, h1, h2, h3⟩ := fp_fdiv ha hb
  rw [h1]
  exact eq_true (fp_and32 h2 h3)
theorem fp_f2d {a b : Int} (ha : 0 ≤ a ∧ a ≤ 1000) (hb : 1 ≤ b ∧ b ≤ 1000) : (FP.f2d (FP.fdiv (FP.i2f (I a)) (FP.i2f (I b))) &&& 0x7fffffffffffffff ≤ 0x7ff0000000000000) = True := by
  obtain ⟨n, h1, h2, h3⟩ := fp_fdiv ha hb
  rw [h1]
  have h4 := fp_dec32 h2
  have e : (UInt32.ofNat n).toNat = n := UInt32.toNat_ofNat_of_lt' h3
  have h5 : fpP FP.Core.b64 (FP.Core.round FP.Core.b64 (FP.Core.decode FP.Core.b32 n)) := by
    cases hd : FP.Core.decode FP.Core.b32 n with
    | nan => exact absurd hd h4
    | inf s => exact Or.inl ⟨s, rfl⟩
    | fin s c q => exact fp_ratio (by decide) (by decide)
  have h6 := fp_enc64 h5
  refine eq_true ?_
  have e7 : FP.f2d (UInt32.ofNat n) = UInt64.ofNat (FP.Core.encode FP.Core.b64 (FP.Core.round FP.Core.b64 (FP.Core.decode FP.Core.b32 n))) := by
    unfold FP.f2d FP.Core.f2d FP.Core.convert FP.Core.fIsNaN FP.Core.isNaN
    rw [e, if_neg (by simpa using h4)]
  rw [e7]
  exact fp_and64 h6.1 h6.2
theorem fp_ok64 {a b : Int} (ha : 0 ≤ a ∧ a ≤ 1000) (hb : 1 ≤ b ∧ b ≤ 1000) : (FP.ddiv (FP.i2d (I a)) (FP.i2d (I b)) &&& 0x7fffffffffffffff ≤ 0x7ff0000000000000) = True := by
  obtain ⟨c, q, h1, -⟩ := fp_64 ⟨a.toNat, by omega⟩
  obtain ⟨c', q', h2, h3⟩ := fp_64 ⟨b.toNat, by omega⟩
  dsimp only at h1 h2 h3
  rw [show ((a.toNat : Nat) : Int) = a by omega] at h1
  rw [show ((b.toNat : Nat) : Int) = b by omega] at h2
  have hc := h3 (by omega)
  have h6 : FP.Core.div FP.Core.b64 (FP.i2d (I a)).toNat (FP.i2d (I b)).toNat % 2 ^ 63 ≤ 0x7ff0000000000000 ∧ FP.Core.div FP.Core.b64 (FP.i2d (I a)).toNat (FP.i2d (I b)).toNat < 2 ^ 64 := by
    unfold FP.Core.div
    rw [h1, h2]
    unfold FP.Core.quotient
    dsimp only
    rw [if_neg hc]
    exact fp_enc64 (fp_ratio (by decide) (by decide))
  exact eq_true (fp_and64 h6.1 h6.2)
