/-! PURE 2: a step of a tree, one lemma per kind of instruction (printed by mkpur2.py) -/
set_option maxRecDepth 100000
section
variable {K : gK} {d mi pc n t : Nat} {ls : gL} {st r : List Value} {G : gH} {A B : Option gO}
theorem g_push {v : Value} (h : gP K mi pc = o_push v n) (k : gle A (gRn K d mi n (ls) (v :: st) G)) : gle (A) (gRn K d mi pc ls (st) G) := by
  exact gle.st (by rw [h]; rfl) k
theorem g_goto (h : gP K mi pc = o_goto n) (k : gle A (gRn K d mi n (ls) (st) G)) : gle (A) (gRn K d mi pc ls (st) G) := by
  exact gle.st (by rw [h]; rfl) k
theorem g_iload {i : Nat} {x : Int32} (h : gP K mi pc = o_iload i n) (hl : ls[i]? = some (some (.int x))) (k : gle A (gRn K d mi n (ls) (.int x :: st) G)) : gle (A) (gRn K d mi pc ls (st) G) := by
  exact gle.st (by rw [h]; unfold o_iload; rw [hl]) k
theorem g_lload {i : Nat} {x : Int64} (h : gP K mi pc = o_lload i n) (hl : ls[i]? = some (some (.long x))) (k : gle A (gRn K d mi n (ls) (.long x :: st) G)) : gle (A) (gRn K d mi pc ls (st) G) := by
  exact gle.st (by rw [h]; unfold o_lload; rw [hl]) k
theorem g_fload {i : Nat} {x : UInt32} (h : gP K mi pc = o_fload i n) (hl : ls[i]? = some (some (.float x))) (k : gle A (gRn K d mi n (ls) (.float x :: st) G)) : gle (A) (gRn K d mi pc ls (st) G) := by
  exact gle.st (by rw [h]; unfold o_fload; rw [hl]) k
theorem g_dload {i : Nat} {x : UInt64} (h : gP K mi pc = o_dload i n) (hl : ls[i]? = some (some (.double x))) (k : gle A (gRn K d mi n (ls) (.double x :: st) G)) : gle (A) (gRn K d mi pc ls (st) G) := by
  exact gle.st (by rw [h]; unfold o_dload; rw [hl]) k
theorem g_aload {i : Nat} {x : Nat} (h : gP K mi pc = o_aload i n) (hl : ls[i]? = some (some (.ref x))) (k : gle A (gRn K d mi n (ls) (.ref x :: st) G)) : gle (A) (gRn K d mi pc ls (st) G) := by
  exact gle.st (by rw [h]; unfold o_aload; rw [hl]) k
theorem g_aloadN {i : Nat} (h : gP K mi pc = o_aload i n) (hl : ls[i]? = some (some .null)) (k : gle A (gRn K d mi n (ls) (.null :: st) G)) : gle (A) (gRn K d mi pc ls (st) G) := by
  exact gle.st (by rw [h]; unfold o_aload; rw [hl]) k
theorem g_istore {i : Nat} {x : Int32} (h : gP K mi pc = o_istore i n) (k : gle A (gRn K d mi n (ls.set i (some (.int x))) (r) G)) : gle (A) (gRn K d mi pc ls (.int x :: r) G) := by
  exact gle.st (by rw [h]; rfl) k
theorem g_fstore {i : Nat} {x : UInt32} (h : gP K mi pc = o_fstore i n) (k : gle A (gRn K d mi n (ls.set i (some (.float x))) (r) G)) : gle (A) (gRn K d mi pc ls (.float x :: r) G) := by
  exact gle.st (by rw [h]; rfl) k
theorem g_astore {i : Nat} {x : Nat} (h : gP K mi pc = o_astore i n) (k : gle A (gRn K d mi n (ls.set i (some (.ref x))) (r) G)) : gle (A) (gRn K d mi pc ls (.ref x :: r) G) := by
  exact gle.st (by rw [h]; rfl) k
theorem g_astoreN {i : Nat} (h : gP K mi pc = o_astore i n) (k : gle A (gRn K d mi n (ls.set i (some .null)) (r) G)) : gle (A) (gRn K d mi pc ls (.null :: r) G) := by
  exact gle.st (by rw [h]; rfl) k
theorem g_lstore {i : Nat} {x : Int64} (h : gP K mi pc = o_lstore i n) (k : gle A (gRn K d mi n ((ls.set i (some (.long x))).set (i + 1) none) (r) G)) : gle (A) (gRn K d mi pc ls (.long x :: r) G) := by
  exact gle.st (by rw [h]; rfl) k
theorem g_dstore {i : Nat} {x : UInt64} (h : gP K mi pc = o_dstore i n) (k : gle A (gRn K d mi n ((ls.set i (some (.double x))).set (i + 1) none) (r) G)) : gle (A) (gRn K d mi pc ls (.double x :: r) G) := by
  exact gle.st (by rw [h]; rfl) k
theorem g_iinc {i : Nat} {c x : Int32} (h : gP K mi pc = o_iinc i c n) (hl : ls[i]? = some (some (.int x))) (k : gle A (gRn K d mi n (ls.set i (some (.int (x + c)))) (st) G)) : gle (A) (gRn K d mi pc ls (st) G) := by
  exact gle.st (by rw [h]; unfold o_iinc; rw [hl]) k
theorem g_iadd {x y : Int32} (h : gP K mi pc = o_iadd n) (k : gle A (gRn K d mi n (ls) (.int (x + y) :: r) G)) : gle (A) (gRn K d mi pc ls (.int y :: .int x :: r) G) := by
  exact gle.st (by rw [h]; rfl) k
theorem g_isub {x y : Int32} (h : gP K mi pc = o_isub n) (k : gle A (gRn K d mi n (ls) (.int (x - y) :: r) G)) : gle (A) (gRn K d mi pc ls (.int y :: .int x :: r) G) := by
  exact gle.st (by rw [h]; rfl) k
theorem g_imul {x y : Int32} (h : gP K mi pc = o_imul n) (k : gle A (gRn K d mi n (ls) (.int (x * y) :: r) G)) : gle (A) (gRn K d mi pc ls (.int y :: .int x :: r) G) := by
  exact gle.st (by rw [h]; rfl) k
theorem g_iand {x y : Int32} (h : gP K mi pc = o_iand n) (k : gle A (gRn K d mi n (ls) (.int (x &&& y) :: r) G)) : gle (A) (gRn K d mi pc ls (.int y :: .int x :: r) G) := by
  exact gle.st (by rw [h]; rfl) k
theorem g_ior {x y : Int32} (h : gP K mi pc = o_ior n) (k : gle A (gRn K d mi n (ls) (.int (x ||| y) :: r) G)) : gle (A) (gRn K d mi pc ls (.int y :: .int x :: r) G) := by
  exact gle.st (by rw [h]; rfl) k
theorem g_ixor {x y : Int32} (h : gP K mi pc = o_ixor n) (k : gle A (gRn K d mi n (ls) (.int (x ^^^ y) :: r) G)) : gle (A) (gRn K d mi pc ls (.int y :: .int x :: r) G) := by
  exact gle.st (by rw [h]; rfl) k
theorem g_ishl {x y : Int32} (h : gP K mi pc = o_ishl n) (k : gle A (gRn K d mi n (ls) (.int (x <<< (y &&& 31)) :: r) G)) : gle (A) (gRn K d mi pc ls (.int y :: .int x :: r) G) := by
  exact gle.st (by rw [h]; rfl) k
theorem g_ishr {x y : Int32} (h : gP K mi pc = o_ishr n) (k : gle A (gRn K d mi n (ls) (.int (x >>> (y &&& 31)) :: r) G)) : gle (A) (gRn K d mi pc ls (.int y :: .int x :: r) G) := by
  exact gle.st (by rw [h]; rfl) k
theorem g_idiv {x y : Int32} (h : gP K mi pc = o_idiv n) (k : ¬ y = 0 → gle A (gRn K d mi n (ls) (.int (x / y) :: r) G)) : gle (if y = 0 then none else A) (gRn K d mi pc ls (.int y :: .int x :: r) G) := by
  exact gle.ite _ (fun _ => gle.no) (fun hc => gle.st (by rw [h]; unfold o_idiv; dsimp only; rw [if_neg hc]) (k hc))
theorem g_irem {x y : Int32} (h : gP K mi pc = o_irem n) (k : ¬ y = 0 → gle A (gRn K d mi n (ls) (.int (x - x / y * y) :: r) G)) : gle (if y = 0 then none else A) (gRn K d mi pc ls (.int y :: .int x :: r) G) := by
  exact gle.ite _ (fun _ => gle.no) (fun hc => gle.st (by rw [h]; unfold o_irem; dsimp only; rw [if_neg hc]) (k hc))
theorem g_ladd {x y : Int64} (h : gP K mi pc = o_ladd n) (k : gle A (gRn K d mi n (ls) (.long (x + y) :: r) G)) : gle (A) (gRn K d mi pc ls (.long y :: .long x :: r) G) := by
  exact gle.st (by rw [h]; rfl) k
theorem g_lmul {x y : Int64} (h : gP K mi pc = o_lmul n) (k : gle A (gRn K d mi n (ls) (.long (x * y) :: r) G)) : gle (A) (gRn K d mi pc ls (.long y :: .long x :: r) G) := by
  exact gle.st (by rw [h]; rfl) k
theorem g_lcmp {x y : Int64} (h : gP K mi pc = o_lcmp n) (k : gle A (gRn K d mi n (ls) (.int (lg_cmp x y) :: r) G)) : gle (A) (gRn K d mi pc ls (.long y :: .long x :: r) G) := by
  exact gle.st (by rw [h]; rfl) k
theorem g_i2l {x : Int32} (h : gP K mi pc = o_i2l n) (k : gle A (gRn K d mi n (ls) (.long x.toInt64 :: r) G)) : gle (A) (gRn K d mi pc ls (.int x :: r) G) := by
  exact gle.st (by rw [h]; rfl) k
theorem g_i2c {x : Int32} (h : gP K mi pc = o_i2c n) (k : gle A (gRn K d mi n (ls) (.int (x.toUInt32 % 65536).toInt32 :: r) G)) : gle (A) (gRn K d mi pc ls (.int x :: r) G) := by
  exact gle.st (by rw [h]; rfl) k
theorem g_i2f {x : Int32} (h : gP K mi pc = o_i2f n) (k : gle A (gRn K d mi n (ls) (.float (FP.i2f x) :: r) G)) : gle (A) (gRn K d mi pc ls (.int x :: r) G) := by
  exact gle.st (by rw [h]; rfl) k
theorem g_i2d {x : Int32} (h : gP K mi pc = o_i2d n) (k : gle A (gRn K d mi n (ls) (.double (FP.i2d x) :: r) G)) : gle (A) (gRn K d mi pc ls (.int x :: r) G) := by
  exact gle.st (by rw [h]; rfl) k
theorem g_f2d {x : UInt32} (h : gP K mi pc = o_f2d n) (k : (FP.f2d x) &&& 0x7fffffffffffffff ≤ 0x7ff0000000000000 → gle A (gRn K d mi n (ls) (.double (FP.f2d x) :: r) G)) : gle (if (FP.f2d x) &&& 0x7fffffffffffffff ≤ 0x7ff0000000000000 then A else none) (gRn K d mi pc ls (.float x :: r) G) := by
  exact gle.ite _ (fun hc => gle.st (by rw [h]; unfold o_f2d; dsimp only; rw [if_pos hc]) (k hc)) (fun _ => gle.no)
theorem g_fdiv {x y : UInt32} (h : gP K mi pc = o_fdiv n) (k : (FP.fdiv x y) &&& 0x7fffffff ≤ 0x7f800000 → gle A (gRn K d mi n (ls) (.float (FP.fdiv x y) :: r) G)) : gle (if (FP.fdiv x y) &&& 0x7fffffff ≤ 0x7f800000 then A else none) (gRn K d mi pc ls (.float y :: .float x :: r) G) := by
  exact gle.ite _ (fun hc => gle.st (by rw [h]; unfold o_fdiv; dsimp only; rw [if_pos hc]) (k hc)) (fun _ => gle.no)
theorem g_ddiv {x y : UInt64} (h : gP K mi pc = o_ddiv n) (k : (FP.ddiv x y) &&& 0x7fffffffffffffff ≤ 0x7ff0000000000000 → gle A (gRn K d mi n (ls) (.double (FP.ddiv x y) :: r) G)) : gle (if (FP.ddiv x y) &&& 0x7fffffffffffffff ≤ 0x7ff0000000000000 then A else none) (gRn K d mi pc ls (.double y :: .double x :: r) G) := by
  exact gle.ite _ (fun hc => gle.st (by rw [h]; unfold o_ddiv; dsimp only; rw [if_pos hc]) (k hc)) (fun _ => gle.no)
theorem g_fcmp {op : CmpOp} {x y : UInt32} (h : gP K mi pc = o_fcmp op n) (k : gle A (gRn K d mi n (ls) (.int (Op.cmpValue (FP.fcmp x y) op) :: r) G)) : gle (A) (gRn K d mi pc ls (.float y :: .float x :: r) G) := by
  exact gle.st (by rw [h]; rfl) k
theorem g_dcmp {op : CmpOp} {x y : UInt64} (h : gP K mi pc = o_dcmp op n) (k : gle A (gRn K d mi n (ls) (.int (Op.cmpValue (FP.dcmp x y) op) :: r) G)) : gle (A) (gRn K d mi pc ls (.double y :: .double x :: r) G) := by
  exact gle.st (by rw [h]; rfl) k
theorem g_dup_int {x : Int32} (h : gP K mi pc = o_dup n) (k : gle A (gRn K d mi n (ls) (.int x :: .int x :: r) G)) : gle (A) (gRn K d mi pc ls (.int x :: r) G) := by
  exact gle.st (by rw [h]; rfl) k
theorem g_pop_int {x : Int32} (h : gP K mi pc = o_pop n) (k : gle A (gRn K d mi n (ls) (r) G)) : gle (A) (gRn K d mi pc ls (.int x :: r) G) := by
  exact gle.st (by rw [h]; rfl) k
theorem g_dup_x1_int {x : Int32} {a : Nat} (h : gP K mi pc = o_dup_x1 n) (k : gle A (gRn K d mi n (ls) (.int x :: .ref a :: .int x :: r) G)) : gle (A) (gRn K d mi pc ls (.int x :: .ref a :: r) G) := by
  exact gle.st (by rw [h]; rfl) k
theorem g_dup_ref {x : Nat} (h : gP K mi pc = o_dup n) (k : gle A (gRn K d mi n (ls) (.ref x :: .ref x :: r) G)) : gle (A) (gRn K d mi pc ls (.ref x :: r) G) := by
  exact gle.st (by rw [h]; rfl) k
theorem g_pop_ref {x : Nat} (h : gP K mi pc = o_pop n) (k : gle A (gRn K d mi n (ls) (r) G)) : gle (A) (gRn K d mi pc ls (.ref x :: r) G) := by
  exact gle.st (by rw [h]; rfl) k
theorem g_dup_x1_ref {x : Nat} {a : Nat} (h : gP K mi pc = o_dup_x1 n) (k : gle A (gRn K d mi n (ls) (.ref x :: .ref a :: .ref x :: r) G)) : gle (A) (gRn K d mi pc ls (.ref x :: .ref a :: r) G) := by
  exact gle.st (by rw [h]; rfl) k
theorem g_dup2 {x : Int32} {a : Nat} (h : gP K mi pc = o_dup2 n) (k : gle A (gRn K d mi n (ls) (.int x :: .ref a :: .int x :: .ref a :: r) G)) : gle (A) (gRn K d mi pc ls (.int x :: .ref a :: r) G) := by
  exact gle.st (by rw [h]; rfl) k
theorem g_ifeq {x : Int32} (h : gP K mi pc = o_ifeq t n) (k1 : x = 0 → gle A (gRn K d mi t (ls) (r) G)) (k2 : ¬ (x = 0) → gle B (gRn K d mi n ls r G)) : gle (if x = 0 then A else B) (gRn K d mi pc ls (.int x :: r) G) := by
  refine gle.ite _ (fun hc => gle.st ?_ (k1 hc)) (fun hc => gle.st ?_ (k2 hc))
  · rw [h]; unfold o_ifeq; dsimp only; rw [if_pos hc]
  · rw [h]; unfold o_ifeq; dsimp only; rw [if_neg hc]
theorem g_ifne {x : Int32} (h : gP K mi pc = o_ifne t n) (k1 : x = 0 → gle A (gRn K d mi n (ls) (r) G)) (k2 : ¬ (x = 0) → gle B (gRn K d mi t ls r G)) : gle (if x = 0 then A else B) (gRn K d mi pc ls (.int x :: r) G) := by
  refine gle.ite _ (fun hc => gle.st ?_ (k1 hc)) (fun hc => gle.st ?_ (k2 hc))
  · rw [h]; unfold o_ifne; dsimp only; rw [if_pos hc]
  · rw [h]; unfold o_ifne; dsimp only; rw [if_neg hc]
theorem g_iflt {x : Int32} (h : gP K mi pc = o_iflt t n) (k1 : x < 0 → gle A (gRn K d mi t (ls) (r) G)) (k2 : ¬ (x < 0) → gle B (gRn K d mi n ls r G)) : gle (if x < 0 then A else B) (gRn K d mi pc ls (.int x :: r) G) := by
  refine gle.ite _ (fun hc => gle.st ?_ (k1 hc)) (fun hc => gle.st ?_ (k2 hc))
  · rw [h]; unfold o_iflt; dsimp only; rw [if_pos hc]
  · rw [h]; unfold o_iflt; dsimp only; rw [if_neg hc]
theorem g_ifge {x : Int32} (h : gP K mi pc = o_ifge t n) (k1 : 0 ≤ x → gle A (gRn K d mi t (ls) (r) G)) (k2 : ¬ (0 ≤ x) → gle B (gRn K d mi n ls r G)) : gle (if 0 ≤ x then A else B) (gRn K d mi pc ls (.int x :: r) G) := by
  refine gle.ite _ (fun hc => gle.st ?_ (k1 hc)) (fun hc => gle.st ?_ (k2 hc))
  · rw [h]; unfold o_ifge; dsimp only; rw [if_pos hc]
  · rw [h]; unfold o_ifge; dsimp only; rw [if_neg hc]
theorem g_ifgt {x : Int32} (h : gP K mi pc = o_ifgt t n) (k1 : 0 < x → gle A (gRn K d mi t (ls) (r) G)) (k2 : ¬ (0 < x) → gle B (gRn K d mi n ls r G)) : gle (if 0 < x then A else B) (gRn K d mi pc ls (.int x :: r) G) := by
  refine gle.ite _ (fun hc => gle.st ?_ (k1 hc)) (fun hc => gle.st ?_ (k2 hc))
  · rw [h]; unfold o_ifgt; dsimp only; rw [if_pos hc]
  · rw [h]; unfold o_ifgt; dsimp only; rw [if_neg hc]
theorem g_ifle {x : Int32} (h : gP K mi pc = o_ifle t n) (k1 : x ≤ 0 → gle A (gRn K d mi t (ls) (r) G)) (k2 : ¬ (x ≤ 0) → gle B (gRn K d mi n ls r G)) : gle (if x ≤ 0 then A else B) (gRn K d mi pc ls (.int x :: r) G) := by
  refine gle.ite _ (fun hc => gle.st ?_ (k1 hc)) (fun hc => gle.st ?_ (k2 hc))
  · rw [h]; unfold o_ifle; dsimp only; rw [if_pos hc]
  · rw [h]; unfold o_ifle; dsimp only; rw [if_neg hc]
theorem g_cmpeq {x y : Int32} (h : gP K mi pc = o_cmpeq t n) (k1 : x = y → gle A (gRn K d mi t (ls) (r) G)) (k2 : ¬ (x = y) → gle B (gRn K d mi n ls r G)) : gle (if x = y then A else B) (gRn K d mi pc ls (.int y :: .int x :: r) G) := by
  refine gle.ite _ (fun hc => gle.st ?_ (k1 hc)) (fun hc => gle.st ?_ (k2 hc))
  · rw [h]; unfold o_cmpeq; dsimp only; rw [if_pos hc]
  · rw [h]; unfold o_cmpeq; dsimp only; rw [if_neg hc]
theorem g_cmpne {x y : Int32} (h : gP K mi pc = o_cmpne t n) (k1 : x = y → gle A (gRn K d mi n (ls) (r) G)) (k2 : ¬ (x = y) → gle B (gRn K d mi t ls r G)) : gle (if x = y then A else B) (gRn K d mi pc ls (.int y :: .int x :: r) G) := by
  refine gle.ite _ (fun hc => gle.st ?_ (k1 hc)) (fun hc => gle.st ?_ (k2 hc))
  · rw [h]; unfold o_cmpne; dsimp only; rw [if_pos hc]
  · rw [h]; unfold o_cmpne; dsimp only; rw [if_neg hc]
theorem g_cmplt {x y : Int32} (h : gP K mi pc = o_cmplt t n) (k1 : x < y → gle A (gRn K d mi t (ls) (r) G)) (k2 : ¬ (x < y) → gle B (gRn K d mi n ls r G)) : gle (if x < y then A else B) (gRn K d mi pc ls (.int y :: .int x :: r) G) := by
  refine gle.ite _ (fun hc => gle.st ?_ (k1 hc)) (fun hc => gle.st ?_ (k2 hc))
  · rw [h]; unfold o_cmplt; dsimp only; rw [if_pos hc]
  · rw [h]; unfold o_cmplt; dsimp only; rw [if_neg hc]
theorem g_cmpge {x y : Int32} (h : gP K mi pc = o_cmpge t n) (k1 : y ≤ x → gle A (gRn K d mi t (ls) (r) G)) (k2 : ¬ (y ≤ x) → gle B (gRn K d mi n ls r G)) : gle (if y ≤ x then A else B) (gRn K d mi pc ls (.int y :: .int x :: r) G) := by
  refine gle.ite _ (fun hc => gle.st ?_ (k1 hc)) (fun hc => gle.st ?_ (k2 hc))
  · rw [h]; unfold o_cmpge; dsimp only; rw [if_pos hc]
  · rw [h]; unfold o_cmpge; dsimp only; rw [if_neg hc]
theorem g_cmpgt {x y : Int32} (h : gP K mi pc = o_cmpgt t n) (k1 : y < x → gle A (gRn K d mi t (ls) (r) G)) (k2 : ¬ (y < x) → gle B (gRn K d mi n ls r G)) : gle (if y < x then A else B) (gRn K d mi pc ls (.int y :: .int x :: r) G) := by
  refine gle.ite _ (fun hc => gle.st ?_ (k1 hc)) (fun hc => gle.st ?_ (k2 hc))
  · rw [h]; unfold o_cmpgt; dsimp only; rw [if_pos hc]
  · rw [h]; unfold o_cmpgt; dsimp only; rw [if_neg hc]
theorem g_cmple {x y : Int32} (h : gP K mi pc = o_cmple t n) (k1 : x ≤ y → gle A (gRn K d mi t (ls) (r) G)) (k2 : ¬ (x ≤ y) → gle B (gRn K d mi n ls r G)) : gle (if x ≤ y then A else B) (gRn K d mi pc ls (.int y :: .int x :: r) G) := by
  refine gle.ite _ (fun hc => gle.st ?_ (k1 hc)) (fun hc => gle.st ?_ (k2 hc))
  · rw [h]; unfold o_cmple; dsimp only; rw [if_pos hc]
  · rw [h]; unfold o_cmple; dsimp only; rw [if_neg hc]
theorem g_acmpne {a b : Nat} (h : gP K mi pc = o_acmpne t n) (k1 : a = b → gle A (gRn K d mi n (ls) (r) G)) (k2 : ¬ (a = b) → gle B (gRn K d mi t ls r G)) : gle (if a = b then A else B) (gRn K d mi pc ls (.ref b :: .ref a :: r) G) := by
  refine gle.ite _ (fun hc => gle.st ?_ (k1 hc)) (fun hc => gle.st ?_ (k2 hc))
  · rw [h]; unfold o_acmpne; dsimp only; rw [if_pos hc]
  · rw [h]; unfold o_acmpne; dsimp only; rw [if_neg hc]
theorem g_acmpeq {a b : Nat} (h : gP K mi pc = o_acmpeq t n) (k1 : a = b → gle A (gRn K d mi t (ls) (r) G)) (k2 : ¬ (a = b) → gle B (gRn K d mi n ls r G)) : gle (if a = b then A else B) (gRn K d mi pc ls (.ref b :: .ref a :: r) G) := by
  refine gle.ite _ (fun hc => gle.st ?_ (k1 hc)) (fun hc => gle.st ?_ (k2 hc))
  · rw [h]; unfold o_acmpeq; dsimp only; rw [if_pos hc]
  · rw [h]; unfold o_acmpeq; dsimp only; rw [if_neg hc]
theorem g_ifnonnull {a : Nat} (h : gP K mi pc = o_ifnonnull t n) (k : gle A (gRn K d mi t (ls) (r) G)) : gle (A) (gRn K d mi pc ls (.ref a :: r) G) := by
  exact gle.st (by rw [h]; rfl) k
theorem g_ifnonnullN (h : gP K mi pc = o_ifnonnull t n) (k : gle A (gRn K d mi n (ls) (r) G)) : gle (A) (gRn K d mi pc ls (.null :: r) G) := by
  exact gle.st (by rw [h]; rfl) k
theorem g_getI {a c i : Nat} {f : Int32 → Option gO} (h : gP K mi pc = o_getf c i n) (k : ∀ v, gle (f v) (gRn K d mi n ls (.int v :: r) G)) : gle (rI G a c i f) (gRn K d mi pc ls (.ref a :: r) G) := by
  refine gle.r_I (fun v hv => gle.st ?_ (k v))
  rw [h]; unfold o_getf; dsimp only; rw [hv]
theorem g_getJ {a c i : Nat} {f : Int64 → Option gO} (h : gP K mi pc = o_getf c i n) (k : ∀ v, gle (f v) (gRn K d mi n ls (.long v :: r) G)) : gle (rJ G a c i f) (gRn K d mi pc ls (.ref a :: r) G) := by
  refine gle.r_J (fun v hv => gle.st ?_ (k v))
  rw [h]; unfold o_getf; dsimp only; rw [hv]
theorem g_getR {a c i : Nat} {f : Nat → Option gO} (h : gP K mi pc = o_getf c i n) (k : ∀ v, gle (f v) (gRn K d mi n ls (.ref v :: r) G)) : gle (rR G a c i f) (gRn K d mi pc ls (.ref a :: r) G) := by
  refine gle.r_R (fun v hv => gle.st ?_ (k v))
  rw [h]; unfold o_getf; dsimp only; rw [hv]
theorem g_iald {a : Nat} {i : Int32} {f : Int32 → Option gO} (h : gP K mi pc = o_iald t n) (k : ∀ v, gle (f v) (gRn K d mi n ls (.int v :: r) G)) : gle (xI G a t i f) (gRn K d mi pc ls (.int i :: .ref a :: r) G) := by
  refine gle.x_I (fun v hv => gle.st ?_ (k v))
  rw [h]; unfold o_iald; dsimp only; rw [hv]
theorem g_aald {a : Nat} {i : Int32} {f : Nat → Option gO} (h : gP K mi pc = o_aald t n) (k : ∀ v, gle (f v) (gRn K d mi n ls (.ref v :: r) G)) : gle (xQ G a t i f) (gRn K d mi pc ls (.int i :: .ref a :: r) G) := by
  refine gle.x_Q (fun v hv => gle.st ?_ (k v))
  rw [h]; unfold o_aald; dsimp only; rw [hv]; rfl
theorem g_lald {a : Nat} {i : Int32} {f : Int64 → Option gO} (h : gP K mi pc = o_lald n) (k : ∀ v, gle (f v) (gRn K d mi n ls (.long v :: r) G)) : gle (xJ G a i f) (gRn K d mi pc ls (.int i :: .ref a :: r) G) := by
  unfold xJ
  split
  · rename_i v hv
    refine gle.st ?_ (k v)
    rw [h]; unfold o_lald; dsimp only; rw [hv]
  · exact gle.no
theorem g_dald {a : Nat} {i : Int32} {f : UInt64 → Option gO} (h : gP K mi pc = o_dald n) (k : ∀ v, gle (f v) (gRn K d mi n ls (.double v :: r) G)) : gle (xD G a i f) (gRn K d mi pc ls (.int i :: .ref a :: r) G) := by
  unfold xD
  split
  · rename_i v hv
    refine gle.st ?_ (k v)
    rw [h]; unfold o_dald; dsimp only; rw [hv]
  · exact gle.no
theorem g_iast {a : Nat} {i x : Int32} {f : gH → Option gO} (h : gP K mi pc = o_iast n) (k : ∀ G2, gle (f G2) (gRn K d mi n ls r G2)) : gle (yI G a 0 i x f) (gRn K d mi pc ls (.int x :: .int i :: .ref a :: r) G) := by
  unfold yI
  split
  · rename_i G2 hv
    refine gle.st ?_ (k G2)
    rw [h]; unfold o_iast; dsimp only; rw [hv]
  · exact gle.no
theorem g_zast {a : Nat} {i x : Int32} {f : gH → Option gO} (h : gP K mi pc = o_zast n) (k : ∀ G2, gle (f G2) (gRn K d mi n ls r G2)) : gle (yI G a 1 i (vp_nar .boolean x) f) (gRn K d mi pc ls (.int x :: .int i :: .ref a :: r) G) := by
  unfold yI
  split
  · rename_i G2 hv
    refine gle.st ?_ (k G2)
    rw [h]; unfold o_zast; dsimp only; rw [hv]
  · exact gle.no
theorem g_cast {a : Nat} {i x : Int32} {f : gH → Option gO} (h : gP K mi pc = o_cast n) (k : ∀ G2, gle (f G2) (gRn K d mi n ls r G2)) : gle (yI G a 2 i (vp_nar .char x) f) (gRn K d mi pc ls (.int x :: .int i :: .ref a :: r) G) := by
  unfold yI
  split
  · rename_i G2 hv
    refine gle.st ?_ (k G2)
    rw [h]; unfold o_cast; dsimp only; rw [hv]
  · exact gle.no
theorem g_last {a : Nat} {i : Int32} {x : Int64} {f : gH → Option gO} (h : gP K mi pc = o_last n) (k : ∀ G2, gle (f G2) (gRn K d mi n ls r G2)) : gle (yJ G a i x f) (gRn K d mi pc ls (.long x :: .int i :: .ref a :: r) G) := by
  unfold yJ
  split
  · rename_i G2 hv
    refine gle.st ?_ (k G2)
    rw [h]; unfold o_last; dsimp only; rw [hv]
  · exact gle.no
theorem g_dast {a : Nat} {i : Int32} {x : UInt64} {f : gH → Option gO} (h : gP K mi pc = o_dast n) (k : ∀ G2, gle (f G2) (gRn K d mi n ls r G2)) : gle (yD G a i x f) (gRn K d mi pc ls (.double x :: .int i :: .ref a :: r) G) := by
  unfold yD
  split
  · rename_i G2 hv
    refine gle.st ?_ (k G2)
    rw [h]; unfold o_dast; dsimp only; rw [hv]
  · exact gle.no
theorem g_putf {a c i : Nat} {v : Value} {ty : FieldType} {f : gH → Option gO} (h : gP K mi pc = o_putf c i ty n) (k : ∀ G2, gle (f G2) (gRn K d mi n ls r G2)) : gle (if narrow ty v = v ∧ fits ty v = true then wF G a c i v f else none) (gRn K d mi pc ls (v :: .ref a :: r) G) := by
  refine gle.ite _ (fun hc => gle.w_F (fun G2 hv => gle.st ?_ (k G2))) (fun _ => gle.no)
  rw [h]; unfold o_putf; dsimp only; rw [if_pos hc, hv]
theorem g_iret {x : Int32} (h : gP K mi pc = o_iret) : gle (some (.inl (some (.int x)), G)) (gRn K d mi pc ls [.int x] G) := gle.fin (by rw [h]; rfl)
theorem g_lret {x : Int64} (h : gP K mi pc = o_lret) : gle (some (.inl (some (.long x)), G)) (gRn K d mi pc ls [.long x] G) := gle.fin (by rw [h]; rfl)
theorem g_fret {x : UInt32} (h : gP K mi pc = o_fret) : gle (some (.inl (some (.float x)), G)) (gRn K d mi pc ls [.float x] G) := gle.fin (by rw [h]; rfl)
theorem g_dret {x : UInt64} (h : gP K mi pc = o_dret) : gle (some (.inl (some (.double x)), G)) (gRn K d mi pc ls [.double x] G) := gle.fin (by rw [h]; rfl)
theorem g_aret {x : Nat} (h : gP K mi pc = o_aret) : gle (some (.inl (some (.ref x)), G)) (gRn K d mi pc ls [.ref x] G) := gle.fin (by rw [h]; rfl)
theorem g_aretN (h : gP K mi pc = o_aret) : gle (some (.inl (some .null), G)) (gRn K d mi pc ls [.null] G) := gle.fin (by rw [h]; rfl)
theorem g_vret (h : gP K mi pc = o_vret) : gle (some (.inl none, G)) (gRn K d mi pc ls [] G) := gle.fin (by rw [h]; rfl)
theorem g_zret {x : Int32} {ty : FieldType} (h : gP K mi pc = o_zret ty) : gle (if narrow ty (.int x) = .int x then some (.inl (some (.int x)), G) else none) (gRn K d mi pc ls [.int x] G) := gle.ite _ (fun hc => gle.fin (by rw [h]; unfold o_zret; dsimp only; rw [if_pos hc])) (fun _ => gle.no)
theorem g_throw {E : Nat} (h : gP K mi pc = o_throw E) : gle (if gW st ≤ 8 then some (.inr E, gjunk G 6) else none) (gRn K d mi pc ls st G) := gle.ite _ (fun hc => gle.fin (by rw [h]; unfold o_throw; rw [if_pos hc])) (fun _ => gle.no)
end
