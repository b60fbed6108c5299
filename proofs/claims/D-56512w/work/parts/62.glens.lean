/-! PURE 5: the lens: what lies at fixed places (printed by mklens.py) -/
set_option maxRecDepth 100000
/-- fields of objects, places of arrays, the one double -/
abbrev gB : Type := (Nat → Nat → Int) × (Nat → Nat → Int) × UInt64
def sI (B : gB) (o k : Nat) (v : Int) : gB := (fun o' k' => if o' = o ∧ k' = k then v else B.1 o' k', B.2.1, B.2.2)
def sA (B : gB) (o j : Nat) (v : Int) : gB := (B.1, fun o' j' => if o' = o ∧ j' = j then v else B.2.1 o' j', B.2.2)
def sD (B : gB) (v : UInt64) : gB := (B.1, B.2.1, v)
/-- a reference or null -/
def rn (z : Int) : Value := if z < 0 then .null else .ref z.toNat
def twK (o : Nat) : Nat := if o = 199 then 1 else if o = 200 then 2 else if o = 201 then 1 else if o = 202 then 1 else if o = 207 then 1 else if o = 214 then 1 else if o = 228 then 1 else 0
def twL (o : Nat) : Nat := if o = 199 then 720 else if o = 200 then 8 else if o = 201 then 8 else if o = 202 then 200 else if o = 203 then 8 else if o = 204 then 8 else if o = 205 then 8 else if o = 206 then 8 else if o = 207 then 8 else if o = 208 then 16 else if o = 209 then 40 else if o = 210 then 40 else if o = 211 then 40 else if o = 212 then 40 else if o = 213 then 40 else if o = 214 then 40 else if o = 215 then 720 else if o = 216 then 4 else if o = 217 then 4 else if o = 218 then 32 else if o = 219 then 4 else if o = 220 then 25 else if o = 221 then 25 else if o = 222 then 4 else if o = 223 then 40 else if o = 224 then 40 else if o = 225 then 40 else if o = 226 then 40 else if o = 227 then 40 else if o = 228 then 40 else 0
def bCell (K : gK) (N : Nat) (B : gB) (o : Nat) : gE :=
  if o = 0 then .inr (0, [.ref (N + 1), .ref (N + 2), .ref (N + 3), .ref (N + 4), .ref (N + 192), .ref (N + 65), .ref (N + 66), .ref (N + 129), .int (I (B.1 0 8)), .int (I (B.1 0 9)), .int (I (B.1 0 10)), .int (I (B.1 0 11)), .int (I (B.1 0 12)), .int (I (B.1 0 13)), .int (I (B.1 0 14)), .long (J (B.1 0 15))])
  else if o = 1 then .inr (12, [.int (I (B.1 1 0)), .ref (B.1 1 1).toNat, .int (I (B.1 1 2))])
  else if o = 2 then .inr (12, [.int (I (B.1 2 0)), .ref (B.1 2 1).toNat, .int (I (B.1 2 2))])
  else if o = 3 then .inr (12, [.int (I (B.1 3 0)), .ref (B.1 3 1).toNat, .int (I (B.1 3 2))])
  else if o = 4 then .inl (9, 60, gQ (fun j => if j < 60 then some (N + (5 + j)) else none))
  else if o < 65 then .inl (1, 12, .inl (fun j => I (B.2.1 o j)))
  else if o = 65 then .inr (1, [rn (B.1 65 0), .int (I (B.1 65 1)), .int (I (B.1 65 2)), .int (I (B.1 65 3)), .int (I (B.1 65 4))])
  else if o = 66 then .inr (2, [.ref (N + 67), .ref (N + 128), .int (I (B.1 66 2)), .ref N])
  else if o = 129 then .inr (2, [.ref (N + 130), .ref (N + 191), .int (I (B.1 129 2)), .ref N])
  else if o = 67 then .inl (8, 60, gQ (fun j => if j < 60 then some (N + (68 + j)) else none))
  else if o = 130 then .inl (8, 60, gQ (fun j => if j < 60 then some (N + (131 + j)) else none))
  else if o < 128 ∨ (130 < o ∧ o < 191) then .inl (0, 12, .inl (fun j => I (B.2.1 o j)))
  else if o = 128 ∨ o = 191 then .inl (0, 4, .inl (fun j => I (B.2.1 o j)))
  else if o = 192 then .inl (6, 7, gQ (fun j => if j < 5 then some (N + (193 + j)) else if j = 5 then some (K.2 4) else if j = 6 then some (K.2 5) else none))
  else if o < 198 then .inr (100 + (o - 193), [.ref N])
  else if o = 198 then .inr (3, [.int (I (B.1 198 0)), .int (I (B.1 198 1)), .int (I (B.1 198 2)), .int (I (B.1 198 3)), .int (I (B.1 198 4)), .int (I (B.1 198 5)), .ref (N + 199), .int (I (B.1 198 7)), .ref (N + 200), .ref (N + 201), .ref (N + 202), .ref (N + 203), .ref (N + 204), .ref (N + 205), .ref (N + 206), .ref (N + 207), .ref (N + 208), .int (I (B.1 198 17)), .int (I (B.1 198 18)), .ref (N + 209), .ref (N + 210), .ref (N + 211), .ref (N + 212), .ref (N + 213), .ref (N + 214), .ref (N + 215), .ref (N + 216), .ref (N + 217), .int (I (B.1 198 28)), .ref (N + 218), .ref (N + 219), .int (I (B.1 198 31)), .long (J (B.1 198 32)), .int (I (B.1 198 33)), .ref (N + 220), .ref (N + 221), .int (I (B.1 198 36)), .int (I (B.1 198 37)), .int (I (B.1 198 38)), .int (I (B.1 198 39)), .ref (N + 222), .int (I (B.1 198 41)), .ref (N + 223), .ref (N + 224), .ref (N + 225), .ref (N + 226), .ref (N + 227), .ref (N + 228), .int (I (B.1 198 48))])
  else if o < 229 then .inl (twK o, twL o, .inl (fun j => I (B.2.1 o j)))
  else if o = 229 then .inl (3, 1, gLo (fun j => J (B.2.1 229 j)))
  else .inl (4, 1, gDo (fun j => if j = 0 then B.2.2 else 0))
def hH (K : gK) (N : Nat) (G : gH) (B : gB) : gH := (fun q => if N ≤ q ∧ q < N + 231 then some (bCell K N B (q - N)) else G.1 q, G.2.1, G.2.2)
theorem ite_eq2 {c : Prop} [Decidable c] {α : Type} {a b a' b' : α} (h1 : c → a = a') (h2 : ¬ c → b = b') : ite c a b = ite c a' b' := by
  split
  · exact h1 ‹_›
  · exact h2 ‹_›
theorem bC_congr {K : gK} {N : Nat} {B B' : gB} {o : Nat} (h1 : ∀ k, B'.1 o k = B.1 o k) (h2 : ∀ j, B'.2.1 o j = B.2.1 o j) (h3 : 229 < o → B'.2.2 = B.2.2) : bCell K N B' o = bCell K N B o := by
  unfold bCell
  iterate 18 refine ite_eq2 (fun e => by first | rfl | (subst e; simp only [h1]; done) | (subst e; simp only [h2]; done) | (simp only [h2]; done)) (fun _ => ?_)
  rw [h3 (by omega)]
section
variable {K : gK} {N : Nat} {G : gH} {B : gB}
theorem hH_at {o : Nat} (h : o < 231) : (hH K N G B).1 (N + o) = some (bCell K N B o) := by
  show (if N ≤ N + o ∧ N + o < N + 231 then some (bCell K N B (N + o - N)) else G.1 (N + o)) = _
  rw [if_pos ⟨by omega, by omega⟩, Nat.add_sub_cancel_left]
theorem hH_x : (hH K N G B).1 N = some (bCell K N B 0) := hH_at (o := 0) (by omega)
theorem hH_dyn {a : Nat} (h : N + 231 ≤ a) : (hH K N G B).1 a = G.1 a := if_neg (by omega)
theorem hH_low {a : Nat} (h : a < N) : (hH K N G B).1 a = G.1 a := if_neg (by omega)
theorem hH_n : (hH K N G B).2.1 = G.2.1 := rfl
theorem hH_s : (hH K N G B).2.2 = G.2.2 := rfl
theorem gset_dyn {a : Nat} {e : gE} (h : N + 231 ≤ a) : gset (hH K N G B) a e = hH K N (gset G a e) B := by
  refine Prod.ext (funext fun q => ?_) rfl
  show (if q = a then some e else if N ≤ q ∧ q < N + 231 then some (bCell K N B (q - N)) else G.1 q) = (if N ≤ q ∧ q < N + 231 then some (bCell K N B (q - N)) else if q = a then some e else G.1 q)
  by_cases h1 : q = a
  · rw [if_pos h1, if_neg (by omega), if_pos h1]
  · rw [if_neg h1, if_neg h1]
theorem gnew_dyn {e : gE} {n : Nat} (h : N + 231 ≤ G.2.1) : gnew (hH K N G B) e n = hH K N (gnew G e n) B := by
  refine Prod.ext (funext fun q => ?_) rfl
  show (if q = G.2.1 then some e else if N ≤ q ∧ q < N + 231 then some (bCell K N B (q - N)) else G.1 q) = (if N ≤ q ∧ q < N + 231 then some (bCell K N B (q - N)) else if q = G.2.1 then some e else G.1 q)
  by_cases h1 : q = G.2.1
  · rw [if_pos h1, if_neg (by omega), if_pos h1]
  · rw [if_neg h1, if_neg h1]
theorem gjunk_hH {n : Nat} : gjunk (hH K N G B) n = hH K N (gjunk G n) B := rfl
theorem gset_hH {o : Nat} {e : gE} {B' : gB} (ho : o < 231) (he : e = bCell K N B' o) (hne : ∀ o', o' < 231 → o' ≠ o → bCell K N B' o' = bCell K N B o') : gset (hH K N G B) (N + o) e = hH K N G B' := by
  refine Prod.ext (funext fun q => ?_) rfl
  show (if q = N + o then some e else if N ≤ q ∧ q < N + 231 then some (bCell K N B (q - N)) else G.1 q) = (if N ≤ q ∧ q < N + 231 then some (bCell K N B' (q - N)) else G.1 q)
  by_cases h1 : q = N + o
  · subst h1
    rw [if_pos rfl, if_pos ⟨by omega, by omega⟩, Nat.add_sub_cancel_left, he]
  · rw [if_neg h1]
    by_cases h2 : N ≤ q ∧ q < N + 231
    · rw [if_pos h2, if_pos h2, hne _ (by omega) (by omega)]
    · rw [if_neg h2, if_neg h2]
theorem sI_hH {o k : Nat} {v : Int} {e : gE} (ho : o < 231) (he : e = bCell K N (sI B o k v) o) : gset (hH K N G B) (N + o) e = hH K N G (sI B o k v) :=
  gset_hH ho he fun o' _ h => bC_congr (fun j => if_neg (fun q => h q.1)) (fun _ => rfl) (fun _ => rfl)
theorem sA_hH {o k : Nat} {v : Int} {e : gE} (ho : o < 231) (he : e = bCell K N (sA B o k v) o) : gset (hH K N G B) (N + o) e = hH K N G (sA B o k v) :=
  gset_hH ho he fun o' _ h => bC_congr (fun _ => rfl) (fun j => if_neg (fun q => h q.1)) (fun _ => rfl)
theorem sD_hH {v : UInt64} {e : gE} (he : e = bCell K N (sD B v) 230) : gset (hH K N G B) (N + 230) e = hH K N G (sD B v) :=
  gset_hH (by omega) he fun o' _ h => bC_congr (fun _ => rfl) (fun _ => rfl) (fun h => by omega)
theorem gf_at {o c : Nat} {fs : List Value} (ho : o < 231) (h : bCell K N B o = .inr (c, fs)) (k : Nat) : g_gf (hH K N G B) (N + o) c k = fs[k]? := by
  unfold g_gf
  rw [hH_at ho, h]
  exact if_pos rfl
theorem pf_at {o c k : Nat} {fs : List Value} {w : Value} {v : Int} (ho : o < 231) (h : bCell K N B o = .inr (c, fs)) (hk : k < fs.length) (h' : bCell K N (sI B o k v) o = .inr (c, fs.set k w)) : g_pf (hH K N G B) (N + o) c k w = some (hH K N G (sI B o k v)) := by
  unfold g_pf
  rw [hH_at ho, h]
  show (if c = c ∧ k < fs.length then some _ else none) = _
  rw [if_pos ⟨rfl, hk⟩, sI_hH ho h'.symm]
theorem ia_at {o t n : Nat} {z : Int} (ho : o < 231) (h : bCell K N B o = .inl (t, n, .inl (fun j => I (B.2.1 o j)))) (hz : 0 ≤ z ∧ z < n) (hn : n ≤ 1000) : g_ia (hH K N G B) (N + o) t (I z) = some (I (B.2.1 o z.toNat)) := by
  unfold g_ia
  rw [hH_at ho, h]
  show (if t = t ∧ ¬ (I z < 0 ∨ n ≤ (I z).toNatClampNeg) then some _ else none) = _
  rw [I_cn (by omega) (by omega), if_pos]
  refine ⟨rfl, ?_⟩
  rw [show (0 : Int32) = I 0 from I_lit 0, I_lt (by omega) (by omega) (by omega) (by omega)]
  omega
theorem is_at {o t n : Nat} {z v : Int} (ho : o < 231) (h : bCell K N B o = .inl (t, n, .inl (fun j => I (B.2.1 o j)))) (h' : bCell K N (sA B o z.toNat v) o = .inl (t, n, .inl (fun j => I ((sA B o z.toNat v).2.1 o j)))) (hz : 0 ≤ z ∧ z < n) (hn : n ≤ 1000) : g_is (hH K N G B) (N + o) t (I z) (I v) = some (hH K N G (sA B o z.toNat v)) := by
  unfold g_is
  rw [hH_at ho, h]
  show (if t = t ∧ ¬ (I z < 0 ∨ n ≤ (I z).toNatClampNeg) then some _ else none) = _
  rw [I_cn (by omega) (by omega), if_pos]
  · refine congrArg some (sA_hH ho ?_)
    rw [h']
    refine congrArg (fun f => Sum.inl (t, n, Sum.inl f)) (funext fun j => ?_)
    show (if j = z.toNat then I v else I (B.2.1 o j)) = I (if o = o ∧ j = z.toNat then v else B.2.1 o j)
    by_cases e : j = z.toNat
    · rw [if_pos e, if_pos ⟨rfl, e⟩]
    · rw [if_neg e, if_neg (fun q => e q.2)]
  · refine ⟨rfl, ?_⟩
    rw [show (0 : Int32) = I 0 from I_lit 0, I_lt (by omega) (by omega) (by omega) (by omega)]
    omega
theorem qa_at {o t n : Nat} {f : Nat → Option Nat} {z : Int} (ho : o < 231) (h : bCell K N B o = .inl (t, n, gQ f)) (hz : 0 ≤ z ∧ z < n) (hn : n ≤ 1000) : g_qa (hH K N G B) (N + o) t (I z) = some (f z.toNat) := by
  unfold g_qa
  rw [hH_at ho, h]
  show (if t = t ∧ ¬ (I z < 0 ∨ n ≤ (I z).toNatClampNeg) then some _ else none) = _
  rw [I_cn (by omega) (by omega), if_pos]
  refine ⟨rfl, ?_⟩
  rw [show (0 : Int32) = I 0 from I_lit 0, I_lt (by omega) (by omega) (by omega) (by omega)]
  omega
theorem L_0_0 : g_gf (hH K N G B) N 0 0 = some (.ref (N + 1)) := gf_at (o := 0) (by omega) rfl 0
theorem L_0_1 : g_gf (hH K N G B) N 0 1 = some (.ref (N + 2)) := gf_at (o := 0) (by omega) rfl 1
theorem L_0_2 : g_gf (hH K N G B) N 0 2 = some (.ref (N + 3)) := gf_at (o := 0) (by omega) rfl 2
theorem L_0_3 : g_gf (hH K N G B) N 0 3 = some (.ref (N + 4)) := gf_at (o := 0) (by omega) rfl 3
theorem L_0_4 : g_gf (hH K N G B) N 0 4 = some (.ref (N + 192)) := gf_at (o := 0) (by omega) rfl 4
theorem L_0_5 : g_gf (hH K N G B) N 0 5 = some (.ref (N + 65)) := gf_at (o := 0) (by omega) rfl 5
theorem L_0_6 : g_gf (hH K N G B) N 0 6 = some (.ref (N + 66)) := gf_at (o := 0) (by omega) rfl 6
theorem L_0_7 : g_gf (hH K N G B) N 0 7 = some (.ref (N + 129)) := gf_at (o := 0) (by omega) rfl 7
theorem L_0_8 : g_gf (hH K N G B) N 0 8 = some (.int (I (B.1 0 8))) := gf_at (o := 0) (by omega) rfl 8
theorem M_0_8 {z : Int} : g_pf (hH K N G B) N 0 8 (.int (I z)) = some (hH K N G (sI B 0 8 z)) := pf_at (o := 0) (by omega) rfl (Nat.le_of_ble_eq_true rfl) rfl
theorem L_0_9 : g_gf (hH K N G B) N 0 9 = some (.int (I (B.1 0 9))) := gf_at (o := 0) (by omega) rfl 9
theorem M_0_9 {z : Int} : g_pf (hH K N G B) N 0 9 (.int (I z)) = some (hH K N G (sI B 0 9 z)) := pf_at (o := 0) (by omega) rfl (Nat.le_of_ble_eq_true rfl) rfl
theorem L_0_10 : g_gf (hH K N G B) N 0 10 = some (.int (I (B.1 0 10))) := gf_at (o := 0) (by omega) rfl 10
theorem M_0_10 {z : Int} : g_pf (hH K N G B) N 0 10 (.int (I z)) = some (hH K N G (sI B 0 10 z)) := pf_at (o := 0) (by omega) rfl (Nat.le_of_ble_eq_true rfl) rfl
theorem L_0_11 : g_gf (hH K N G B) N 0 11 = some (.int (I (B.1 0 11))) := gf_at (o := 0) (by omega) rfl 11
theorem M_0_11 {z : Int} : g_pf (hH K N G B) N 0 11 (.int (I z)) = some (hH K N G (sI B 0 11 z)) := pf_at (o := 0) (by omega) rfl (Nat.le_of_ble_eq_true rfl) rfl
theorem L_0_12 : g_gf (hH K N G B) N 0 12 = some (.int (I (B.1 0 12))) := gf_at (o := 0) (by omega) rfl 12
theorem M_0_12 {z : Int} : g_pf (hH K N G B) N 0 12 (.int (I z)) = some (hH K N G (sI B 0 12 z)) := pf_at (o := 0) (by omega) rfl (Nat.le_of_ble_eq_true rfl) rfl
theorem L_0_13 : g_gf (hH K N G B) N 0 13 = some (.int (I (B.1 0 13))) := gf_at (o := 0) (by omega) rfl 13
theorem M_0_13 {z : Int} : g_pf (hH K N G B) N 0 13 (.int (I z)) = some (hH K N G (sI B 0 13 z)) := pf_at (o := 0) (by omega) rfl (Nat.le_of_ble_eq_true rfl) rfl
theorem L_0_14 : g_gf (hH K N G B) N 0 14 = some (.int (I (B.1 0 14))) := gf_at (o := 0) (by omega) rfl 14
theorem M_0_14 {z : Int} : g_pf (hH K N G B) N 0 14 (.int (I z)) = some (hH K N G (sI B 0 14 z)) := pf_at (o := 0) (by omega) rfl (Nat.le_of_ble_eq_true rfl) rfl
theorem L_0_15 : g_gf (hH K N G B) N 0 15 = some (.long (J (B.1 0 15))) := gf_at (o := 0) (by omega) rfl 15
theorem M_0_15 {z : Int} : g_pf (hH K N G B) N 0 15 (.long (J z)) = some (hH K N G (sI B 0 15 z)) := pf_at (o := 0) (by omega) rfl (Nat.le_of_ble_eq_true rfl) rfl
theorem C_0 : g_cls (hH K N G B) N = some 0 := by unfold g_cls; rw [hH_x]; rfl
theorem L_1_0 : g_gf (hH K N G B) (N + 1) 12 0 = some (.int (I (B.1 1 0))) := gf_at (o := 1) (by omega) rfl 0
theorem M_1_0 {z : Int} : g_pf (hH K N G B) (N + 1) 12 0 (.int (I z)) = some (hH K N G (sI B 1 0 z)) := pf_at (o := 1) (by omega) rfl (Nat.le_of_ble_eq_true rfl) rfl
theorem L_1_1 : g_gf (hH K N G B) (N + 1) 12 1 = some (.ref (B.1 1 1).toNat) := gf_at (o := 1) (by omega) rfl 1
theorem M_1_1 {a : Nat} : g_pf (hH K N G B) (N + 1) 12 1 (.ref a) = some (hH K N G (sI B 1 1 (a : Int))) := pf_at (o := 1) (by omega) rfl (Nat.le_of_ble_eq_true rfl) rfl
theorem L_1_2 : g_gf (hH K N G B) (N + 1) 12 2 = some (.int (I (B.1 1 2))) := gf_at (o := 1) (by omega) rfl 2
theorem M_1_2 {z : Int} : g_pf (hH K N G B) (N + 1) 12 2 (.int (I z)) = some (hH K N G (sI B 1 2 z)) := pf_at (o := 1) (by omega) rfl (Nat.le_of_ble_eq_true rfl) rfl
theorem C_1 : g_cls (hH K N G B) (N + 1) = some 12 := by unfold g_cls; rw [hH_at (by omega)]; rfl
theorem L_2_0 : g_gf (hH K N G B) (N + 2) 12 0 = some (.int (I (B.1 2 0))) := gf_at (o := 2) (by omega) rfl 0
theorem M_2_0 {z : Int} : g_pf (hH K N G B) (N + 2) 12 0 (.int (I z)) = some (hH K N G (sI B 2 0 z)) := pf_at (o := 2) (by omega) rfl (Nat.le_of_ble_eq_true rfl) rfl
theorem L_2_1 : g_gf (hH K N G B) (N + 2) 12 1 = some (.ref (B.1 2 1).toNat) := gf_at (o := 2) (by omega) rfl 1
theorem M_2_1 {a : Nat} : g_pf (hH K N G B) (N + 2) 12 1 (.ref a) = some (hH K N G (sI B 2 1 (a : Int))) := pf_at (o := 2) (by omega) rfl (Nat.le_of_ble_eq_true rfl) rfl
theorem L_2_2 : g_gf (hH K N G B) (N + 2) 12 2 = some (.int (I (B.1 2 2))) := gf_at (o := 2) (by omega) rfl 2
theorem M_2_2 {z : Int} : g_pf (hH K N G B) (N + 2) 12 2 (.int (I z)) = some (hH K N G (sI B 2 2 z)) := pf_at (o := 2) (by omega) rfl (Nat.le_of_ble_eq_true rfl) rfl
theorem C_2 : g_cls (hH K N G B) (N + 2) = some 12 := by unfold g_cls; rw [hH_at (by omega)]; rfl
theorem L_3_0 : g_gf (hH K N G B) (N + 3) 12 0 = some (.int (I (B.1 3 0))) := gf_at (o := 3) (by omega) rfl 0
theorem M_3_0 {z : Int} : g_pf (hH K N G B) (N + 3) 12 0 (.int (I z)) = some (hH K N G (sI B 3 0 z)) := pf_at (o := 3) (by omega) rfl (Nat.le_of_ble_eq_true rfl) rfl
theorem L_3_1 : g_gf (hH K N G B) (N + 3) 12 1 = some (.ref (B.1 3 1).toNat) := gf_at (o := 3) (by omega) rfl 1
theorem M_3_1 {a : Nat} : g_pf (hH K N G B) (N + 3) 12 1 (.ref a) = some (hH K N G (sI B 3 1 (a : Int))) := pf_at (o := 3) (by omega) rfl (Nat.le_of_ble_eq_true rfl) rfl
theorem L_3_2 : g_gf (hH K N G B) (N + 3) 12 2 = some (.int (I (B.1 3 2))) := gf_at (o := 3) (by omega) rfl 2
theorem M_3_2 {z : Int} : g_pf (hH K N G B) (N + 3) 12 2 (.int (I z)) = some (hH K N G (sI B 3 2 z)) := pf_at (o := 3) (by omega) rfl (Nat.le_of_ble_eq_true rfl) rfl
theorem C_3 : g_cls (hH K N G B) (N + 3) = some 12 := by unfold g_cls; rw [hH_at (by omega)]; rfl
theorem L_65_0 : g_gf (hH K N G B) (N + 65) 1 0 = some (rn (B.1 65 0)) := gf_at (o := 65) (by omega) rfl 0
theorem M_65_0 {a : Nat} : g_pf (hH K N G B) (N + 65) 1 0 (.ref a) = some (hH K N G (sI B 65 0 (a : Int))) := pf_at (o := 65) (by omega) rfl (Nat.le_of_ble_eq_true rfl) rfl
theorem L_65_1 : g_gf (hH K N G B) (N + 65) 1 1 = some (.int (I (B.1 65 1))) := gf_at (o := 65) (by omega) rfl 1
theorem M_65_1 {z : Int} : g_pf (hH K N G B) (N + 65) 1 1 (.int (I z)) = some (hH K N G (sI B 65 1 z)) := pf_at (o := 65) (by omega) rfl (Nat.le_of_ble_eq_true rfl) rfl
theorem L_65_2 : g_gf (hH K N G B) (N + 65) 1 2 = some (.int (I (B.1 65 2))) := gf_at (o := 65) (by omega) rfl 2
theorem M_65_2 {z : Int} : g_pf (hH K N G B) (N + 65) 1 2 (.int (I z)) = some (hH K N G (sI B 65 2 z)) := pf_at (o := 65) (by omega) rfl (Nat.le_of_ble_eq_true rfl) rfl
theorem L_65_3 : g_gf (hH K N G B) (N + 65) 1 3 = some (.int (I (B.1 65 3))) := gf_at (o := 65) (by omega) rfl 3
theorem M_65_3 {z : Int} : g_pf (hH K N G B) (N + 65) 1 3 (.int (I z)) = some (hH K N G (sI B 65 3 z)) := pf_at (o := 65) (by omega) rfl (Nat.le_of_ble_eq_true rfl) rfl
theorem L_65_4 : g_gf (hH K N G B) (N + 65) 1 4 = some (.int (I (B.1 65 4))) := gf_at (o := 65) (by omega) rfl 4
theorem M_65_4 {z : Int} : g_pf (hH K N G B) (N + 65) 1 4 (.int (I z)) = some (hH K N G (sI B 65 4 z)) := pf_at (o := 65) (by omega) rfl (Nat.le_of_ble_eq_true rfl) rfl
theorem C_65 : g_cls (hH K N G B) (N + 65) = some 1 := by unfold g_cls; rw [hH_at (by omega)]; rfl
theorem L_66_0 : g_gf (hH K N G B) (N + 66) 2 0 = some (.ref (N + 67)) := gf_at (o := 66) (by omega) rfl 0
theorem L_66_1 : g_gf (hH K N G B) (N + 66) 2 1 = some (.ref (N + 128)) := gf_at (o := 66) (by omega) rfl 1
theorem L_66_2 : g_gf (hH K N G B) (N + 66) 2 2 = some (.int (I (B.1 66 2))) := gf_at (o := 66) (by omega) rfl 2
theorem M_66_2 {z : Int} : g_pf (hH K N G B) (N + 66) 2 2 (.int (I z)) = some (hH K N G (sI B 66 2 z)) := pf_at (o := 66) (by omega) rfl (Nat.le_of_ble_eq_true rfl) rfl
theorem L_66_3 : g_gf (hH K N G B) (N + 66) 2 3 = some (.ref N) := gf_at (o := 66) (by omega) rfl 3
theorem C_66 : g_cls (hH K N G B) (N + 66) = some 2 := by unfold g_cls; rw [hH_at (by omega)]; rfl
theorem L_129_0 : g_gf (hH K N G B) (N + 129) 2 0 = some (.ref (N + 130)) := gf_at (o := 129) (by omega) rfl 0
theorem L_129_1 : g_gf (hH K N G B) (N + 129) 2 1 = some (.ref (N + 191)) := gf_at (o := 129) (by omega) rfl 1
theorem L_129_2 : g_gf (hH K N G B) (N + 129) 2 2 = some (.int (I (B.1 129 2))) := gf_at (o := 129) (by omega) rfl 2
theorem M_129_2 {z : Int} : g_pf (hH K N G B) (N + 129) 2 2 (.int (I z)) = some (hH K N G (sI B 129 2 z)) := pf_at (o := 129) (by omega) rfl (Nat.le_of_ble_eq_true rfl) rfl
theorem L_129_3 : g_gf (hH K N G B) (N + 129) 2 3 = some (.ref N) := gf_at (o := 129) (by omega) rfl 3
theorem C_129 : g_cls (hH K N G B) (N + 129) = some 2 := by unfold g_cls; rw [hH_at (by omega)]; rfl
theorem L_198_0 : g_gf (hH K N G B) (N + 198) 3 0 = some (.int (I (B.1 198 0))) := gf_at (o := 198) (by omega) rfl 0
theorem M_198_0 {z : Int} : g_pf (hH K N G B) (N + 198) 3 0 (.int (I z)) = some (hH K N G (sI B 198 0 z)) := pf_at (o := 198) (by omega) rfl (Nat.le_of_ble_eq_true rfl) rfl
theorem L_198_1 : g_gf (hH K N G B) (N + 198) 3 1 = some (.int (I (B.1 198 1))) := gf_at (o := 198) (by omega) rfl 1
theorem M_198_1 {z : Int} : g_pf (hH K N G B) (N + 198) 3 1 (.int (I z)) = some (hH K N G (sI B 198 1 z)) := pf_at (o := 198) (by omega) rfl (Nat.le_of_ble_eq_true rfl) rfl
theorem L_198_2 : g_gf (hH K N G B) (N + 198) 3 2 = some (.int (I (B.1 198 2))) := gf_at (o := 198) (by omega) rfl 2
theorem M_198_2 {z : Int} : g_pf (hH K N G B) (N + 198) 3 2 (.int (I z)) = some (hH K N G (sI B 198 2 z)) := pf_at (o := 198) (by omega) rfl (Nat.le_of_ble_eq_true rfl) rfl
theorem L_198_3 : g_gf (hH K N G B) (N + 198) 3 3 = some (.int (I (B.1 198 3))) := gf_at (o := 198) (by omega) rfl 3
theorem M_198_3 {z : Int} : g_pf (hH K N G B) (N + 198) 3 3 (.int (I z)) = some (hH K N G (sI B 198 3 z)) := pf_at (o := 198) (by omega) rfl (Nat.le_of_ble_eq_true rfl) rfl
theorem L_198_4 : g_gf (hH K N G B) (N + 198) 3 4 = some (.int (I (B.1 198 4))) := gf_at (o := 198) (by omega) rfl 4
theorem M_198_4 {z : Int} : g_pf (hH K N G B) (N + 198) 3 4 (.int (I z)) = some (hH K N G (sI B 198 4 z)) := pf_at (o := 198) (by omega) rfl (Nat.le_of_ble_eq_true rfl) rfl
theorem L_198_5 : g_gf (hH K N G B) (N + 198) 3 5 = some (.int (I (B.1 198 5))) := gf_at (o := 198) (by omega) rfl 5
theorem M_198_5 {z : Int} : g_pf (hH K N G B) (N + 198) 3 5 (.int (I z)) = some (hH K N G (sI B 198 5 z)) := pf_at (o := 198) (by omega) rfl (Nat.le_of_ble_eq_true rfl) rfl
theorem L_198_6 : g_gf (hH K N G B) (N + 198) 3 6 = some (.ref (N + 199)) := gf_at (o := 198) (by omega) rfl 6
theorem L_198_7 : g_gf (hH K N G B) (N + 198) 3 7 = some (.int (I (B.1 198 7))) := gf_at (o := 198) (by omega) rfl 7
theorem M_198_7 {z : Int} : g_pf (hH K N G B) (N + 198) 3 7 (.int (I z)) = some (hH K N G (sI B 198 7 z)) := pf_at (o := 198) (by omega) rfl (Nat.le_of_ble_eq_true rfl) rfl
theorem L_198_8 : g_gf (hH K N G B) (N + 198) 3 8 = some (.ref (N + 200)) := gf_at (o := 198) (by omega) rfl 8
theorem L_198_9 : g_gf (hH K N G B) (N + 198) 3 9 = some (.ref (N + 201)) := gf_at (o := 198) (by omega) rfl 9
theorem L_198_10 : g_gf (hH K N G B) (N + 198) 3 10 = some (.ref (N + 202)) := gf_at (o := 198) (by omega) rfl 10
theorem L_198_11 : g_gf (hH K N G B) (N + 198) 3 11 = some (.ref (N + 203)) := gf_at (o := 198) (by omega) rfl 11
theorem L_198_12 : g_gf (hH K N G B) (N + 198) 3 12 = some (.ref (N + 204)) := gf_at (o := 198) (by omega) rfl 12
theorem L_198_13 : g_gf (hH K N G B) (N + 198) 3 13 = some (.ref (N + 205)) := gf_at (o := 198) (by omega) rfl 13
theorem L_198_14 : g_gf (hH K N G B) (N + 198) 3 14 = some (.ref (N + 206)) := gf_at (o := 198) (by omega) rfl 14
theorem L_198_15 : g_gf (hH K N G B) (N + 198) 3 15 = some (.ref (N + 207)) := gf_at (o := 198) (by omega) rfl 15
theorem L_198_16 : g_gf (hH K N G B) (N + 198) 3 16 = some (.ref (N + 208)) := gf_at (o := 198) (by omega) rfl 16
theorem L_198_17 : g_gf (hH K N G B) (N + 198) 3 17 = some (.int (I (B.1 198 17))) := gf_at (o := 198) (by omega) rfl 17
theorem M_198_17 {z : Int} : g_pf (hH K N G B) (N + 198) 3 17 (.int (I z)) = some (hH K N G (sI B 198 17 z)) := pf_at (o := 198) (by omega) rfl (Nat.le_of_ble_eq_true rfl) rfl
theorem L_198_18 : g_gf (hH K N G B) (N + 198) 3 18 = some (.int (I (B.1 198 18))) := gf_at (o := 198) (by omega) rfl 18
theorem M_198_18 {z : Int} : g_pf (hH K N G B) (N + 198) 3 18 (.int (I z)) = some (hH K N G (sI B 198 18 z)) := pf_at (o := 198) (by omega) rfl (Nat.le_of_ble_eq_true rfl) rfl
theorem L_198_19 : g_gf (hH K N G B) (N + 198) 3 19 = some (.ref (N + 209)) := gf_at (o := 198) (by omega) rfl 19
theorem L_198_20 : g_gf (hH K N G B) (N + 198) 3 20 = some (.ref (N + 210)) := gf_at (o := 198) (by omega) rfl 20
theorem L_198_21 : g_gf (hH K N G B) (N + 198) 3 21 = some (.ref (N + 211)) := gf_at (o := 198) (by omega) rfl 21
theorem L_198_22 : g_gf (hH K N G B) (N + 198) 3 22 = some (.ref (N + 212)) := gf_at (o := 198) (by omega) rfl 22
theorem L_198_23 : g_gf (hH K N G B) (N + 198) 3 23 = some (.ref (N + 213)) := gf_at (o := 198) (by omega) rfl 23
theorem L_198_24 : g_gf (hH K N G B) (N + 198) 3 24 = some (.ref (N + 214)) := gf_at (o := 198) (by omega) rfl 24
theorem L_198_25 : g_gf (hH K N G B) (N + 198) 3 25 = some (.ref (N + 215)) := gf_at (o := 198) (by omega) rfl 25
theorem L_198_26 : g_gf (hH K N G B) (N + 198) 3 26 = some (.ref (N + 216)) := gf_at (o := 198) (by omega) rfl 26
theorem L_198_27 : g_gf (hH K N G B) (N + 198) 3 27 = some (.ref (N + 217)) := gf_at (o := 198) (by omega) rfl 27
theorem L_198_28 : g_gf (hH K N G B) (N + 198) 3 28 = some (.int (I (B.1 198 28))) := gf_at (o := 198) (by omega) rfl 28
theorem M_198_28 {z : Int} : g_pf (hH K N G B) (N + 198) 3 28 (.int (I z)) = some (hH K N G (sI B 198 28 z)) := pf_at (o := 198) (by omega) rfl (Nat.le_of_ble_eq_true rfl) rfl
theorem L_198_29 : g_gf (hH K N G B) (N + 198) 3 29 = some (.ref (N + 218)) := gf_at (o := 198) (by omega) rfl 29
theorem L_198_30 : g_gf (hH K N G B) (N + 198) 3 30 = some (.ref (N + 219)) := gf_at (o := 198) (by omega) rfl 30
theorem L_198_31 : g_gf (hH K N G B) (N + 198) 3 31 = some (.int (I (B.1 198 31))) := gf_at (o := 198) (by omega) rfl 31
theorem M_198_31 {z : Int} : g_pf (hH K N G B) (N + 198) 3 31 (.int (I z)) = some (hH K N G (sI B 198 31 z)) := pf_at (o := 198) (by omega) rfl (Nat.le_of_ble_eq_true rfl) rfl
theorem L_198_32 : g_gf (hH K N G B) (N + 198) 3 32 = some (.long (J (B.1 198 32))) := gf_at (o := 198) (by omega) rfl 32
theorem M_198_32 {z : Int} : g_pf (hH K N G B) (N + 198) 3 32 (.long (J z)) = some (hH K N G (sI B 198 32 z)) := pf_at (o := 198) (by omega) rfl (Nat.le_of_ble_eq_true rfl) rfl
theorem L_198_33 : g_gf (hH K N G B) (N + 198) 3 33 = some (.int (I (B.1 198 33))) := gf_at (o := 198) (by omega) rfl 33
theorem M_198_33 {z : Int} : g_pf (hH K N G B) (N + 198) 3 33 (.int (I z)) = some (hH K N G (sI B 198 33 z)) := pf_at (o := 198) (by omega) rfl (Nat.le_of_ble_eq_true rfl) rfl
theorem L_198_34 : g_gf (hH K N G B) (N + 198) 3 34 = some (.ref (N + 220)) := gf_at (o := 198) (by omega) rfl 34
theorem L_198_35 : g_gf (hH K N G B) (N + 198) 3 35 = some (.ref (N + 221)) := gf_at (o := 198) (by omega) rfl 35
theorem L_198_36 : g_gf (hH K N G B) (N + 198) 3 36 = some (.int (I (B.1 198 36))) := gf_at (o := 198) (by omega) rfl 36
theorem M_198_36 {z : Int} : g_pf (hH K N G B) (N + 198) 3 36 (.int (I z)) = some (hH K N G (sI B 198 36 z)) := pf_at (o := 198) (by omega) rfl (Nat.le_of_ble_eq_true rfl) rfl
theorem L_198_37 : g_gf (hH K N G B) (N + 198) 3 37 = some (.int (I (B.1 198 37))) := gf_at (o := 198) (by omega) rfl 37
theorem M_198_37 {z : Int} : g_pf (hH K N G B) (N + 198) 3 37 (.int (I z)) = some (hH K N G (sI B 198 37 z)) := pf_at (o := 198) (by omega) rfl (Nat.le_of_ble_eq_true rfl) rfl
theorem L_198_38 : g_gf (hH K N G B) (N + 198) 3 38 = some (.int (I (B.1 198 38))) := gf_at (o := 198) (by omega) rfl 38
theorem M_198_38 {z : Int} : g_pf (hH K N G B) (N + 198) 3 38 (.int (I z)) = some (hH K N G (sI B 198 38 z)) := pf_at (o := 198) (by omega) rfl (Nat.le_of_ble_eq_true rfl) rfl
theorem L_198_39 : g_gf (hH K N G B) (N + 198) 3 39 = some (.int (I (B.1 198 39))) := gf_at (o := 198) (by omega) rfl 39
theorem M_198_39 {z : Int} : g_pf (hH K N G B) (N + 198) 3 39 (.int (I z)) = some (hH K N G (sI B 198 39 z)) := pf_at (o := 198) (by omega) rfl (Nat.le_of_ble_eq_true rfl) rfl
theorem L_198_40 : g_gf (hH K N G B) (N + 198) 3 40 = some (.ref (N + 222)) := gf_at (o := 198) (by omega) rfl 40
theorem L_198_41 : g_gf (hH K N G B) (N + 198) 3 41 = some (.int (I (B.1 198 41))) := gf_at (o := 198) (by omega) rfl 41
theorem M_198_41 {z : Int} : g_pf (hH K N G B) (N + 198) 3 41 (.int (I z)) = some (hH K N G (sI B 198 41 z)) := pf_at (o := 198) (by omega) rfl (Nat.le_of_ble_eq_true rfl) rfl
theorem L_198_42 : g_gf (hH K N G B) (N + 198) 3 42 = some (.ref (N + 223)) := gf_at (o := 198) (by omega) rfl 42
theorem L_198_43 : g_gf (hH K N G B) (N + 198) 3 43 = some (.ref (N + 224)) := gf_at (o := 198) (by omega) rfl 43
theorem L_198_44 : g_gf (hH K N G B) (N + 198) 3 44 = some (.ref (N + 225)) := gf_at (o := 198) (by omega) rfl 44
theorem L_198_45 : g_gf (hH K N G B) (N + 198) 3 45 = some (.ref (N + 226)) := gf_at (o := 198) (by omega) rfl 45
theorem L_198_46 : g_gf (hH K N G B) (N + 198) 3 46 = some (.ref (N + 227)) := gf_at (o := 198) (by omega) rfl 46
theorem L_198_47 : g_gf (hH K N G B) (N + 198) 3 47 = some (.ref (N + 228)) := gf_at (o := 198) (by omega) rfl 47
theorem L_198_48 : g_gf (hH K N G B) (N + 198) 3 48 = some (.int (I (B.1 198 48))) := gf_at (o := 198) (by omega) rfl 48
theorem M_198_48 {z : Int} : g_pf (hH K N G B) (N + 198) 3 48 (.int (I z)) = some (hH K N G (sI B 198 48 z)) := pf_at (o := 198) (by omega) rfl (Nat.le_of_ble_eq_true rfl) rfl
theorem C_198 : g_cls (hH K N G B) (N + 198) = some 3 := by unfold g_cls; rw [hH_at (by omega)]; rfl
theorem A_199 {z : Int} (h : 0 ≤ z ∧ z < 720) : g_ia (hH K N G B) (N + 199) 1 (I z) = some (I (B.2.1 199 z.toNat)) := ia_at (n := 720) (by omega) rfl h (by omega)
theorem S_199 {z v : Int} (h : 0 ≤ z ∧ z < 720) : g_is (hH K N G B) (N + 199) 1 (I z) (I v) = some (hH K N G (sA B 199 z.toNat v)) := is_at (n := 720) (by omega) rfl rfl h (by omega)
theorem A_200 {z : Int} (h : 0 ≤ z ∧ z < 8) : g_ia (hH K N G B) (N + 200) 2 (I z) = some (I (B.2.1 200 z.toNat)) := ia_at (n := 8) (by omega) rfl h (by omega)
theorem S_200 {z v : Int} (h : 0 ≤ z ∧ z < 8) : g_is (hH K N G B) (N + 200) 2 (I z) (I v) = some (hH K N G (sA B 200 z.toNat v)) := is_at (n := 8) (by omega) rfl rfl h (by omega)
theorem A_201 {z : Int} (h : 0 ≤ z ∧ z < 8) : g_ia (hH K N G B) (N + 201) 1 (I z) = some (I (B.2.1 201 z.toNat)) := ia_at (n := 8) (by omega) rfl h (by omega)
theorem S_201 {z v : Int} (h : 0 ≤ z ∧ z < 8) : g_is (hH K N G B) (N + 201) 1 (I z) (I v) = some (hH K N G (sA B 201 z.toNat v)) := is_at (n := 8) (by omega) rfl rfl h (by omega)
theorem A_202 {z : Int} (h : 0 ≤ z ∧ z < 200) : g_ia (hH K N G B) (N + 202) 1 (I z) = some (I (B.2.1 202 z.toNat)) := ia_at (n := 200) (by omega) rfl h (by omega)
theorem S_202 {z v : Int} (h : 0 ≤ z ∧ z < 200) : g_is (hH K N G B) (N + 202) 1 (I z) (I v) = some (hH K N G (sA B 202 z.toNat v)) := is_at (n := 200) (by omega) rfl rfl h (by omega)
theorem A_203 {z : Int} (h : 0 ≤ z ∧ z < 8) : g_ia (hH K N G B) (N + 203) 0 (I z) = some (I (B.2.1 203 z.toNat)) := ia_at (n := 8) (by omega) rfl h (by omega)
theorem S_203 {z v : Int} (h : 0 ≤ z ∧ z < 8) : g_is (hH K N G B) (N + 203) 0 (I z) (I v) = some (hH K N G (sA B 203 z.toNat v)) := is_at (n := 8) (by omega) rfl rfl h (by omega)
theorem A_204 {z : Int} (h : 0 ≤ z ∧ z < 8) : g_ia (hH K N G B) (N + 204) 0 (I z) = some (I (B.2.1 204 z.toNat)) := ia_at (n := 8) (by omega) rfl h (by omega)
theorem S_204 {z v : Int} (h : 0 ≤ z ∧ z < 8) : g_is (hH K N G B) (N + 204) 0 (I z) (I v) = some (hH K N G (sA B 204 z.toNat v)) := is_at (n := 8) (by omega) rfl rfl h (by omega)
theorem A_205 {z : Int} (h : 0 ≤ z ∧ z < 8) : g_ia (hH K N G B) (N + 205) 0 (I z) = some (I (B.2.1 205 z.toNat)) := ia_at (n := 8) (by omega) rfl h (by omega)
theorem S_205 {z v : Int} (h : 0 ≤ z ∧ z < 8) : g_is (hH K N G B) (N + 205) 0 (I z) (I v) = some (hH K N G (sA B 205 z.toNat v)) := is_at (n := 8) (by omega) rfl rfl h (by omega)
theorem A_206 {z : Int} (h : 0 ≤ z ∧ z < 8) : g_ia (hH K N G B) (N + 206) 0 (I z) = some (I (B.2.1 206 z.toNat)) := ia_at (n := 8) (by omega) rfl h (by omega)
theorem S_206 {z v : Int} (h : 0 ≤ z ∧ z < 8) : g_is (hH K N G B) (N + 206) 0 (I z) (I v) = some (hH K N G (sA B 206 z.toNat v)) := is_at (n := 8) (by omega) rfl rfl h (by omega)
theorem A_207 {z : Int} (h : 0 ≤ z ∧ z < 8) : g_ia (hH K N G B) (N + 207) 1 (I z) = some (I (B.2.1 207 z.toNat)) := ia_at (n := 8) (by omega) rfl h (by omega)
theorem S_207 {z v : Int} (h : 0 ≤ z ∧ z < 8) : g_is (hH K N G B) (N + 207) 1 (I z) (I v) = some (hH K N G (sA B 207 z.toNat v)) := is_at (n := 8) (by omega) rfl rfl h (by omega)
theorem A_208 {z : Int} (h : 0 ≤ z ∧ z < 16) : g_ia (hH K N G B) (N + 208) 0 (I z) = some (I (B.2.1 208 z.toNat)) := ia_at (n := 16) (by omega) rfl h (by omega)
theorem S_208 {z v : Int} (h : 0 ≤ z ∧ z < 16) : g_is (hH K N G B) (N + 208) 0 (I z) (I v) = some (hH K N G (sA B 208 z.toNat v)) := is_at (n := 16) (by omega) rfl rfl h (by omega)
theorem A_209 {z : Int} (h : 0 ≤ z ∧ z < 40) : g_ia (hH K N G B) (N + 209) 0 (I z) = some (I (B.2.1 209 z.toNat)) := ia_at (n := 40) (by omega) rfl h (by omega)
theorem S_209 {z v : Int} (h : 0 ≤ z ∧ z < 40) : g_is (hH K N G B) (N + 209) 0 (I z) (I v) = some (hH K N G (sA B 209 z.toNat v)) := is_at (n := 40) (by omega) rfl rfl h (by omega)
theorem A_210 {z : Int} (h : 0 ≤ z ∧ z < 40) : g_ia (hH K N G B) (N + 210) 0 (I z) = some (I (B.2.1 210 z.toNat)) := ia_at (n := 40) (by omega) rfl h (by omega)
theorem S_210 {z v : Int} (h : 0 ≤ z ∧ z < 40) : g_is (hH K N G B) (N + 210) 0 (I z) (I v) = some (hH K N G (sA B 210 z.toNat v)) := is_at (n := 40) (by omega) rfl rfl h (by omega)
theorem A_211 {z : Int} (h : 0 ≤ z ∧ z < 40) : g_ia (hH K N G B) (N + 211) 0 (I z) = some (I (B.2.1 211 z.toNat)) := ia_at (n := 40) (by omega) rfl h (by omega)
theorem S_211 {z v : Int} (h : 0 ≤ z ∧ z < 40) : g_is (hH K N G B) (N + 211) 0 (I z) (I v) = some (hH K N G (sA B 211 z.toNat v)) := is_at (n := 40) (by omega) rfl rfl h (by omega)
theorem A_212 {z : Int} (h : 0 ≤ z ∧ z < 40) : g_ia (hH K N G B) (N + 212) 0 (I z) = some (I (B.2.1 212 z.toNat)) := ia_at (n := 40) (by omega) rfl h (by omega)
theorem S_212 {z v : Int} (h : 0 ≤ z ∧ z < 40) : g_is (hH K N G B) (N + 212) 0 (I z) (I v) = some (hH K N G (sA B 212 z.toNat v)) := is_at (n := 40) (by omega) rfl rfl h (by omega)
theorem A_213 {z : Int} (h : 0 ≤ z ∧ z < 40) : g_ia (hH K N G B) (N + 213) 0 (I z) = some (I (B.2.1 213 z.toNat)) := ia_at (n := 40) (by omega) rfl h (by omega)
theorem S_213 {z v : Int} (h : 0 ≤ z ∧ z < 40) : g_is (hH K N G B) (N + 213) 0 (I z) (I v) = some (hH K N G (sA B 213 z.toNat v)) := is_at (n := 40) (by omega) rfl rfl h (by omega)
theorem A_214 {z : Int} (h : 0 ≤ z ∧ z < 40) : g_ia (hH K N G B) (N + 214) 1 (I z) = some (I (B.2.1 214 z.toNat)) := ia_at (n := 40) (by omega) rfl h (by omega)
theorem S_214 {z v : Int} (h : 0 ≤ z ∧ z < 40) : g_is (hH K N G B) (N + 214) 1 (I z) (I v) = some (hH K N G (sA B 214 z.toNat v)) := is_at (n := 40) (by omega) rfl rfl h (by omega)
theorem A_215 {z : Int} (h : 0 ≤ z ∧ z < 720) : g_ia (hH K N G B) (N + 215) 0 (I z) = some (I (B.2.1 215 z.toNat)) := ia_at (n := 720) (by omega) rfl h (by omega)
theorem S_215 {z v : Int} (h : 0 ≤ z ∧ z < 720) : g_is (hH K N G B) (N + 215) 0 (I z) (I v) = some (hH K N G (sA B 215 z.toNat v)) := is_at (n := 720) (by omega) rfl rfl h (by omega)
theorem A_216 {z : Int} (h : 0 ≤ z ∧ z < 4) : g_ia (hH K N G B) (N + 216) 0 (I z) = some (I (B.2.1 216 z.toNat)) := ia_at (n := 4) (by omega) rfl h (by omega)
theorem S_216 {z v : Int} (h : 0 ≤ z ∧ z < 4) : g_is (hH K N G B) (N + 216) 0 (I z) (I v) = some (hH K N G (sA B 216 z.toNat v)) := is_at (n := 4) (by omega) rfl rfl h (by omega)
theorem A_217 {z : Int} (h : 0 ≤ z ∧ z < 4) : g_ia (hH K N G B) (N + 217) 0 (I z) = some (I (B.2.1 217 z.toNat)) := ia_at (n := 4) (by omega) rfl h (by omega)
theorem S_217 {z v : Int} (h : 0 ≤ z ∧ z < 4) : g_is (hH K N G B) (N + 217) 0 (I z) (I v) = some (hH K N G (sA B 217 z.toNat v)) := is_at (n := 4) (by omega) rfl rfl h (by omega)
theorem A_218 {z : Int} (h : 0 ≤ z ∧ z < 32) : g_ia (hH K N G B) (N + 218) 0 (I z) = some (I (B.2.1 218 z.toNat)) := ia_at (n := 32) (by omega) rfl h (by omega)
theorem S_218 {z v : Int} (h : 0 ≤ z ∧ z < 32) : g_is (hH K N G B) (N + 218) 0 (I z) (I v) = some (hH K N G (sA B 218 z.toNat v)) := is_at (n := 32) (by omega) rfl rfl h (by omega)
theorem A_219 {z : Int} (h : 0 ≤ z ∧ z < 4) : g_ia (hH K N G B) (N + 219) 0 (I z) = some (I (B.2.1 219 z.toNat)) := ia_at (n := 4) (by omega) rfl h (by omega)
theorem S_219 {z v : Int} (h : 0 ≤ z ∧ z < 4) : g_is (hH K N G B) (N + 219) 0 (I z) (I v) = some (hH K N G (sA B 219 z.toNat v)) := is_at (n := 4) (by omega) rfl rfl h (by omega)
theorem A_220 {z : Int} (h : 0 ≤ z ∧ z < 25) : g_ia (hH K N G B) (N + 220) 0 (I z) = some (I (B.2.1 220 z.toNat)) := ia_at (n := 25) (by omega) rfl h (by omega)
theorem S_220 {z v : Int} (h : 0 ≤ z ∧ z < 25) : g_is (hH K N G B) (N + 220) 0 (I z) (I v) = some (hH K N G (sA B 220 z.toNat v)) := is_at (n := 25) (by omega) rfl rfl h (by omega)
theorem A_221 {z : Int} (h : 0 ≤ z ∧ z < 25) : g_ia (hH K N G B) (N + 221) 0 (I z) = some (I (B.2.1 221 z.toNat)) := ia_at (n := 25) (by omega) rfl h (by omega)
theorem S_221 {z v : Int} (h : 0 ≤ z ∧ z < 25) : g_is (hH K N G B) (N + 221) 0 (I z) (I v) = some (hH K N G (sA B 221 z.toNat v)) := is_at (n := 25) (by omega) rfl rfl h (by omega)
theorem A_222 {z : Int} (h : 0 ≤ z ∧ z < 4) : g_ia (hH K N G B) (N + 222) 0 (I z) = some (I (B.2.1 222 z.toNat)) := ia_at (n := 4) (by omega) rfl h (by omega)
theorem S_222 {z v : Int} (h : 0 ≤ z ∧ z < 4) : g_is (hH K N G B) (N + 222) 0 (I z) (I v) = some (hH K N G (sA B 222 z.toNat v)) := is_at (n := 4) (by omega) rfl rfl h (by omega)
theorem A_223 {z : Int} (h : 0 ≤ z ∧ z < 40) : g_ia (hH K N G B) (N + 223) 0 (I z) = some (I (B.2.1 223 z.toNat)) := ia_at (n := 40) (by omega) rfl h (by omega)
theorem S_223 {z v : Int} (h : 0 ≤ z ∧ z < 40) : g_is (hH K N G B) (N + 223) 0 (I z) (I v) = some (hH K N G (sA B 223 z.toNat v)) := is_at (n := 40) (by omega) rfl rfl h (by omega)
theorem A_224 {z : Int} (h : 0 ≤ z ∧ z < 40) : g_ia (hH K N G B) (N + 224) 0 (I z) = some (I (B.2.1 224 z.toNat)) := ia_at (n := 40) (by omega) rfl h (by omega)
theorem S_224 {z v : Int} (h : 0 ≤ z ∧ z < 40) : g_is (hH K N G B) (N + 224) 0 (I z) (I v) = some (hH K N G (sA B 224 z.toNat v)) := is_at (n := 40) (by omega) rfl rfl h (by omega)
theorem A_225 {z : Int} (h : 0 ≤ z ∧ z < 40) : g_ia (hH K N G B) (N + 225) 0 (I z) = some (I (B.2.1 225 z.toNat)) := ia_at (n := 40) (by omega) rfl h (by omega)
theorem S_225 {z v : Int} (h : 0 ≤ z ∧ z < 40) : g_is (hH K N G B) (N + 225) 0 (I z) (I v) = some (hH K N G (sA B 225 z.toNat v)) := is_at (n := 40) (by omega) rfl rfl h (by omega)
theorem A_226 {z : Int} (h : 0 ≤ z ∧ z < 40) : g_ia (hH K N G B) (N + 226) 0 (I z) = some (I (B.2.1 226 z.toNat)) := ia_at (n := 40) (by omega) rfl h (by omega)
theorem S_226 {z v : Int} (h : 0 ≤ z ∧ z < 40) : g_is (hH K N G B) (N + 226) 0 (I z) (I v) = some (hH K N G (sA B 226 z.toNat v)) := is_at (n := 40) (by omega) rfl rfl h (by omega)
theorem A_227 {z : Int} (h : 0 ≤ z ∧ z < 40) : g_ia (hH K N G B) (N + 227) 0 (I z) = some (I (B.2.1 227 z.toNat)) := ia_at (n := 40) (by omega) rfl h (by omega)
theorem S_227 {z v : Int} (h : 0 ≤ z ∧ z < 40) : g_is (hH K N G B) (N + 227) 0 (I z) (I v) = some (hH K N G (sA B 227 z.toNat v)) := is_at (n := 40) (by omega) rfl rfl h (by omega)
theorem A_228 {z : Int} (h : 0 ≤ z ∧ z < 40) : g_ia (hH K N G B) (N + 228) 1 (I z) = some (I (B.2.1 228 z.toNat)) := ia_at (n := 40) (by omega) rfl h (by omega)
theorem S_228 {z v : Int} (h : 0 ≤ z ∧ z < 40) : g_is (hH K N G B) (N + 228) 1 (I z) (I v) = some (hH K N G (sA B 228 z.toNat v)) := is_at (n := 40) (by omega) rfl rfl h (by omega)
theorem A_128 {z : Int} (h : 0 ≤ z ∧ z < 4) : g_ia (hH K N G B) (N + 128) 0 (I z) = some (I (B.2.1 128 z.toNat)) := ia_at (n := 4) (by omega) rfl h (by omega)
theorem S_128 {z v : Int} (h : 0 ≤ z ∧ z < 4) : g_is (hH K N G B) (N + 128) 0 (I z) (I v) = some (hH K N G (sA B 128 z.toNat v)) := is_at (n := 4) (by omega) rfl rfl h (by omega)
theorem A_191 {z : Int} (h : 0 ≤ z ∧ z < 4) : g_ia (hH K N G B) (N + 191) 0 (I z) = some (I (B.2.1 191 z.toNat)) := ia_at (n := 4) (by omega) rfl h (by omega)
theorem S_191 {z v : Int} (h : 0 ≤ z ∧ z < 4) : g_is (hH K N G B) (N + 191) 0 (I z) (I v) = some (hH K N G (sA B 191 z.toNat v)) := is_at (n := 4) (by omega) rfl rfl h (by omega)
theorem bC_rf {r : Nat} (h : r < 60) : bCell K N B (5 + r) = .inl (1, 12, .inl (fun j => I (B.2.1 (5 + r) j))) := by
  unfold bCell
  repeat rw [if_neg (by omega)]
  rw [if_pos (by omega)]
theorem A_rf {r : Nat} {z : Int} (hr : r < 60) (h : 0 ≤ z ∧ z < 12) : g_ia (hH K N G B) (N + (5 + r)) 1 (I z) = some (I (B.2.1 (5 + r) z.toNat)) := ia_at (by omega) (bC_rf hr) h (by omega)
theorem S_rf {r : Nat} {z v : Int} (hr : r < 60) (h : 0 ≤ z ∧ z < 12) : g_is (hH K N G B) (N + (5 + r)) 1 (I z) (I v) = some (hH K N G (sA B (5 + r) z.toNat v)) := is_at (by omega) (bC_rf hr) (bC_rf hr) h (by omega)
theorem bC_rs {r : Nat} (h : r < 60) : bCell K N B (68 + r) = .inl (0, 12, .inl (fun j => I (B.2.1 (68 + r) j))) := by
  unfold bCell
  repeat rw [if_neg (by omega)]
  rw [if_pos (by omega)]
theorem A_rs {r : Nat} {z : Int} (hr : r < 60) (h : 0 ≤ z ∧ z < 12) : g_ia (hH K N G B) (N + (68 + r)) 0 (I z) = some (I (B.2.1 (68 + r) z.toNat)) := ia_at (by omega) (bC_rs hr) h (by omega)
theorem S_rs {r : Nat} {z v : Int} (hr : r < 60) (h : 0 ≤ z ∧ z < 12) : g_is (hH K N G B) (N + (68 + r)) 0 (I z) (I v) = some (hH K N G (sA B (68 + r) z.toNat v)) := is_at (by omega) (bC_rs hr) (bC_rs hr) h (by omega)
theorem bC_rt {r : Nat} (h : r < 60) : bCell K N B (131 + r) = .inl (0, 12, .inl (fun j => I (B.2.1 (131 + r) j))) := by
  unfold bCell
  repeat rw [if_neg (by omega)]
  rw [if_pos (by omega)]
theorem A_rt {r : Nat} {z : Int} (hr : r < 60) (h : 0 ≤ z ∧ z < 12) : g_ia (hH K N G B) (N + (131 + r)) 0 (I z) = some (I (B.2.1 (131 + r) z.toNat)) := ia_at (by omega) (bC_rt hr) h (by omega)
theorem S_rt {r : Nat} {z v : Int} (hr : r < 60) (h : 0 ≤ z ∧ z < 12) : g_is (hH K N G B) (N + (131 + r)) 0 (I z) (I v) = some (hH K N G (sA B (131 + r) z.toNat v)) := is_at (by omega) (bC_rt hr) (bC_rt hr) h (by omega)
theorem Q_4 {z : Int} (h : 0 ≤ z ∧ z < 60) : g_qa (hH K N G B) (N + 4) 9 (I z) = some (some (N + (5 + z.toNat))) := (qa_at (n := 60) (by omega) rfl h (by omega)).trans (by rw [if_pos (by omega)])
theorem Q_67 {z : Int} (h : 0 ≤ z ∧ z < 60) : g_qa (hH K N G B) (N + 67) 8 (I z) = some (some (N + (68 + z.toNat))) := (qa_at (n := 60) (by omega) rfl h (by omega)).trans (by rw [if_pos (by omega)])
theorem Q_130 {z : Int} (h : 0 ≤ z ∧ z < 60) : g_qa (hH K N G B) (N + 130) 8 (I z) = some (some (N + (131 + z.toNat))) := (qa_at (n := 60) (by omega) rfl h (by omega)).trans (by rw [if_pos (by omega)])
theorem J_229 : g_la (hH K N G B) (N + 229) 3 (I 0) = some (J (B.2.1 229 0)) := by
  unfold g_la; rw [hH_at (by omega)]; rfl
theorem JS_229 {v : Int} : g_lst (hH K N G B) (N + 229) 3 (I 0) (J v) = some (hH K N G (sA B 229 0 v)) := by
  unfold g_lst; rw [hH_at (by omega)]
  refine congrArg some (sA_hH (by omega) ?_)
  show _ = (Sum.inl (3, 1, gLo (fun j => J ((sA B 229 0 v).2.1 229 j))) : gE)
  refine congrArg (fun f => (Sum.inl (3, 1, gLo f) : gE)) (funext fun j => ?_)
  show (if j = 0 then J v else J (B.2.1 229 j)) = J (if 229 = 229 ∧ j = 0 then v else B.2.1 229 j)
  by_cases e : j = 0
  · rw [if_pos e, if_pos ⟨rfl, e⟩]
  · rw [if_neg e, if_neg (fun q => e q.2)]
theorem D_230 : g_da (hH K N G B) (N + 230) 4 (I 0) = some B.2.2 := by
  unfold g_da; rw [hH_at (by omega)]; rfl
theorem DS_230 {v : UInt64} : g_ds (hH K N G B) (N + 230) 4 (I 0) v = some (hH K N G (sD B v)) := by
  unfold g_ds; rw [hH_at (by omega)]
  refine congrArg some (sD_hH ?_)
  show _ = (Sum.inl (4, 1, gDo (fun j => if j = 0 then v else 0)) : gE)
  refine congrArg (fun n => (Sum.inl (4, 1, gDo n) : gE)) (funext fun j => ?_)
  show (if j = 0 then v else if j = 0 then B.2.2 else 0) = if j = 0 then v else 0
  by_cases e : j = 0
  · rw [if_pos e, if_pos e]
  · rw [if_neg e, if_neg e, if_neg e]
theorem sI_1 {o k o' k' : Nat} {v : Int} : (sI B o k v).1 o' k' = if o' = o ∧ k' = k then v else B.1 o' k' := rfl
theorem sI_2 {o k : Nat} {v : Int} : (sI B o k v).2 = B.2 := rfl
theorem sA_1 {o k : Nat} {v : Int} : (sA B o k v).1 = B.1 := rfl
theorem sA_2 {o k o' k' : Nat} {v : Int} : (sA B o k v).2.1 o' k' = if o' = o ∧ k' = k then v else B.2.1 o' k' := rfl
theorem sA_3 {o k : Nat} {v : Int} : (sA B o k v).2.2 = B.2.2 := rfl
theorem rn_ref {z : Int} (h : 0 ≤ z) : rn z = .ref z.toNat := if_neg (by omega)
end
