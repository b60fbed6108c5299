/-! PURE 9: what the pieces are, as functions of the model's fields -/
abbrev gM : Type := (Nat → Int) × (Nat → Nat → Int)
abbrev tw (B : gB) : gM := (B.1 198, B.2.1)
def cols (M : gM) : Int := if (M.1 3) = 0 then (M.1 1) else (M.1 1) / 2
def bad (M : gM) (r c : Int) : Prop := M.2 199 (12 * r + c).toNat ≠ 0 ∨ ((M.1 3) ≠ 0 ∧ M.2 199 (12 * r + (M.1 1) - 1 - c).toNat ≠ 0)
def tR (t r c : Int) : Int := if t = 0 then r else if t = 1 then c else if t = 2 then 4 - r else 4 - c
def tC (t r c : Int) : Int := if t = 0 then c else if t = 1 then 4 - r else if t = 2 then 4 - c else r
def mC (m c : Int) : Int := if m = 0 then c else 4 - c
/-- the drawn cells among the first n -/
def dlp (M : gM) (s n : Nat) : List Nat := (List.range n).filter (fun k => decide (M.2 202 (25 * s + k) ≠ 0))
abbrev dl (M : gM) (s : Nat) : List Nat := dlp M s 25
def zR (t m : Int) (k : Nat) : Int := tR t ((k / 5 : Nat) : Int) (mC m ((k % 5 : Nat) : Int))
def zC (t m : Int) (k : Nat) : Int := tC t ((k / 5 : Nat) : Int) (mC m ((k % 5 : Nat) : Int))
def topL (l : List Nat) (t m : Int) : Int := l.foldl (fun a k => if zR t m k < a then zR t m k else a) 5
def leftL (l : List Nat) (t m : Int) : Int := l.foldl (fun a k => if zC t m k < a then zC t m k else a) 5
def oR (l : List Nat) (t m : Int) (k : Nat) : Int := zR t m k - topL l t m
def oC (l : List Nat) (t m : Int) (k : Nat) : Int := zC t m k - leftL l t m
/-- the mark's row behind the piece's own -/
def mb (M : gM) (s : Nat) (l : List Nat) (t m : Int) : Int := tR t (M.2 205 s) (mC m (M.2 206 s)) - topL l t m
def may (M : gM) (s : Nat) (t : Int) : Prop := t = 0 ∨ ((M.1 2) = 0 ∧ (M.2 200 s = 113 ∨ (M.2 200 s = 104 ∧ t = 2)))
def marked (M : gM) (s : Nat) : Prop := M.2 204 s ≠ -1 ∧ 1 < (M.1 4)
def rem (M : gM) (x : Int) : Int := x % (M.1 4)
def ins (M : gM) (l : List Nat) (t m r c : Int) : Prop := (0 ≤ r ∧ r ≤ 59 ∧ 0 ≤ c ∧ c ≤ cols M - 1) ∧ ∀ k ∈ l, r + oR l t m k < 60 ∧ c + oC l t m k < cols M
def onF (M : gM) (l : List Nat) (t m r c : Int) : Prop := ∃ k ∈ l, bad M (r + oR l t m k) (c + oC l t m k)
def onP (cl : Nat → Int) (l : List Nat) (t m r c : Int) : Prop := ∃ k ∈ l, cl (12 * (r + oR l t m k) + (c + oC l t m k)).toNat ≠ -1
def meets (M : gM) (rm : Nat → Int) (s : Nat) (l : List Nat) (t m r : Int) : Prop := ¬ marked M s ∨ rm (M.2 204 s).toNat = -1 ∨ rm (M.2 204 s).toNat = rem M (r + mb M s l t m)
/-- the reason why a piece cannot be laid there -/
noncomputable def rsn (M : gM) (cl rm : Nat → Int) (s : Nat) (l : List Nat) (t r c m : Int) : Int :=
  cif (l = []) 101 (cif (¬ may M s t) 116 (cif (m ≠ 0 ∧ (M.2 201 s = 0 ∨ (M.1 3) ≠ 0)) 109 (cif (¬ ins M l t m r c) 111 (cif (onF M l t m r c) 102 (cif (onP cl l t m r c) 112 (cif (meets M rm s l t m r) 45 115))))))
/-- the remainders, as the model keeps them -/
def rmT (M : gM) (g : Nat) : Int := if M.2 217 g = 0 then -1 else M.2 216 g
theorem zR_b {t m : Int} {k : Nat} (hk : k < 25) : 0 ≤ zR t m k ∧ zR t m k ≤ 4 := by
  unfold zR tR mC
  repeat' split
  all_goals omega
theorem zC_b {t m : Int} {k : Nat} (hk : k < 25) : 0 ≤ zC t m k ∧ zC t m k ≤ 4 := by
  unfold zC tC mC
  repeat' split
  all_goals omega
theorem fmin_le (f : Nat → Int) : ∀ (l : List Nat) (a : Int), l.foldl (fun a k => if f k < a then f k else a) a ≤ a ∧ ∀ k ∈ l, l.foldl (fun a k => if f k < a then f k else a) a ≤ f k
  | [], a => ⟨Int.le_refl _, fun _ h => by cases h⟩
  | k :: l, a => by
    have ih := fmin_le f l (if f k < a then f k else a)
    rw [List.foldl_cons]
    refine ⟨?_, fun j hj => ?_⟩
    · have := ih.1
      split at this <;> omega
    · rcases List.mem_cons.mp hj with rfl | hj
      · have := ih.1
        split at this <;> omega
      · exact ih.2 j hj
theorem fmin_ge (f : Nat → Int) {b : Int} : ∀ (l : List Nat) (a : Int), b ≤ a → (∀ k ∈ l, b ≤ f k) → b ≤ l.foldl (fun a k => if f k < a then f k else a) a
  | [], a, h, _ => h
  | k :: l, a, h, h2 => by
    rw [List.foldl_cons]
    refine fmin_ge f l _ ?_ (fun j hj => h2 j (List.mem_cons_of_mem _ hj))
    have := h2 k List.mem_cons_self
    split <;> omega
theorem fmin_app (f : Nat → Int) (l : List Nat) (k : Nat) (a : Int) : (l ++ [k]).foldl (fun a k => if f k < a then f k else a) a = if f k < l.foldl (fun a k => if f k < a then f k else a) a then f k else l.foldl (fun a k => if f k < a then f k else a) a := by
  rw [List.foldl_append]; rfl
theorem topL_b {l : List Nat} {t m : Int} (h : ∀ k ∈ l, k < 25) : 0 ≤ topL l t m ∧ topL l t m ≤ 5 := ⟨fmin_ge _ _ _ (by decide) (fun k hk => (zR_b (h k hk)).1), (fmin_le _ _ _).1⟩
theorem leftL_b {l : List Nat} {t m : Int} (h : ∀ k ∈ l, k < 25) : 0 ≤ leftL l t m ∧ leftL l t m ≤ 5 := ⟨fmin_ge _ _ _ (by decide) (fun k hk => (zC_b (h k hk)).1), (fmin_le _ _ _).1⟩
theorem oR_b {l : List Nat} {t m : Int} (h : ∀ k ∈ l, k < 25) {k : Nat} (hk : k ∈ l) : 0 ≤ oR l t m k ∧ oR l t m k ≤ 4 := by
  have h1 := zR_b (t := t) (m := m) (h k hk)
  have h2 := (fmin_le (zR t m) l 5).2 k hk
  have h3 := topL_b (t := t) (m := m) h
  unfold oR
  unfold topL at h3 ⊢
  omega
theorem oC_b {l : List Nat} {t m : Int} (h : ∀ k ∈ l, k < 25) {k : Nat} (hk : k ∈ l) : 0 ≤ oC l t m k ∧ oC l t m k ≤ 4 := by
  have h1 := zC_b (t := t) (m := m) (h k hk)
  have h2 := (fmin_le (zC t m) l 5).2 k hk
  have h3 := leftL_b (t := t) (m := m) h
  unfold oC
  unfold leftL at h3 ⊢
  omega
theorem dlp_lt {M : gM} {s n k : Nat} (h : k ∈ dlp M s n) : k < n := List.mem_range.mp (List.mem_filter.mp h).1
theorem dlp_succ {M : gM} {s n : Nat} : dlp M s (n + 1) = if M.2 202 (25 * s + n) ≠ 0 then dlp M s n ++ [n] else dlp M s n := by
  unfold dlp
  rw [List.range_succ, List.filter_append]
  by_cases h : M.2 202 (25 * s + n) ≠ 0
  · rw [if_pos h, List.filter_cons, if_pos (by simpa using h)]; rfl
  · rw [if_neg h, List.filter_cons, if_neg (by simpa using h)]; exact List.append_nil _
theorem dlp_len {M : gM} {s : Nat} : ∀ n, (dlp M s n).length ≤ n
  | 0 => Nat.le_refl _
  | n + 1 => by
    have := dlp_len (M := M) (s := s) n
    rw [dlp_succ]
    split
    · rw [List.length_append]; exact Nat.succ_le_succ this
    · omega
theorem tR_b {t r c : Int} (h1 : 0 ≤ r ∧ r ≤ 4) (h2 : 0 ≤ c ∧ c ≤ 4) : 0 ≤ tR t r c ∧ tR t r c ≤ 4 := by
  unfold tR
  repeat' split
  all_goals omega
theorem mC_b {m c : Int} (h2 : 0 ≤ c ∧ c ≤ 4) : 0 ≤ mC m c ∧ mC m c ≤ 4 := by
  unfold mC
  split <;> omega
theorem cols_b {B : gB} (h : MW B) : 1 ≤ cols (tw B) ∧ cols (tw B) ≤ 12 := by
  have := mw_width h
  unfold cols
  dsimp only [tw]
  split <;> omega
def laid (M : gM) (s : Int) : Prop := ∃ k : Nat, (k : Int) < (M.1 17) ∧ M.2 210 k = s
def lngP (cl : Nat → Int) : Nat → Int
  | 0 => 0
  | n + 1 => if cl n = -1 then lngP cl n else (n : Int) / 12 + 1
def lng (cl : Nat → Int) : Int := lngP cl 720
def plcP (M : gM) (p : Int) : Nat → Int
  | 0 => -1
  | n + 1 => if M.2 209 n = p then n else plcP M p n
def plc (M : gM) (p : Int) : Int := plcP M p ((M.1 17)).toNat
def usedP (M : gM) : Nat → Int
  | 0 => 0
  | n + 1 => usedP M n + M.2 203 (M.2 210 n).toNat
def used (M : gM) : Int := usedP M ((M.1 17)).toNat
def tkP (M : gM) (st : Int) : Nat → Int
  | 0 => 0
  | n + 1 => tkP M st n + M.2 218 (8 * st + n).toNat * (if M.2 201 n = 0 then 1 else 2)
def tk (M : gM) (st : Int) : Int := tkP M st ((M.1 7)).toNat
/-- what one piece gives of a sort -/
def gv1 (M : gM) (s m : Int) (n : Nat) : Int := if M.2 210 n = s then (if (M.1 3) = 0 then (if M.2 214 n = m then 1 else 0) else if M.2 201 s.toNat = 0 then (if m = 0 then 2 else 0) else 1) else 0
def gvP (M : gM) (s m : Int) : Nat → Int
  | 0 => 0
  | n + 1 => gvP M s m n + gv1 M s m n
def gv (M : gM) (s m : Int) : Int := gvP M s m ((M.1 17)).toNat
def mn (a b : Int) : Int := if a ≤ b then a else b
/-- garments of a style that one part allows -/
def mk1 (M : gM) (st p z : Int) (a : Int) : Int :=
  if M.2 218 (8 * st + z).toNat ≤ 0 then a else
  if M.2 201 z.toNat = 0 then mn (mn a ((M.2 208 (2 * z).toNat + p * gv M z 0) / M.2 218 (8 * st + z).toNat)) ((M.2 208 (2 * z).toNat + p * gv M z 0) / M.2 218 (8 * st + z).toNat)
  else mn (mn a ((M.2 208 (2 * z).toNat + p * gv M z 0) / M.2 218 (8 * st + z).toNat)) ((M.2 208 (2 * z + 1).toNat + p * gv M z 1) / M.2 218 (8 * st + z).toNat)
def mkP (M : gM) (st p : Int) : Nat → Int
  | 0 => 2147483647
  | n + 1 => mk1 M st p n (mkP M st p n)
def mk (M : gM) (st p : Int) : Int := mkP M st p ((M.1 7)).toNat
def much (M : gM) (p : Int) : Prop := ∃ k : Nat, (k : Int) < 2 * (M.1 7) ∧ 9999 < M.2 208 k + p * gv M ((k : Int) / 2) ((k : Int) % 2)
def fromRoll (M : gM) (p : Int) : Int := p * lng (M.2 215) * (if (M.1 3) = 0 then 1 else 2)
def under (M : gM) (r c : Int) : Prop := M.2 215 (12 * r + c).toNat ≠ -1 ∨ ((M.1 3) ≠ 0 ∧ M.2 215 (12 * r + (M.1 1) - 1 - c).toNat ≠ -1)
theorem lngP_b (cl : Nat → Int) : ∀ n : Nat, n ≤ 720 → 0 ≤ lngP cl n ∧ lngP cl n ≤ 60
  | 0, _ => by simp only [lngP]; omega
  | n + 1, h => by
    have := lngP_b cl n (by omega)
    unfold lngP
    split <;> omega
theorem lng_b (cl : Nat → Int) : 0 ≤ lng cl ∧ lng cl ≤ 60 := lngP_b cl 720 (Nat.le_refl _)
theorem plcP_b {M : gM} {p : Int} : ∀ n : Nat, -1 ≤ plcP M p n ∧ plcP M p n < n
  | 0 => by simp only [plcP]; omega
  | n + 1 => by
    have := plcP_b (M := M) (p := p) n
    unfold plcP
    split <;> omega
theorem usedP_b {B : gB} (h : MW B) : ∀ n : Nat, 0 ≤ usedP (tw B) n ∧ usedP (tw B) n ≤ 25 * n
  | 0 => by simp only [usedP]; omega
  | n + 1 => by
    have := usedP_b h n
    have h2 := mw_size h (B.2.1 210 n).toNat
    unfold usedP
    dsimp only [tw] at this ⊢
    omega
theorem tkP_b {B : gB} (h : MW B) {st : Int} : ∀ n : Nat, 0 ≤ tkP (tw B) st n ∧ tkP (tw B) st n ≤ 8 * n
  | 0 => by simp only [tkP]; omega
  | n + 1 => by
    have := tkP_b h (st := st) n
    have h2 := mw_count h (8 * st + n).toNat
    unfold tkP
    dsimp only [tw] at this ⊢
    split <;> omega
theorem gvP_b {M : gM} {s m : Int} : ∀ n : Nat, 0 ≤ gvP M s m n ∧ gvP M s m n ≤ 2 * n
  | 0 => by simp only [gvP]; omega
  | n + 1 => by
    have := gvP_b (M := M) (s := s) (m := m) n
    unfold gvP gv1
    repeat' split
    all_goals omega
theorem gv_b {B : gB} (h : MW B) {s m : Int} : 0 ≤ gv (tw B) s m ∧ gv (tw B) s m ≤ 80 := by
  have := gvP_b (M := tw B) (s := s) (m := m) ((B.1 198 17)).toNat
  have h2 := mw_many h
  unfold gv
  dsimp only [tw] at this ⊢
  omega
theorem pgv_b {B : gB} (h : MW B) {s m p : Int} (hp : 0 ≤ p ∧ p ≤ 1000) : 0 ≤ p * gv (tw B) s m ∧ p * gv (tw B) s m ≤ 80000 := by
  have := gv_b h (s := s) (m := m)
  refine ⟨Int.mul_nonneg hp.1 this.1, ?_⟩
  have h1 := Int.mul_le_mul hp.2 this.2 this.1 (by decide)
  omega
theorem mn_b {a b : Int} (h1 : 0 ≤ a ∧ a ≤ 2147483647) (h2 : 0 ≤ b) : 0 ≤ mn a b ∧ mn a b ≤ 2147483647 := by
  unfold mn
  split <;> omega
theorem mk1_b {B : gB} (h : MW B) {st p z a : Int} (hp : 0 ≤ p ∧ p ≤ 1000) (ha : 0 ≤ a ∧ a ≤ 2147483647) : 0 ≤ mk1 (tw B) st p z a ∧ mk1 (tw B) st p z a ≤ 2147483647 := by
  have h1 := pgv_b h (s := z) (m := 0) hp
  have h2 := pgv_b h (s := z) (m := 1) hp
  have h3 := mw_stock h (2 * z).toNat
  have h4 := mw_stock h (2 * z + 1).toNat
  have h5 := mw_count h (8 * st + z).toNat
  unfold mk1
  dsimp only [tw] at *
  split
  · exact ha
  · split
    · refine mn_b (mn_b ha ?_) ?_ <;> exact Int.ediv_nonneg (by omega) (by omega)
    · refine mn_b (mn_b ha ?_) ?_ <;> exact Int.ediv_nonneg (by omega) (by omega)
theorem mkP_b {B : gB} (h : MW B) {st p : Int} (hp : 0 ≤ p ∧ p ≤ 1000) : ∀ n : Nat, 0 ≤ mkP (tw B) st p n ∧ mkP (tw B) st p n ≤ 2147483647
  | 0 => by simp only [mkP]; omega
  | n + 1 => by
    have := mkP_b h (st := st) hp n
    unfold mkP
    exact mk1_b h hp this
section
variable {M M' : gM}
theorem usedP_c (h1 : M'.2 203 = M.2 203) (h2 : M'.2 210 = M.2 210) : ∀ n, usedP M' n = usedP M n
  | 0 => rfl
  | n + 1 => by simp only [usedP, h1, h2, usedP_c h1 h2 n]
theorem used_c (h1 : M'.2 203 = M.2 203) (h2 : M'.2 210 = M.2 210) (h3 : (M'.1 17) = (M.1 17)) : used M' = used M := by
  unfold used
  rw [h3, usedP_c h1 h2]
theorem tkP_c {s : Int} (h1 : M'.2 218 = M.2 218) (h2 : M'.2 201 = M.2 201) : ∀ n, tkP M' s n = tkP M s n
  | 0 => rfl
  | n + 1 => by simp only [tkP, h1, h2, tkP_c h1 h2 n]
theorem tk_c {s : Int} (h1 : M'.2 218 = M.2 218) (h2 : M'.2 201 = M.2 201) (h3 : (M'.1 7) = (M.1 7)) : tk M' s = tk M s := by
  unfold tk
  rw [h3, tkP_c h1 h2]
theorem plcP_c {p : Int} (h1 : M'.2 209 = M.2 209) : ∀ n, plcP M' p n = plcP M p n
  | 0 => rfl
  | n + 1 => by simp only [plcP, h1, plcP_c h1 n]
theorem plc_c {p : Int} (h1 : M'.2 209 = M.2 209) (h3 : (M'.1 17) = (M.1 17)) : plc M' p = plc M p := by
  unfold plc
  rw [h3, plcP_c h1]
theorem gvP_c {s m : Int} (h1 : M'.2 210 = M.2 210) (h2 : M'.2 214 = M.2 214) (h3 : (M'.1 3) = (M.1 3)) (h4 : M'.2 201 = M.2 201) : ∀ n, gvP M' s m n = gvP M s m n
  | 0 => rfl
  | n + 1 => by simp only [gvP, gv1, h1, h2, h3, h4, gvP_c h1 h2 h3 h4 n]
theorem gv_c {s m : Int} (h1 : M'.2 210 = M.2 210) (h2 : M'.2 214 = M.2 214) (h3 : (M'.1 3) = (M.1 3)) (h4 : M'.2 201 = M.2 201) (h5 : (M'.1 17) = (M.1 17)) : gv M' s m = gv M s m := by
  unfold gv
  rw [h5, gvP_c h1 h2 h3 h4]
theorem mkP_c {s p : Int} (h1 : M'.2 210 = M.2 210) (h2 : M'.2 214 = M.2 214) (h3 : (M'.1 3) = (M.1 3)) (h4 : M'.2 201 = M.2 201) (h5 : (M'.1 17) = (M.1 17)) (h6 : M'.2 218 = M.2 218) (h7 : M'.2 208 = M.2 208) : ∀ n, mkP M' s p n = mkP M s p n
  | 0 => rfl
  | n + 1 => by simp only [mkP, mk1, h4, h6, h7, gv_c h1 h2 h3 h4 h5, mkP_c h1 h2 h3 h4 h5 h6 h7 n]
theorem mk_c {s p : Int} (h1 : M'.2 210 = M.2 210) (h2 : M'.2 214 = M.2 214) (h3 : (M'.1 3) = (M.1 3)) (h4 : M'.2 201 = M.2 201) (h5 : (M'.1 17) = (M.1 17)) (h6 : M'.2 218 = M.2 218) (h7 : M'.2 208 = M.2 208) (h8 : (M'.1 7) = (M.1 7)) : mk M' s p = mk M s p := by
  unfold mk
  rw [h8, mkP_c h1 h2 h3 h4 h5 h6 h7]
end
