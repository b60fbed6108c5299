/-! PURE 111: one step of the law -/
set_option maxRecDepth 100000
section
/-- only the model changed -/
def MDQ (B B' : gB) : Prop := (∀ o k, o ≠ 198 → B'.1 o k = B.1 o k) ∧ (∀ o j, (o < 199 ∨ 228 < o) → B'.2.1 o j = B.2.1 o j) ∧ B'.2.2 = B.2.2
variable {B B' B1 B3 : gB} {k o j : Nat} {v : Int} {f : Nat → Int}
theorem MDQ.rf : MDQ B B := ⟨fun _ _ _ => rfl, fun _ _ _ => rfl, rfl⟩
theorem MDQ.tr {B'' : gB} (h : MDQ B B') (h' : MDQ B' B'') : MDQ B B'' := ⟨fun o k h1 => (h'.1 o k h1).trans (h.1 o k h1), fun o j h1 => (h'.2.1 o j h1).trans (h.2.1 o j h1), h'.2.2.trans h.2.2⟩
theorem MDQ.i : MDQ B (sI B 198 k v) := ⟨fun o k h => sI_ne (Or.inl h), fun _ _ _ => rfl, rfl⟩
theorem MDQ.a (h : 199 ≤ o ∧ o ≤ 228) : MDQ B (sA B o j v) := ⟨fun _ _ _ => rfl, fun o' j' h' => sA_ne (Or.inl (by omega)), rfl⟩
theorem MDQ.s (h : 199 ≤ o ∧ o ≤ 228) : MDQ B (stA B o f) := ⟨fun _ _ _ => rfl, fun o' j' h' => congrFun (if_neg (show ¬ o' = o by omega)) j', rfl⟩
theorem MDQ.sc (h : SC B B') : MDQ B B' := ⟨fun o k h1 => h.1 o k (Or.inl h1), fun o j h1 => congrFun (h.2.1 o (by omega) (by omega)) j, h.2.2⟩
theorem MDQ.lq (h : LQ B B') : MDQ B B' := ⟨fun o k h1 => h.1 o k (Or.inl h1), fun o j h1 => congrFun (h.2.1 o (by omega)) j, h.2.2.2.2⟩
theorem MDQ.put {s : Nat} {l : List Nat} {t r c m : Int} : MDQ B (putB B s l t r c m) := ⟨fun o k h => putB_f (Or.inl h), fun o j h => congrFun (putB_a (by omega)) j, putB_3⟩
theorem MDQ.tk {p : Nat} : MDQ B (tkB B p) := ⟨fun o k h => tkB_f (Or.inl h), fun o j h => congrFun (tkB_a (by omega)) j, tkB_3⟩
theorem MDQ.em : MDQ B (emB B) := ⟨fun o k h => emB_f (Or.inl h), fun o j h => congrFun (emB_a (by omega) (by omega) (by omega)) j, rfl⟩
theorem MDQ.sp {p : Int} {z : Nat} : MDQ B (spB B p z) := ((MDQ.s (by omega)).tr (MDQ.s (by omega))).tr MDQ.i
theorem MQ.i {k : Nat} {v v' : Int} (h : MQ (tw B) (tw B')) (hv : v' = v) : MQ (tw (sI B 198 k v)) (tw (sI B' 198 k v')) := by
  subst hv
  refine ⟨fun k' hk => ?_, h.2⟩
  show (if 198 = 198 ∧ k' = k then v' else B'.1 198 k') = (if 198 = 198 ∧ k' = k then v' else B.1 198 k')
  rw [show B'.1 198 k' = B.1 198 k' from h.1 k' hk]
theorem MQ.a {o j j' : Nat} {v v' : Int} (h : MQ (tw B) (tw B')) (hv : v' = v) (hj : j' = j) : MQ (tw (sA B o j v)) (tw (sA B' o j' v')) := by
  subst hv hj
  refine ⟨h.1, fun o' h1 h2 => funext fun q => ?_⟩
  show (if o' = o ∧ q = j' then v' else B'.2.1 o' q) = (if o' = o ∧ q = j' then v' else B.2.1 o' q)
  rw [show B'.2.1 o' = B.2.1 o' from h.2 o' h1 h2]
theorem MQ.s {o : Nat} {f f' : Nat → Int} (h : MQ (tw B) (tw B')) (hf : f' = f) : MQ (tw (stA B o f)) (tw (stA B' o f')) := by
  subst hf
  refine ⟨h.1, fun o' h1 h2 => ?_⟩
  show (if o' = o then f' else B'.2.1 o') = (if o' = o then f' else B.2.1 o')
  rw [show B'.2.1 o' = B.2.1 o' from h.2 o' h1 h2]
theorem MQ.thr {v : Int} {M : gM} (h : MQ M (tw B)) : MQ M (tw (sI B 198 0 v)) := ⟨fun k hk => (show (sI B 198 0 v).1 198 k = _ from sI_ne (Or.inr (by omega))).trans (h.1 k hk), h.2⟩
theorem MQ.thl {v : Int} {M : gM} (h : MQ (tw B) M) : MQ (tw (sI B 198 0 v)) M := ⟨fun k hk => (h.1 k hk).trans (show (sI B 198 0 v).1 198 k = _ from sI_ne (Or.inr (by omega))).symm, h.2⟩
theorem MQ.sq (h : SC B B') : MQ (tw B) (tw B') := ⟨fun k hk => h.1 198 k (by omega), fun o h1 h2 => h.2.1 o (by omega) (by omega)⟩
theorem MQ.at (h : MQ (tw B) (tw B')) (ho : 199 ≤ o ∧ o ≤ 219) : B'.2.1 o = B.2.1 o := h.2 o ho.1 ho.2
theorem MQ.fd (h : MQ (tw B) (tw B')) (hk : (1 ≤ k ∧ k ≤ 5) ∨ k = 7 ∨ k = 17 ∨ k = 18 ∨ k = 28 ∨ k = 31 ∨ k = 32) : B'.1 198 k = B.1 198 k := h.1 k hk
theorem MQ.put {s : Nat} {l : List Nat} {t r c m : Int} (h : MQ (tw B) (tw B')) : MQ (tw (putB B s l t r c m)) (tw (putB B' s l t r c m)) := by
  have hM : marked (tw B') s = marked (tw B) s := mf (fun M => marked M s) (fun _ => rfl) h
  have hR : rem (tw B') (r + mb (tw B') s l t m) = rem (tw B) (r + mb (tw B) s l t m) := mf (fun M => rem M (r + mb M s l t m)) (fun _ => rfl) h
  have e1 : (B'.1 198 17) = (B.1 198 17) := h.fd (by omega)
  have e2 : (B'.1 198 18) = (B.1 198 18) := h.fd (by omega)
  have e3 : B'.2.1 204 = B.2.1 204 := h.at (by omega)
  have e4 : B'.2.1 215 = B.2.1 215 := h.at (by omega)
  have e5 : B'.2.1 217 = B.2.1 217 := h.at (by omega)
  have hs := h.s (o := 215) (f := putC (B.2.1 215) l t m r c ((B.1 198 18)) l) (f' := putC (B'.2.1 215) l t m r c ((B'.1 198 18)) l) (by rw [e4, e2])
  have hg : MQ (tw (putG (stA B 215 (putC (B.2.1 215) l t m r c ((B.1 198 18)) l)) s l t r m)) (tw (putG (stA B' 215 (putC (B'.2.1 215) l t m r c ((B'.1 198 18)) l)) s l t r m)) := by
    unfold putG
    have hM' : marked (tw (stA B' 215 (putC (B'.2.1 215) l t m r c ((B'.1 198 18)) l))) s = marked (tw (stA B 215 (putC (B.2.1 215) l t m r c ((B.1 198 18)) l))) s := hM
    rw [hM']
    by_cases e : marked (tw (stA B 215 (putC (B.2.1 215) l t m r c ((B.1 198 18)) l))) s
    · rw [cifT e, cifT e]
      refine (hs.a (show rem (tw B') _ = rem (tw B) _ from hR) ?_).a ?_ ?_
      · show (B'.2.1 204 s).toNat = (B.2.1 204 s).toNat
        rw [e3]
      · show B'.2.1 217 (B'.2.1 204 s).toNat + 1 = B.2.1 217 (B.2.1 204 s).toNat + 1
        rw [e3, e5]
      · show (B'.2.1 204 s).toNat = (B.2.1 204 s).toNat
        rw [e3]
    · rw [cifF e, cifF e]
      exact hs
  have f1 : (putG (stA B' 215 (putC (B'.2.1 215) l t m r c ((B'.1 198 18)) l)) s l t r m).1 = B'.1 := putG_1
  have f2 : (putG (stA B 215 (putC (B.2.1 215) l t m r c ((B.1 198 18)) l)) s l t r m).1 = B.1 := putG_1
  rw [e2] at hg
  unfold putB putR
  rw [f1, f2, e1, e2]
  exact (((((((hg.a rfl rfl).a rfl rfl).a rfl rfl).a rfl rfl).a rfl rfl).a rfl rfl).i rfl).i rfl
theorem MQ.tk {p : Nat} (h : MQ (tw B) (tw B')) : MQ (tw (tkB B p)) (tw (tkB B' p)) := by
  have e1 : (B'.1 198 17) = (B.1 198 17) := h.fd (by omega)
  have e2 : B'.2.1 210 = B.2.1 210 := h.at (by omega)
  have e3 : B'.2.1 204 = B.2.1 204 := h.at (by omega)
  have e4 : B'.2.1 215 = B.2.1 215 := h.at (by omega)
  have e5 : B'.2.1 217 = B.2.1 217 := h.at (by omega)
  have e6 : B'.2.1 209 = B.2.1 209 := h.at (by omega)
  have hM : ∀ s, marked (tw B') s = marked (tw B) s := fun s => mf (fun M => marked M s) (fun _ => rfl) h
  have hs := h.s (o := 215) (f := rcB (B.2.1 215) (B.2.1 209 p) 720) (f' := rcB (B'.2.1 215) (B'.2.1 209 p) 720) (by rw [e4, e6])
  have hg : MQ (tw (tkG (stA B 215 (rcB (B.2.1 215) (B.2.1 209 p) 720)) (B.2.1 210 p).toNat)) (tw (tkG (stA B' 215 (rcB (B'.2.1 215) (B'.2.1 209 p) 720)) (B'.2.1 210 p).toNat)) := by
    rw [e2]
    unfold tkG
    have hM' : marked (tw (stA B' 215 (rcB (B'.2.1 215) (B'.2.1 209 p) 720))) (B.2.1 210 p).toNat = marked (tw (stA B 215 (rcB (B.2.1 215) (B.2.1 209 p) 720))) (B.2.1 210 p).toNat := hM _
    rw [hM']
    by_cases e : marked (tw (stA B 215 (rcB (B.2.1 215) (B.2.1 209 p) 720))) (B.2.1 210 p).toNat
    · rw [cifT e, cifT e]
      refine hs.a ?_ ?_
      · show B'.2.1 217 (B'.2.1 204 (B.2.1 210 p).toNat).toNat - 1 = B.2.1 217 (B.2.1 204 (B.2.1 210 p).toNat).toNat - 1
        rw [e3, e5]
      · show (B'.2.1 204 (B.2.1 210 p).toNat).toNat = (B.2.1 204 (B.2.1 210 p).toNat).toNat
        rw [e3]
    · rw [cifF e, cifF e]
      exact hs
  have hm := hg.i (k := 17) (v := (B.1 198 17) - 1) (v' := (B'.1 198 17) - 1) (by rw [e1])
  unfold tkB shA
  rw [e1]
  rw [e1] at hm
  have hrow : ∀ o, 209 ≤ o → o ≤ 214 → (sI (tkG (stA B' 215 (rcB (B'.2.1 215) (B'.2.1 209 p) 720)) (B'.2.1 210 p).toNat) 198 17 ((B.1 198 17) - 1)).2.1 o = (sI (tkG (stA B 215 (rcB (B.2.1 215) (B.2.1 209 p) 720)) (B.2.1 210 p).toNat) 198 17 ((B.1 198 17) - 1)).2.1 o := fun o h1 h2 => hm.2 o (by omega) (by omega)
  exact (((((hm.s (by rw [hrow _ (by omega) (by omega)])).s (by rw [hrow _ (by omega) (by omega)])).s (by rw [hrow _ (by omega) (by omega)])).s (by rw [hrow _ (by omega) (by omega)])).s (by rw [hrow _ (by omega) (by omega)])).s (by rw [hrow _ (by omega) (by omega)])
theorem MQ.em (h : MQ (tw B) (tw B')) : MQ (tw (emB B)) (tw (emB B')) := by
  unfold emB
  rw [h.at (o := 215) (by omega), h.at (o := 216) (by omega), h.at (o := 217) (by omega)]
  exact ((((h.s rfl).s rfl).s rfl).i rfl).i rfl
theorem MQ.sp {p : Int} {z : Nat} (h : MQ (tw B) (tw B')) : MQ (tw (spB B p z)) (tw (spB B' p z)) := by
  have hgv : ∀ s m, gv (tw B') s m = gv (tw B) s m := fun s m => gv_c (h.at (o := 210) (by omega)) (h.at (o := 214) (by omega)) (h.fd (k := 3) (by omega)) (h.at (o := 201) (by omega)) (h.fd (k := 17) (by omega))
  unfold spB
  refine ((h.s ?_).s ?_).i ?_
  · funext j
    show (if j < z then B'.2.1 208 j + p * gv (tw B') ((j : Int) / 2) ((j : Int) % 2) else B'.2.1 208 j) = (if j < z then B.2.1 208 j + p * gv (tw B) ((j : Int) / 2) ((j : Int) % 2) else B.2.1 208 j)
    rw [hgv, h.at (o := 208) (by omega)]
  · funext j
    show cif (2 * j < z ∧ (B'.2.1 207 j ≠ 0 ∨ 0 < p * gv (tw B') j 0 ∨ (2 * j + 1 < z ∧ 0 < p * gv (tw B') j 1))) 1 (B'.2.1 207 j) = cif (2 * j < z ∧ (B.2.1 207 j ≠ 0 ∨ 0 < p * gv (tw B) j 0 ∨ (2 * j + 1 < z ∧ 0 < p * gv (tw B) j 1))) 1 (B.2.1 207 j)
    rw [hgv, hgv, h.at (o := 207) (by omega)]
  · rw [show (B'.1 198 32) = (B.1 198 32) from h.fd (by omega)]
    have : ∀ z, spS (tw B') p z = spS (tw B) p z := fun z => by
      induction z with
      | zero => rfl
      | succ z ih =>
        show spS (tw B') p z + p * gv (tw B') _ _ = spS (tw B) p z + p * gv (tw B) _ _
        rw [ih, hgv]
    rw [this]
theorem RM.fin {K : gK} {N : Nat} {G : gH} {M0 : gM} (h : RM K N G B' M0) (h1 : ∀ o k, o ≤ 128 → o ≠ 65 → B3.1 o k = B'.1 o k) (h2 : ∀ o j, o ≤ 128 → B3.2.1 o j = B'.2.1 o j) (hq : MQ M0 (tw B3)) : RM K N G B3 (tw B3) := by
  obtain ⟨ro, sh, st, pc, cs, ps, h⟩ := h
  exact ⟨ro, sh, st, pc, cs, ps, (h.b h1 h2).mq hq⟩
theorem cif_b {p : Prop} {a b lo hi : Int} (ha : lo ≤ a ∧ a ≤ hi) (hb : lo ≤ b ∧ b ≤ hi) : lo ≤ cif p a b ∧ cif p a b ≤ hi := by
  by_cases h : p
  · rw [cifT h]; exact ha
  · rw [cifF h]; exact hb
/-- a step of the law from pc on -/
def LST (K : gK) (d N : Nat) (n : Int) (G : gH) (B : gB) (pc : Nat) (i : Int) : Prop := ∃ G' B', (∀ x o6 o7 o8, (∀ o6 o7 o8, gRn K d 0 28 (lsL K N (i + 6) o6 o7 o8) [] (hH K N G' B') = some x) → gRn K d 0 pc (lsL K N i o6 o7 o8) [] (hH K N G B) = some x) ∧ INV (n + 1) B' ∧ RM K N G' B' (tw B') ∧ AL G G' 1100 15000
theorem out_kp (h : KP B B') : MQ (tw B) (tw (sA B' 229 0 v)) ∧ (MW B → MW (sA B' 229 0 v)) := by
  refine ⟨⟨fun k hk => h.1 198 k (by omega), fun o h1 h2 => funext fun q => ?_⟩, fun hw => mwsA' (h.mw hw) (by omega)⟩
  exact (sA_ne (Or.inl (by omega))).trans (h.2.1 o q (by omega))
theorem mw_thr {z : Int} (h : MW B) (hz : 0 ≤ z ∧ z ≤ 9) : MW (sI B 198 0 z) := ms_thrown h hz
theorem th_eq {z : Int} : (sI B 198 0 z).1 198 0 = z := sI_eq rfl
end
