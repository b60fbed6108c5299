/-! PURE 4: calls with handlers; the switch -/
set_option maxRecDepth 100000
/-- a call whose exceptions are caught -/
def bH (mi pc : Nat) (o : Option gO) (f : Option Value → gH → Option gO) : Option gO := bR o f (fun E G => gthr gHd mi pc E G)
theorem bH_r {mi pc : Nat} {v : Option Value} {G : gH} {f : Option Value → gH → Option gO} : bH mi pc (some (.inl v, G)) f = f v G := rfl
theorem bH_t {mi pc e : Nat} {G : gH} {f : Option Value → gH → Option gO} {c : Int32} (h : gHd mi pc e = some (some c)) : bH mi pc (some (.inr e, G)) f = some (.inl (some (.int c)), G) := by
  show gthr gHd mi pc e G = _
  unfold gthr
  rw [h]
theorem gle.ch {K : gK} {d mi pc pc' mi' : Nat} {as : List Value} {ls ls' : gL} {st st' : List Value} {G G' : gH} {f : Option Value → gH → Option gO} (h : gP K mi pc ls st G = some (.inr (.inl (mi', as, pc', ls', st', G')))) (k : ∀ v G2, gle (f v G2) (gRn K d mi pc' ls' (v.toList ++ st') G2)) : gle (bH mi pc (gCa K d mi' as G') f) (gRn K d mi pc ls st G) := by
  intro r e
  refine (grun_call h).trans ?_
  unfold bH at e
  cases hc : gCa K d mi' as G' with
  | none => rw [hc] at e; cases e
  | some x =>
    rw [hc] at e
    have hc' : gcall (gP K) gMx gHd d mi' as G' = some x := hc
    rw [hc']
    obtain ⟨v | E, G2⟩ := x
    · exact k v G2 r e
    · exact e
section
variable {K : gK} {d mi pc n : Nat} {ls : gL} {st r : List Value} {G : gH} {A : Option gO}
theorem g_callVH {c mi' kk b : Nat} {as : List Value} {f : Option Value → gH → Option gO} (h : gP K mi pc = o_callV c mi' kk n) (hd : st.drop kk = .ref b :: r) (hc : gW r ≤ 8 ∧ gC1 (st.take kk) = true) (ha : (st.take kk).reverse = as) (k : ∀ v G2, gle (f v G2) (gRn K d mi n ls (v.toList ++ r) G2)) : gle (if g_cls G b = some c then bH mi pc (gCa K d mi' (.ref b :: as) G) f else none) (gRn K d mi pc ls st G) := by
  refine gle.ite _ (fun hb => gle.ch ?_ k) (fun _ => gle.no)
  rw [h]; unfold o_callV; rw [hd]; dsimp only; rw [hb]; dsimp only; rw [if_pos ⟨rfl, hc.1, hc.2⟩, ha]
theorem g_switch {x : Int32} {tg : List Nat} {dd : Nat} (h : gP K mi pc = o_switch tg dd) : gle (gRn K d mi (if x < 0 then dd else tg.getD x.toNatClampNeg dd) ls r G) (gRn K d mi pc ls (.int x :: r) G) := gle.st (by rw [h]; rfl) (gle.rf _)
end
