/-! PURE 65: addShape -/
set_option maxRecDepth 100000
/-- what is not yet there is blank -/
def BL (M : gM) : Prop := (∀ i : Nat, (M.1 7) ≤ i → i < 8 → M.2 204 i = -1 ∧ M.2 208 (2 * i) = 0 ∧ M.2 208 (2 * i + 1) = 0 ∧ M.2 207 i = 0 ∧ M.2 205 i = 0 ∧ M.2 206 i = 0 ∧ ∀ k, k < 25 → M.2 202 (25 * i + k) = 0) ∧ ∀ i : Nat, (M.1 28) ≤ i → i < 4 → M.2 219 i = 0 ∧ ∀ s, s < 8 → M.2 218 (8 * i + s) = 0
theorem BL.dl {M : gM} (h : BL M) {i : Nat} (h1 : (M.1 7) ≤ i) (h2 : i < 8) : dl M i = [] := by
  refine List.filter_eq_nil_iff.mpr fun k hk => ?_
  rw [(h.1 i h1 h2).2.2.2.2.2.2 k (List.mem_range.mp hk)]
  decide
section
variable {K : gK} {d N : Nat} {G G' : gH} {B B' : gB} {M : gM} {ro : Nat → Nat} {sh st pc : List Nat} {cs : Nat → List Nat} {ps : Nat → List (Nat × Int)} {H H' : gH} {m sl x : Nat} {P : Nat → Prop}
theorem app_l {l : List Nat} {i b : Nat} (h : l[i]? = some b) : (l ++ [x])[i]? = some b := by
  rw [List.getElem?_append_left (List.getElem?_eq_some_iff.mp h).1]; exact h
theorem STP.app {a i : Nat} {p : List (Nat × Int)} (h : STP K P H ro a i M p sh) : STP K P H ro a i M p (sh ++ [x]) := by
  obtain ⟨q, mc, e, ca, h1, c1, c2, c3, c4, r⟩ := h
  exact ⟨q, mc, e, ca, h1, c1, c2, c3, fun j c z q1 q2 => by obtain ⟨b, k1, k2⟩ := c4 j c z q1 q2; exact ⟨b, app_l k1, k2⟩, r⟩
theorem PCP.app {a j : Nat} (h : PCP H a j M sh) : PCP H a j M (sh ++ [x]) := by
  obtain ⟨b, k1, k2⟩ := h
  exact ⟨b, app_l k1, k2⟩
theorem PSW.up {p : List (Nat × Int)} {i n : Nat} (h : PSW p M i n) : PSW p M i (n + 1) := ⟨h.1, fun q hq => ⟨Nat.lt_succ_of_lt (h.2.1 q hq).1, (h.2.1 q hq).2⟩, h.2.2⟩
/-- a new cell's own change is none -/
theorem FR.new2 {W : Nat → Prop} (hb : HB H) {e : gE} {n m s : Nat} (h : FR (fun q => q = H.2.1) m s (gnew H e n) H') : FR W (1 + m) (n + s) H H' := by
  have f1 : FR W 1 n H (gnew H e n) := FR.new hb
  refine ⟨Nat.le_trans f1.1 h.1, by have := f1.2.1; have := h.2.1; omega, Nat.le_trans f1.2.2.1 h.2.2.1, by have := f1.2.2.2.1; have := h.2.2.2.1; omega, h.hb, fun a q1 q2 => ?_⟩
  rw [h.2.2.2.2.2 a (Nat.lt_of_lt_of_le q1 f1.1) (by omega)]
  exact f1.2.2.2.2.2 a q1 q2
/-- the room with one more shape -/
theorem CR.shN {p mk vr mc' e' : Nat} {M' : gM} {mcv : Int} (h : CR K N G B ro M sh st pc cs ps) (hf : FR (LW (hH K N G B) (N + 1) (B.1 1 1).toNat) m sl (hH K N G B) H') (hA : ALo H' (N + 1) mcv e' (sh.length + 1)) (hR : ARR K H' e' (sh ++ [G.2.1])) (he : e' = (B.1 1 1).toNat ∨ (G.2.1 < e' ∧ e' ≠ p ∧ e' ≠ vr))
    (hs : H'.1 G.2.1 = some (.inr (4, shF K M' sh.length p mk vr))) (hcl : CLS K H' (fun e => e = K.2 3) p []) (hmk : CE H' mk (M'.2 205 sh.length) (M'.2 206 sh.length)) (hva : VAS (PD N) H' vr [] (M'.2 205 sh.length) (M'.2 206 sh.length) 4) (hp : G.2.1 < p) (hv : G.2.1 < vr) (h8 : sh.length < 8)
    (hM1 : ∀ k, k ≠ 0 → k ≠ 7 → M'.1 k = M.1 k) (hM1' : (M'.1 7) = (sh.length + 1 : Nat)) (hM2 : ∀ o, 199 ≤ o → (o < 200 ∨ 201 < o) → M'.2 o = M.2 o) (hSE : ∀ i, i ≠ sh.length → M'.2 200 i = M.2 200 i ∧ M'.2 201 i = M.2 201 i) (hbl : dl M sh.length = []) :
    H' = hH K N (dn N H') (lB B 1 mcv e' (sh.length + 1)) ∧ CR K N (dn N H') (lB B 1 mcv e' (sh.length + 1)) (fun q => if q = e' ∧ G.2.1 ≤ q then 1 else if G.2.1 ≤ q then 10 + sh.length else ro q) M' (sh ++ [G.2.1]) st pc (fun j => if j = sh.length then [] else cs j) ps := by
  have hC := h.1
  have hL := h.l1
  have hN := hC.2.2.1
  obtain ⟨r1, r2⟩ := relist (Or.inl rfl) hC hL hf hA
  have hf' := hf
  rw [r1] at hf'
  obtain ⟨f1, f2, f3, f4⟩ := h.fo (ro' := fun q => if q = e' ∧ G.2.1 ≤ q then 1 else if G.2.1 ≤ q then 10 + sh.length else ro q) (o1 := 1) hf' (fun q hq => by
    rcases hq with rfl | ⟨rfl, h0⟩
    · exact Or.inl (by omega)
    · have := hL.arr hC h0
      exact Or.inr ⟨this.2.1, this.2.2.1⟩) (fun q hq => by
    show (if q = e' ∧ G.2.1 ≤ q then 1 else if G.2.1 ≤ q then 10 + sh.length else ro q) = ro q
    rw [if_neg (by omega), if_neg (by omega)])
  rw [← r1] at f1 f2 f3
  have hla : (sh ++ [G.2.1]).length = sh.length + 1 := by rw [List.length_append]; rfl
  have n1 : CL K N (dn N H') (lB B 1 mcv e' (sh ++ [G.2.1]).length) (fun q => if q = e' ∧ G.2.1 ≤ q then 1 else if G.2.1 ≤ q then 10 + sh.length else ro q) 1 (sh ++ [G.2.1]) := by
    refine CL.new hR (by rw [hla]; exact r1) ?_
    rcases he with he | he
    · by_cases e0 : (hH K N G B).1 (B.1 1 1).toNat = none
      · rcases hL.2.2.1 with ⟨e1, -, -⟩ | ⟨-, cap, f, e1, -⟩
        · exact Or.inl (he.trans e1)
        · rw [e1] at e0; cases e0
      · have := hL.arr hC e0
        refine Or.inr ?_
        show (if e' = e' ∧ G.2.1 ≤ e' then 1 else if G.2.1 ≤ e' then 10 + sh.length else ro e') = 1
        rw [if_neg (by omega), if_neg (by omega), he]
        exact this.2.1
    · refine Or.inr ?_
      show (if e' = e' ∧ G.2.1 ≤ e' then 1 else _) = 1
      exact if_pos ⟨rfl, by omega⟩
  rw [hla] at n1
  obtain ⟨q1, q2, q3, q4, q5, q6, q7, q8, q9, q10⟩ := h
  refine ⟨r1, r2, ?_, ?_, n1, f4 2 st (by omega) q5 (lB_ne (by omega)) (lB_ne (by omega)), f4 3 pc (by omega) q6 (lB_ne (by omega)) (lB_ne (by omega)), ?_, fun i a hi => ?_, fun i a hi => ?_, fun j a hj => ?_⟩
  · unfold CS at q2 ⊢
    rw [hM1 1 (by decide) (by decide), hM1 2 (by decide) (by decide), hM1 3 (by decide) (by decide), hM1 4 (by decide) (by decide), hM1 5 (by decide) (by decide), hM1 18 (by decide) (by decide), hM1 31 (by decide) (by decide), hM1 32 (by decide) (by decide), hM2 199 (by decide) (by omega)]
    exact q2
  · have e : rmT M' = rmT M := by
      unfold rmT
      rw [hM2 217 (by decide) (by omega), hM2 216 (by decide) (by omega)]
    rw [hM2 215 (by decide) (by omega), e]
    exact q3
  · rw [hM1', hM1 28 (by decide) (by decide), hM1 17 (by decide) (by decide), hla]; exact ⟨rfl, q7.2⟩
  · rw [← r1]
    dsimp only
    rcases get_app hi with ⟨k1, k2⟩ | ⟨k1, k2⟩
    · rw [if_neg (by omega), dl_e (hM2 202 (by decide) (by omega))]
      refine ⟨(f1 i a k2 (by omega)).se ⟨(hSE i (by omega)).1, (hSE i (by omega)).2, by rw [hM2 204 (by decide) (by omega)], by rw [hM2 208 (by decide) (by omega)], by rw [hM2 208 (by decide) (by omega)], by rw [hM2 207 (by decide) (by omega)], by rw [hM2 205 (by decide) (by omega)], by rw [hM2 206 (by decide) (by omega)]⟩, (q8 i a k2).2⟩
    · subst k1
      rw [if_pos rfl, dl_e (hM2 202 (by decide) (by omega)), hbl, k2]
      refine ⟨⟨p, mk, vr, hs, ?_, hmk, hva, ?_, ?_, ?_, show N + 231 ≤ p by omega⟩, List.Perm.refl _⟩
      · obtain ⟨a1, a2, a3, a4, a5, a6, a7, a8⟩ := hcl
        exact ⟨a1, a2, a3, a4, a5, Or.inl a6, a7, a8⟩
      · show (if G.2.1 = e' ∧ G.2.1 ≤ G.2.1 then 1 else if G.2.1 ≤ G.2.1 then 10 + sh.length else ro G.2.1) = _
        rw [if_neg, if_pos (Nat.le_refl _)]
        rintro ⟨e1, -⟩
        rcases he with he | he
        · by_cases e0 : (hH K N G B).1 (B.1 1 1).toNat = none
          · rcases hL.2.2.1 with ⟨e2, -, -⟩ | ⟨-, cap, f, e2, -⟩
            · have := hC.2.2.2.1 3 (by omega)
              omega
            · rw [e2] at e0; cases e0
          · have := hL.arr hC e0
            omega
        · omega
      · show (if p = e' ∧ G.2.1 ≤ p then 1 else if G.2.1 ≤ p then 10 + sh.length else ro p) = _
        rw [if_neg, if_pos (by omega)]
        rintro ⟨e1, -⟩
        rcases he with he | he
        · by_cases e0 : (hH K N G B).1 (B.1 1 1).toNat = none
          · rcases hL.2.2.1 with ⟨e2, -, -⟩ | ⟨-, cap, f, e2, -⟩
            · have := hC.2.2.2.1 3 (by omega)
              omega
            · rw [e2] at e0; cases e0
          · have := hL.arr hC e0
            omega
        · omega
      · show (if vr = e' ∧ G.2.1 ≤ vr then 1 else if G.2.1 ≤ vr then 10 + sh.length else ro vr) = _
        rw [if_neg, if_pos (by omega)]
        rintro ⟨e1, -⟩
        rcases he with he | he
        · by_cases e0 : (hH K N G B).1 (B.1 1 1).toNat = none
          · rcases hL.2.2.1 with ⟨e2, -, -⟩ | ⟨-, cap, f, e2, -⟩
            · have := hC.2.2.2.1 3 (by omega)
              omega
            · rw [e2] at e0; cases e0
          · have := hL.arr hC e0
            omega
        · omega
  · rw [← r1, hla]
    exact ⟨((f2 i a hi (by omega)).se (by rw [hM2 219 (by decide) (by omega)])).app, ((q9 i a hi).2.se (fun s _ => by rw [hM2 218 (by decide) (by omega)]) (by omega)).up⟩
  · rw [← r1]
    exact ((f3 j a hj).se (PE.of (fun o h1 h2 => hM2 o (by omega) (by omega)))).app
end
