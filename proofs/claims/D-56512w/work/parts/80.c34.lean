/-! PURE 73: a piece laid into the marker -/
set_option maxRecDepth 100000
/-- alike in what the room shows of the model's fields -/
def MQ (M M' : gM) : Prop := (∀ k, (1 ≤ k ∧ k ≤ 5) ∨ k = 7 ∨ k = 17 ∨ k = 18 ∨ k = 28 ∨ k = 31 ∨ k = 32 → M'.1 k = M.1 k) ∧ ∀ o, 199 ≤ o → o ≤ 219 → M'.2 o = M.2 o
theorem MQ.rf {M : gM} : MQ M M := ⟨fun _ _ => rfl, fun _ _ _ => rfl⟩
theorem KP.mq {B B' : gB} (h : KP B B') : MQ (tw B) (tw B') := ⟨fun k _ => h.1 198 k (by omega), fun o h1 _ => h.a (by omega)⟩
section
variable {K : gK} {d N : Nat} {G G' : gH} {B B' B0 : gB} {M M' : gM} {ro : Nat → Nat} {sh st pc : List Nat} {cs : Nat → List Nat} {ps : Nat → List (Nat × Int)} {a s : Nat} {cl : List Nat} {t m r c : Int}
theorem CR.mq (h : CR K N G B ro M sh st pc cs ps) (hq : MQ M M') : CR K N G B ro M' sh st pc cs ps := by
  obtain ⟨h1, h2⟩ := hq
  have hM : MS M M' := ⟨fun o ho => h2 o (by omega) (by omega), h1 _ (by omega), h1 _ (by omega), h1 _ (by omega)⟩
  obtain ⟨q1, q2, q3, q4, q5, q6, q7, q8, q9, q10⟩ := h
  refine ⟨q1, ?_, ?_, q4, q5, q6, ?_, fun i a ha => ⟨(q8 i a ha).1.ms hM, by rw [dl_ms hM]; exact (q8 i a ha).2⟩, fun i a ha => ⟨(q9 i a ha).1.ms hM, (q9 i a ha).2.ms hM⟩, fun j a ha => (q10 j a ha).ms hM⟩
  · unfold CS at q2 ⊢
    rw [h1 1 (by omega), h1 2 (by omega), h1 3 (by omega), h1 4 (by omega), h1 5 (by omega), h1 18 (by omega), h1 31 (by omega), h1 32 (by omega), h2 199 (by omega) (by omega)]
    exact q2
  · have e : rmT M' = rmT M := by
      unfold rmT
      rw [h2 217 (by omega) (by omega), h2 216 (by omega) (by omega)]
    rw [h2 215 (by omega) (by omega), e]
    exact q3
  · rw [hM.2.1, hM.2.2.1, hM.2.2.2]
    exact q7
theorem dpf {G : gH} {p c k : Nat} {fs : List Value} {v : Value} (h : G.1 p = some (.inr (c, fs))) (hp : N + 231 ≤ p) (hk : k < fs.length) : g_pf (hH K N G B) p c k v = some (hH K N (gset G p (.inr (c, fs.set k v))) B) := by
  rw [pf_of (H := hH K N G B) ((hH_dyn hp).trans h) hk, gset_dyn hp]
theorem CB.new (hC : CB K N G) {e : gE} {n : Nat} : CB K N (gnew G e n) := by
  have := hC.2.2.1
  exact ⟨hC.1.new, fun a ha => (gn_lt (show a < G.2.1 by omega)).trans (hC.2.1 a ha), show N + 231 ≤ G.2.1 + 1 by omega, hC.2.2.2⟩
theorem putC_p {l l' : List Nat} (h : l.Perm l') {cc : Nat → Int} {v : Int} : putC cc l t m r c v l = putC cc l' t m r c v l' := by
  funext q
  unfold putC
  refine cif_of ⟨fun ⟨k, h1, h2⟩ => ⟨k, h.mem_iff.mp h1, by rw [← oR_p h, ← oC_p h]; exact h2⟩, fun ⟨k, h1, h2⟩ => ⟨k, h.mem_iff.mpr h1, by rw [oR_p h, oC_p h]; exact h2⟩⟩ (fun _ => rfl) (fun _ => rfl)
theorem w_207 (hd : 1 ≤ d) (h : SPX K N G B M ro a s cl t m r c) {v : Int} : gCa K d 207 [.ref G.2.1, .int (I v), .ref (N + 65)] (hH K N (gnew G (.inr (7, [.int (I 0), .null, .int (I 0), .int (I 0), .int (I 0), .int (I 0)])) 6) B) = some (.inl none, hH K N (gnew G (.inr (7, [.int (I v), .ref a, .int (I t), .int (I m), .int (I r), .int (I c)])) 6) B) := by
  obtain ⟨d, rfl, hd'⟩ := d_succ (show 0 + 1 ≤ d by omega)
  obtain ⟨e0, e1, e2, e3, e4⟩ := h.2.2.2.2.1
  have hm := h.2.2.2.2.2.1
  have hN := h.1.2.2.1
  have n1 : ∀ {x0 x1 x2 x3 x4 x5 : Value}, (gnew G (.inr (7, [x0, x1, x2, x3, x4, x5])) 6).1 G.2.1 = some (.inr (7, [x0, x1, x2, x3, x4, x5])) := gn_eq
  have s0 : ∀ {x0 x1 x2 x3 x4 x5 y : Value}, g_pf (hH K N (gnew G (.inr (7, [x0, x1, x2, x3, x4, x5])) 6) B) G.2.1 7 0 y = some (hH K N (gnew G (.inr (7, [y, x1, x2, x3, x4, x5])) 6) B) := fun {x0 x1 x2 x3 x4 x5 y} => by rw [dpf n1 hN (by decide : 0 < 6), gs_gn]; rfl
  have s1 : ∀ {x0 x1 x2 x3 x4 x5 y : Value}, g_pf (hH K N (gnew G (.inr (7, [x0, x1, x2, x3, x4, x5])) 6) B) G.2.1 7 1 y = some (hH K N (gnew G (.inr (7, [x0, y, x2, x3, x4, x5])) 6) B) := fun {x0 x1 x2 x3 x4 x5 y} => by rw [dpf n1 hN (by decide : 1 < 6), gs_gn]; rfl
  have s2 : ∀ {x0 x1 x2 x3 x4 x5 y : Value}, g_pf (hH K N (gnew G (.inr (7, [x0, x1, x2, x3, x4, x5])) 6) B) G.2.1 7 2 y = some (hH K N (gnew G (.inr (7, [x0, x1, y, x3, x4, x5])) 6) B) := fun {x0 x1 x2 x3 x4 x5 y} => by rw [dpf n1 hN (by decide : 2 < 6), gs_gn]; rfl
  have s3 : ∀ {x0 x1 x2 x3 x4 x5 y : Value}, g_pf (hH K N (gnew G (.inr (7, [x0, x1, x2, x3, x4, x5])) 6) B) G.2.1 7 3 y = some (hH K N (gnew G (.inr (7, [x0, x1, x2, y, x4, x5])) 6) B) := fun {x0 x1 x2 x3 x4 x5 y} => by rw [dpf n1 hN (by decide : 3 < 6), gs_gn]; rfl
  have s4 : ∀ {x0 x1 x2 x3 x4 x5 y : Value}, g_pf (hH K N (gnew G (.inr (7, [x0, x1, x2, x3, x4, x5])) 6) B) G.2.1 7 4 y = some (hH K N (gnew G (.inr (7, [x0, x1, x2, x3, y, x5])) 6) B) := fun {x0 x1 x2 x3 x4 x5 y} => by rw [dpf n1 hN (by decide : 4 < 6), gs_gn]; rfl
  have s5 : ∀ {x0 x1 x2 x3 x4 x5 y : Value}, g_pf (hH K N (gnew G (.inr (7, [x0, x1, x2, x3, x4, x5])) 6) B) G.2.1 7 5 y = some (hH K N (gnew G (.inr (7, [x0, x1, x2, x3, x4, y])) 6) B) := fun {x0 x1 x2 x3 x4 x5 y} => by rw [dpf n1 hN (by decide : 5 < 6), gs_gn]; rfl
  refine c_207 _ ?_
  unfold t_207_0
  simp (disch := omega) only [rI_d, rJ_d, rR_d, rN_d, wF_d, xI_d, xJ_d, xD_d, xQ_d, yI_d, yJ_d, yD_d, yQ_d, dI_s, dJ_s, dR_s, dN_s, dN_n, dH_s, dX_s, dL_s, dD_s, dQ_s, bC_r, bC_t, kI_s, kJ_s, kF_s, kD_s, kR_s, kV_s, I_lit, I_neg, I_add, I_sub, I_mul, I_ltT, I_ltF, I_leT, I_leF, I_eqT, I_eqF, c_int, c_long, c_obj, c_arr, c_bool, c_boolN, c_boolF, vn_bool, c_charN, vn_char, b2_f, b2_t, Int.toNat_natCast, ↓reduceIte, eq_self, and_self, and_true, true_and, not_false_eq_true, not_true_eq_false, L_0_0, L_0_1, L_0_2, L_0_3, L_0_4, L_0_5, L_0_6, L_0_7, L_0_8, L_0_9, L_0_10, L_0_11, L_0_12, L_0_13, L_0_14, L_0_15, C_0, L_1_0, L_1_1, L_1_2, C_1, L_2_0, L_2_1, L_2_2, C_2, L_3_0, L_3_1, L_3_2, C_3, L_65_0, L_65_1, L_65_2, L_65_3, L_65_4, C_65, L_66_0, L_66_1, L_66_2, L_66_3, C_66, L_129_0, L_129_1, L_129_2, L_129_3, C_129, L_198_0, L_198_1, L_198_2, L_198_3, L_198_4, L_198_5, L_198_6, L_198_7, L_198_8, L_198_9, L_198_10, L_198_11, L_198_12, L_198_13, L_198_14, L_198_15, L_198_16, L_198_17, L_198_18, L_198_19, L_198_20, L_198_21, L_198_22, L_198_23, L_198_24, L_198_25, L_198_26, L_198_27, L_198_28, L_198_29, L_198_30, L_198_31, L_198_32, L_198_33, L_198_34, L_198_35, L_198_36, L_198_37, L_198_38, L_198_39, L_198_40, L_198_41, L_198_42, L_198_43, L_198_44, L_198_45, L_198_46, L_198_47, L_198_48, C_198, A_199, A_200, A_201, A_202, A_203, A_204, A_205, A_206, A_207, A_208, A_209, A_210, A_211, A_212, A_213, A_214, A_215, A_216, A_217, A_218, A_219, A_220, A_221, A_222, A_223, A_224, A_225, A_226, A_227, A_228, A_128, A_191, A_rf, A_rs, A_rt, Q_4, Q_67, Q_130, t_207_0_1, t_207_0_2, t_207_0_3, t_207_0_4, t_207_0_5, t_207_0_6, t_207_0_7, t_207_0_8, t_207_0_9, t_207_0_10, t_207_0_11, s0, s1, s2, s3, s4, s5, e0, rn_n, e1, e2, e3, e4]
end
