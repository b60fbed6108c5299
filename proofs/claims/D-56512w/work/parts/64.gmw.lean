/-! PURE 8: bounds of the model (printed by mkmw.py) -/
set_option maxRecDepth 100000
def loS (k : Nat) : Int := if k = 1 then 2 else if k = 36 then -10 else 0
def hiS (k : Nat) : Int := if k = 0 then 9 else if k = 1 then 12 else if k = 2 then 1 else if k = 3 then 1 else if k = 4 then 6 else if k = 5 then 12 else if k = 7 then 8 else if k = 17 then 40 else if k = 18 then 1000 else if k = 28 then 4 else if k = 31 then 999999 else if k = 32 then 1000000000 else if k = 33 then 25 else if k = 36 then 10 else if k = 37 then 59 else if k = 38 then 11 else if k = 39 then 3 else if k = 41 then 4 else if k = 48 then 61 else 0
def loA (k : Nat) : Int := if k = 204 then -1 else if k = 215 then -1 else if k = 216 then -1 else if k = 220 then -4 else if k = 221 then -4 else 0
def hiA (k : Nat) : Int := if k = 199 then 1 else if k = 200 then 65535 else if k = 201 then 1 else if k = 202 then 1 else if k = 203 then 25 else if k = 204 then 3 else if k = 205 then 4 else if k = 206 then 4 else if k = 207 then 1 else if k = 208 then 9999 else if k = 209 then 1000 else if k = 210 then 7 else if k = 211 then 59 else if k = 212 then 11 else if k = 213 then 3 else if k = 214 then 1 else if k = 215 then 1000 else if k = 216 then 5 else if k = 217 then 40 else if k = 218 then 4 else if k = 219 then 100000 else if k = 220 then 4 else if k = 221 then 4 else if k = 222 then 15 else if k = 223 then 1000 else if k = 224 then 7 else if k = 225 then 59 else if k = 226 then 11 else if k = 227 then 3 else if k = 228 then 1 else 0
def MW (B : gB) : Prop := (∀ k, loS k ≤ B.1 198 k ∧ B.1 198 k ≤ hiS k) ∧ ∀ o j, 199 ≤ o → o ≤ 228 → loA o ≤ B.2.1 o j ∧ B.2.1 o j ≤ hiA o
theorem mwsI {B : gB} (h : MW B) {k : Nat} {v : Int} (hv : loS k ≤ v ∧ v ≤ hiS k) : MW (sI B 198 k v) := by
  refine ⟨fun j => ?_, h.2⟩
  rw [sI_1]
  split
  · rename_i e
    rw [e.2]; exact hv
  · exact h.1 j
theorem mwsA {B : gB} (h : MW B) {o j : Nat} {v : Int} (hv : loA o ≤ v ∧ v ≤ hiA o) : MW (sA B o j v) := by
  refine ⟨h.1, fun o' j' h1 h2 => ?_⟩
  rw [sA_2]
  split
  · rename_i e
    rw [e.1]; exact hv
  · exact h.2 o' j' h1 h2
theorem mwsI' {B : gB} (h : MW B) {o k : Nat} {v : Int} (ho : o ≠ 198) : MW (sI B o k v) := ⟨fun j => by rw [sI_1, if_neg (fun e => ho e.1.symm)]; exact h.1 j, h.2⟩
theorem mwsA' {B : gB} (h : MW B) {o k : Nat} {v : Int} (ho : o < 199 ∨ 228 < o) : MW (sA B o k v) := ⟨h.1, fun o' j h1 h2 => by rw [sA_2, if_neg (fun e => by omega)]; exact h.2 o' j h1 h2⟩
theorem mwsD {B : gB} (h : MW B) {v : UInt64} : MW (sD B v) := h
theorem mw_thrown {B : gB} (h : MW B) : 0 ≤ B.1 198 0 ∧ B.1 198 0 ≤ 9 := h.1 0
theorem ms_thrown {B : gB} (h : MW B) {v : Int} (hv : 0 ≤ v ∧ v ≤ 9) : MW (sI B 198 0 v) := mwsI h hv
theorem mw_width {B : gB} (h : MW B) : 2 ≤ B.1 198 1 ∧ B.1 198 1 ≤ 12 := h.1 1
theorem ms_width {B : gB} (h : MW B) {v : Int} (hv : 2 ≤ v ∧ v ≤ 12) : MW (sI B 198 1 v) := mwsI h hv
theorem mw_nap {B : gB} (h : MW B) : 0 ≤ B.1 198 2 ∧ B.1 198 2 ≤ 1 := h.1 2
theorem ms_nap {B : gB} (h : MW B) {v : Int} (hv : 0 ≤ v ∧ v ≤ 1) : MW (sI B 198 2 v) := mwsI h hv
theorem mw_folded {B : gB} (h : MW B) : 0 ≤ B.1 198 3 ∧ B.1 198 3 ≤ 1 := h.1 3
theorem ms_folded {B : gB} (h : MW B) {v : Int} (hv : 0 ≤ v ∧ v ≤ 1) : MW (sI B 198 3 v) := mwsI h hv
theorem mw_stripes {B : gB} (h : MW B) : 0 ≤ B.1 198 4 ∧ B.1 198 4 ≤ 6 := h.1 4
theorem ms_stripes {B : gB} (h : MW B) {v : Int} (hv : 0 ≤ v ∧ v ≤ 6) : MW (sI B 198 4 v) := mwsI h hv
theorem mw_flaws {B : gB} (h : MW B) : 0 ≤ B.1 198 5 ∧ B.1 198 5 ≤ 12 := h.1 5
theorem ms_flaws {B : gB} (h : MW B) {v : Int} (hv : 0 ≤ v ∧ v ≤ 12) : MW (sI B 198 5 v) := mwsI h hv
theorem mw_shapes {B : gB} (h : MW B) : 0 ≤ B.1 198 7 ∧ B.1 198 7 ≤ 8 := h.1 7
theorem ms_shapes {B : gB} (h : MW B) {v : Int} (hv : 0 ≤ v ∧ v ≤ 8) : MW (sI B 198 7 v) := mwsI h hv
theorem mw_many {B : gB} (h : MW B) : 0 ≤ B.1 198 17 ∧ B.1 198 17 ≤ 40 := h.1 17
theorem ms_many {B : gB} (h : MW B) {v : Int} (hv : 0 ≤ v ∧ v ≤ 40) : MW (sI B 198 17 v) := mwsI h hv
theorem mw_next {B : gB} (h : MW B) : 0 ≤ B.1 198 18 ∧ B.1 198 18 ≤ 1000 := h.1 18
theorem ms_next {B : gB} (h : MW B) {v : Int} (hv : 0 ≤ v ∧ v ≤ 1000) : MW (sI B 198 18 v) := mwsI h hv
theorem mw_styles {B : gB} (h : MW B) : 0 ≤ B.1 198 28 ∧ B.1 198 28 ≤ 4 := h.1 28
theorem ms_styles {B : gB} (h : MW B) {v : Int} (hv : 0 ≤ v ∧ v ≤ 4) : MW (sI B 198 28 v) := mwsI h hv
theorem mw_roll {B : gB} (h : MW B) : 0 ≤ B.1 198 31 ∧ B.1 198 31 ≤ 999999 := h.1 31
theorem ms_roll {B : gB} (h : MW B) {v : Int} (hv : 0 ≤ v ∧ v ≤ 999999) : MW (sI B 198 31 v) := mwsI h hv
theorem mw_cutAll {B : gB} (h : MW B) : 0 ≤ B.1 198 32 ∧ B.1 198 32 ≤ 1000000000 := h.1 32
theorem ms_cutAll {B : gB} (h : MW B) {v : Int} (hv : 0 ≤ v ∧ v ≤ 1000000000) : MW (sI B 198 32 v) := mwsI h hv
theorem mw_cellMany {B : gB} (h : MW B) : 0 ≤ B.1 198 33 ∧ B.1 198 33 ≤ 25 := h.1 33
theorem ms_cellMany {B : gB} (h : MW B) {v : Int} (hv : 0 ≤ v ∧ v ≤ 25) : MW (sI B 198 33 v) := mwsI h hv
theorem mw_markBehind {B : gB} (h : MW B) : -10 ≤ B.1 198 36 ∧ B.1 198 36 ≤ 10 := h.1 36
theorem ms_markBehind {B : gB} (h : MW B) {v : Int} (hv : -10 ≤ v ∧ v ≤ 10) : MW (sI B 198 36 v) := mwsI h hv
theorem mw_nestRow {B : gB} (h : MW B) : 0 ≤ B.1 198 37 ∧ B.1 198 37 ≤ 59 := h.1 37
theorem ms_nestRow {B : gB} (h : MW B) {v : Int} (hv : 0 ≤ v ∧ v ≤ 59) : MW (sI B 198 37 v) := mwsI h hv
theorem mw_nestColumn {B : gB} (h : MW B) : 0 ≤ B.1 198 38 ∧ B.1 198 38 ≤ 11 := h.1 38
theorem ms_nestColumn {B : gB} (h : MW B) {v : Int} (hv : 0 ≤ v ∧ v ≤ 11) : MW (sI B 198 38 v) := mwsI h hv
theorem mw_nestTurns {B : gB} (h : MW B) : 0 ≤ B.1 198 39 ∧ B.1 198 39 ≤ 3 := h.1 39
theorem ms_nestTurns {B : gB} (h : MW B) {v : Int} (hv : 0 ≤ v ∧ v ≤ 3) : MW (sI B 198 39 v) := mwsI h hv
theorem mw_queued {B : gB} (h : MW B) : 0 ≤ B.1 198 41 ∧ B.1 198 41 ≤ 4 := h.1 41
theorem ms_queued {B : gB} (h : MW B) {v : Int} (hv : 0 ≤ v ∧ v ≤ 4) : MW (sI B 198 41 v) := mwsI h hv
theorem mw_least {B : gB} (h : MW B) : 0 ≤ B.1 198 48 ∧ B.1 198 48 ≤ 61 := h.1 48
theorem ms_least {B : gB} (h : MW B) {v : Int} (hv : 0 ≤ v ∧ v ≤ 61) : MW (sI B 198 48 v) := mwsI h hv
theorem mw_flaw {B : gB} (h : MW B) (j : Nat) : 0 ≤ B.2.1 199 j ∧ B.2.1 199 j ≤ 1 := h.2 199 j (by omega) (by omega)
theorem ms_flaw {B : gB} (h : MW B) {j : Nat} {v : Int} (hv : 0 ≤ v ∧ v ≤ 1) : MW (sA B 199 j v) := mwsA h hv
theorem mw_rule {B : gB} (h : MW B) (j : Nat) : 0 ≤ B.2.1 200 j ∧ B.2.1 200 j ≤ 65535 := h.2 200 j (by omega) (by omega)
theorem ms_rule {B : gB} (h : MW B) {j : Nat} {v : Int} (hv : 0 ≤ v ∧ v ≤ 65535) : MW (sA B 200 j v) := mwsA h hv
theorem mw_paired {B : gB} (h : MW B) (j : Nat) : 0 ≤ B.2.1 201 j ∧ B.2.1 201 j ≤ 1 := h.2 201 j (by omega) (by omega)
theorem ms_paired {B : gB} (h : MW B) {j : Nat} {v : Int} (hv : 0 ≤ v ∧ v ≤ 1) : MW (sA B 201 j v) := mwsA h hv
theorem mw_drawn {B : gB} (h : MW B) (j : Nat) : 0 ≤ B.2.1 202 j ∧ B.2.1 202 j ≤ 1 := h.2 202 j (by omega) (by omega)
theorem ms_drawn {B : gB} (h : MW B) {j : Nat} {v : Int} (hv : 0 ≤ v ∧ v ≤ 1) : MW (sA B 202 j v) := mwsA h hv
theorem mw_size {B : gB} (h : MW B) (j : Nat) : 0 ≤ B.2.1 203 j ∧ B.2.1 203 j ≤ 25 := h.2 203 j (by omega) (by omega)
theorem ms_size {B : gB} (h : MW B) {j : Nat} {v : Int} (hv : 0 ≤ v ∧ v ≤ 25) : MW (sA B 203 j v) := mwsA h hv
theorem mw_group {B : gB} (h : MW B) (j : Nat) : -1 ≤ B.2.1 204 j ∧ B.2.1 204 j ≤ 3 := h.2 204 j (by omega) (by omega)
theorem ms_group {B : gB} (h : MW B) {j : Nat} {v : Int} (hv : -1 ≤ v ∧ v ≤ 3) : MW (sA B 204 j v) := mwsA h hv
theorem mw_markRow {B : gB} (h : MW B) (j : Nat) : 0 ≤ B.2.1 205 j ∧ B.2.1 205 j ≤ 4 := h.2 205 j (by omega) (by omega)
theorem ms_markRow {B : gB} (h : MW B) {j : Nat} {v : Int} (hv : 0 ≤ v ∧ v ≤ 4) : MW (sA B 205 j v) := mwsA h hv
theorem mw_markColumn {B : gB} (h : MW B) (j : Nat) : 0 ≤ B.2.1 206 j ∧ B.2.1 206 j ≤ 4 := h.2 206 j (by omega) (by omega)
theorem ms_markColumn {B : gB} (h : MW B) {j : Nat} {v : Int} (hv : 0 ≤ v ∧ v ≤ 4) : MW (sA B 206 j v) := mwsA h hv
theorem mw_everCut {B : gB} (h : MW B) (j : Nat) : 0 ≤ B.2.1 207 j ∧ B.2.1 207 j ≤ 1 := h.2 207 j (by omega) (by omega)
theorem ms_everCut {B : gB} (h : MW B) {j : Nat} {v : Int} (hv : 0 ≤ v ∧ v ≤ 1) : MW (sA B 207 j v) := mwsA h hv
theorem mw_stock {B : gB} (h : MW B) (j : Nat) : 0 ≤ B.2.1 208 j ∧ B.2.1 208 j ≤ 9999 := h.2 208 j (by omega) (by omega)
theorem ms_stock {B : gB} (h : MW B) {j : Nat} {v : Int} (hv : 0 ≤ v ∧ v ≤ 9999) : MW (sA B 208 j v) := mwsA h hv
theorem mw_number {B : gB} (h : MW B) (j : Nat) : 0 ≤ B.2.1 209 j ∧ B.2.1 209 j ≤ 1000 := h.2 209 j (by omega) (by omega)
theorem ms_number {B : gB} (h : MW B) {j : Nat} {v : Int} (hv : 0 ≤ v ∧ v ≤ 1000) : MW (sA B 209 j v) := mwsA h hv
theorem mw_shapeOf {B : gB} (h : MW B) (j : Nat) : 0 ≤ B.2.1 210 j ∧ B.2.1 210 j ≤ 7 := h.2 210 j (by omega) (by omega)
theorem ms_shapeOf {B : gB} (h : MW B) {j : Nat} {v : Int} (hv : 0 ≤ v ∧ v ≤ 7) : MW (sA B 210 j v) := mwsA h hv
theorem mw_rowAt {B : gB} (h : MW B) (j : Nat) : 0 ≤ B.2.1 211 j ∧ B.2.1 211 j ≤ 59 := h.2 211 j (by omega) (by omega)
theorem ms_rowAt {B : gB} (h : MW B) {j : Nat} {v : Int} (hv : 0 ≤ v ∧ v ≤ 59) : MW (sA B 211 j v) := mwsA h hv
theorem mw_columnAt {B : gB} (h : MW B) (j : Nat) : 0 ≤ B.2.1 212 j ∧ B.2.1 212 j ≤ 11 := h.2 212 j (by omega) (by omega)
theorem ms_columnAt {B : gB} (h : MW B) {j : Nat} {v : Int} (hv : 0 ≤ v ∧ v ≤ 11) : MW (sA B 212 j v) := mwsA h hv
theorem mw_turned {B : gB} (h : MW B) (j : Nat) : 0 ≤ B.2.1 213 j ∧ B.2.1 213 j ≤ 3 := h.2 213 j (by omega) (by omega)
theorem ms_turned {B : gB} (h : MW B) {j : Nat} {v : Int} (hv : 0 ≤ v ∧ v ≤ 3) : MW (sA B 213 j v) := mwsA h hv
theorem mw_mirrored {B : gB} (h : MW B) (j : Nat) : 0 ≤ B.2.1 214 j ∧ B.2.1 214 j ≤ 1 := h.2 214 j (by omega) (by omega)
theorem ms_mirrored {B : gB} (h : MW B) {j : Nat} {v : Int} (hv : 0 ≤ v ∧ v ≤ 1) : MW (sA B 214 j v) := mwsA h hv
theorem mw_cloth {B : gB} (h : MW B) (j : Nat) : -1 ≤ B.2.1 215 j ∧ B.2.1 215 j ≤ 1000 := h.2 215 j (by omega) (by omega)
theorem ms_cloth {B : gB} (h : MW B) {j : Nat} {v : Int} (hv : -1 ≤ v ∧ v ≤ 1000) : MW (sA B 215 j v) := mwsA h hv
theorem mw_phase {B : gB} (h : MW B) (j : Nat) : -1 ≤ B.2.1 216 j ∧ B.2.1 216 j ≤ 5 := h.2 216 j (by omega) (by omega)
theorem ms_phase {B : gB} (h : MW B) {j : Nat} {v : Int} (hv : -1 ≤ v ∧ v ≤ 5) : MW (sA B 216 j v) := mwsA h hv
theorem mw_ofGroup {B : gB} (h : MW B) (j : Nat) : 0 ≤ B.2.1 217 j ∧ B.2.1 217 j ≤ 40 := h.2 217 j (by omega) (by omega)
theorem ms_ofGroup {B : gB} (h : MW B) {j : Nat} {v : Int} (hv : 0 ≤ v ∧ v ≤ 40) : MW (sA B 217 j v) := mwsA h hv
theorem mw_count {B : gB} (h : MW B) (j : Nat) : 0 ≤ B.2.1 218 j ∧ B.2.1 218 j ≤ 4 := h.2 218 j (by omega) (by omega)
theorem ms_count {B : gB} (h : MW B) {j : Nat} {v : Int} (hv : 0 ≤ v ∧ v ≤ 4) : MW (sA B 218 j v) := mwsA h hv
theorem mw_made {B : gB} (h : MW B) (j : Nat) : 0 ≤ B.2.1 219 j ∧ B.2.1 219 j ≤ 100000 := h.2 219 j (by omega) (by omega)
theorem ms_made {B : gB} (h : MW B) {j : Nat} {v : Int} (hv : 0 ≤ v ∧ v ≤ 100000) : MW (sA B 219 j v) := mwsA h hv
theorem mw_cellRow {B : gB} (h : MW B) (j : Nat) : -4 ≤ B.2.1 220 j ∧ B.2.1 220 j ≤ 4 := h.2 220 j (by omega) (by omega)
theorem ms_cellRow {B : gB} (h : MW B) {j : Nat} {v : Int} (hv : -4 ≤ v ∧ v ≤ 4) : MW (sA B 220 j v) := mwsA h hv
theorem mw_cellColumn {B : gB} (h : MW B) (j : Nat) : -4 ≤ B.2.1 221 j ∧ B.2.1 221 j ≤ 4 := h.2 221 j (by omega) (by omega)
theorem ms_cellColumn {B : gB} (h : MW B) {j : Nat} {v : Int} (hv : -4 ≤ v ∧ v ≤ 4) : MW (sA B 221 j v) := mwsA h hv
theorem mw_queue {B : gB} (h : MW B) (j : Nat) : 0 ≤ B.2.1 222 j ∧ B.2.1 222 j ≤ 15 := h.2 222 j (by omega) (by omega)
theorem ms_queue {B : gB} (h : MW B) {j : Nat} {v : Int} (hv : 0 ≤ v ∧ v ≤ 15) : MW (sA B 222 j v) := mwsA h hv
theorem mw_keptNumber {B : gB} (h : MW B) (j : Nat) : 0 ≤ B.2.1 223 j ∧ B.2.1 223 j ≤ 1000 := h.2 223 j (by omega) (by omega)
theorem ms_keptNumber {B : gB} (h : MW B) {j : Nat} {v : Int} (hv : 0 ≤ v ∧ v ≤ 1000) : MW (sA B 223 j v) := mwsA h hv
theorem mw_keptShape {B : gB} (h : MW B) (j : Nat) : 0 ≤ B.2.1 224 j ∧ B.2.1 224 j ≤ 7 := h.2 224 j (by omega) (by omega)
theorem ms_keptShape {B : gB} (h : MW B) {j : Nat} {v : Int} (hv : 0 ≤ v ∧ v ≤ 7) : MW (sA B 224 j v) := mwsA h hv
theorem mw_keptRow {B : gB} (h : MW B) (j : Nat) : 0 ≤ B.2.1 225 j ∧ B.2.1 225 j ≤ 59 := h.2 225 j (by omega) (by omega)
theorem ms_keptRow {B : gB} (h : MW B) {j : Nat} {v : Int} (hv : 0 ≤ v ∧ v ≤ 59) : MW (sA B 225 j v) := mwsA h hv
theorem mw_keptColumn {B : gB} (h : MW B) (j : Nat) : 0 ≤ B.2.1 226 j ∧ B.2.1 226 j ≤ 11 := h.2 226 j (by omega) (by omega)
theorem ms_keptColumn {B : gB} (h : MW B) {j : Nat} {v : Int} (hv : 0 ≤ v ∧ v ≤ 11) : MW (sA B 226 j v) := mwsA h hv
theorem mw_keptTurns {B : gB} (h : MW B) (j : Nat) : 0 ≤ B.2.1 227 j ∧ B.2.1 227 j ≤ 3 := h.2 227 j (by omega) (by omega)
theorem ms_keptTurns {B : gB} (h : MW B) {j : Nat} {v : Int} (hv : 0 ≤ v ∧ v ≤ 3) : MW (sA B 227 j v) := mwsA h hv
theorem mw_keptMirror {B : gB} (h : MW B) (j : Nat) : 0 ≤ B.2.1 228 j ∧ B.2.1 228 j ≤ 1 := h.2 228 j (by omega) (by omega)
theorem ms_keptMirror {B : gB} (h : MW B) {j : Nat} {v : Int} (hv : 0 ≤ v ∧ v ≤ 1) : MW (sA B 228 j v) := mwsA h hv
