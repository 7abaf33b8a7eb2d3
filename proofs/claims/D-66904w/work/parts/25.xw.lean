/-! THE WORLD OF InitiatorRows: the reference's ints and longs, and what the reference has not: the lists (modCount, capacity, size, elements), and where a job was started -/
abbrev xx_S : Type := (Nat → Int32) × (Nat → Nat) × (Nat → Nat) × (Nat → Nat → Nat) × (Nat → Option Nat)
abbrev xx_mc (S : xx_S) : Nat → Int32 := S.1
abbrev xx_cp (S : xx_S) : Nat → Nat := S.2.1
abbrev xx_n (S : xx_S) : Nat → Nat := S.2.2.1
abbrev xx_g (S : xx_S) : Nat → Nat → Nat := S.2.2.2.1
abbrev xx_a (S : xx_S) : Nat → Option Nat := S.2.2.2.2
def xx_kd (li : Nat) : Nat := if li = 0 then 3 else 5
def xx_row (β : ix_B) (S : xx_S) (li : Nat) : Nat → Option Nat := fun k => if k < xx_n S li then some (β (xx_kd li) (xx_g S li k)) else none
def xx_st (F : mm_F) (j : Nat) : Nat := if F 14 j = 0 then (if F 16 j = 0 then 0 else 1) else if F 14 j = 2 then 2 else 3
def xx_ij (β : ix_B) (F : mm_F) (i : Nat) : Option Nat := if F 3 i = -1 then none else some (β 5 (ix_t (F 3 i)))
def xx_at (β : ix_B) (S : xx_S) (j : Nat) : Option Nat := (xx_a S j).map (β 3)
abbrev xx_obj (β : ix_B) (L : mm_L) : List Value := [.ref (β 1 0), .ref (β 1 1), .ref (β 1 2), .ref (β 8 0), .ref (β 9 0), .ref (β 11 4), .ref (β 10 0), .ref (β 12 0), .long (L 1 0)]
abbrev xx_job (G : ix_G) (β : ix_B) (F : mm_F) (L : mm_L) (S : xx_S) (j : Nat) : List Value := [.int (nI (j + 1)), .int (F 11 j), .int (F 12 j), .int (F 13 j), .long (L 20 j), .ref (β 1 (j + 3)), .ref (β 6 j), .ref (G.2.2.1 (xx_st F j)), .int (F 17 j), .long (L 21 j), va_rf (xx_at β S j)]
abbrev xx_ini (β : ix_B) (F : mm_F) (i : Nat) : List Value := [.ref (β 4 i), .int (F 4 i), va_rf (xx_ij β F i)]
abbrev xx_cls (F : mm_F) (c : Nat) : List Value := [.int (F 6 c), .int (F 7 c), .int (F 8 c), .int (F 9 c)]
def xx_f8 (f : Nat → Int32) (i : Nat) : Nat → Int32 := fun p => if p < 8 then f (8 * i + p) else 0
def xx_f4 (f : Nat → Int32) (j : Nat) : Nat → Int32 := fun p => if p < 4 then f (4 * j + p) else 0
def xx_c36 (β : ix_B) : Nat → Option Nat := fun c => if c < 36 then some (β 7 c) else none
def xx_c6 (β : ix_B) : Nat → Option Nat := fun c => if c < 6 then some (β 11 c) else none
def xx_rule (β : ix_B) : Nat → Option va_E := fun i => match i with
  | 0 => some (.inr (6, []))
  | 1 => some (.inr (7, [.ref (β 1 2), .ref (β 8 0)]))
  | 2 => some (.inr (8, [.ref (β 1 2)]))
  | 3 => some (.inr (9, []))
  | 4 => some (.inr (5, [.ref (β 1 2), .ref (β 9 0)]))
  | 5 => some (.inr (10, [.ref (β 1 2)]))
  | _ => none
def xW (G : ix_G) (β : ix_B) (F : mm_F) (L : mm_L) (S : xx_S) : ix_N := fun k i => match k with
  | 0 => if i = 0 then some (.inr (0, xx_obj β L)) else none
  | 1 => if i < xx_n S 1 + 3 then some (jj_LST (xx_mc S i) (jj_ref G.2.2.1 β (xx_cp S i) i) (xx_n S i)) else none
  | 2 => if i < xx_n S 1 + 3 ∧ ¬ xx_cp S i = 0 then some (jj_ROW G.2.1 (xx_cp S i) (xx_row β S i)) else none
  | 3 => if i < xx_n S 0 then some (.inr (2, xx_ini β F i)) else none
  | 4 => if i < xx_n S 0 then some (.inl (G.2.1 0, 8, .inl (xx_f8 (F 2) i))) else none
  | 5 => if i < xx_n S 1 then some (.inr (1, xx_job G β F L S i)) else none
  | 6 => if i < xx_n S 1 then some (.inl (G.2.1 0, 4, .inl (xx_f4 (F 15) i))) else none
  | 7 => if i < 36 then some (.inr (3, xx_cls F i)) else none
  | 8 => if i = 0 then some (.inl (G.2.1 4, 36, .inr (.inr (.inr (.inr (xx_c36 β)))))) else none
  | 9 => if i = 0 then some (.inl (G.2.1 0, 4, .inl (F 10))) else none
  | 10 => if i = 0 then some (.inl (G.2.1 5, 6, .inr (.inr (.inr (.inr (xx_c6 β)))))) else none
  | 11 => xx_rule β i
  | 12 => if i = 0 then some (.inr (4, [.long (L 23 0), .int (F 24 0)])) else none
  | _ => none
section XW
variable {G : ix_G} {β : ix_B} {F : mm_F} {L : mm_L} {S : xx_S}
theorem xx_0 : xW G β F L S 0 0 = some (.inr (0, xx_obj β L)) := rfl
theorem xx_1 {i : Nat} (h : i < xx_n S 1 + 3) : xW G β F L S 1 i = some (jj_LST (xx_mc S i) (jj_ref G.2.2.1 β (xx_cp S i) i) (xx_n S i)) := if_pos h
theorem xx_2 {i : Nat} (h : i < xx_n S 1 + 3) (h2 : ¬ xx_cp S i = 0) : xW G β F L S 2 i = some (jj_ROW G.2.1 (xx_cp S i) (xx_row β S i)) := if_pos ⟨h, h2⟩
theorem xx_20 {i : Nat} (h2 : xx_cp S i = 0) : xW G β F L S 2 i = none := if_neg fun h => h.2 h2
theorem xx_3 {i : Nat} (h : i < xx_n S 0) : xW G β F L S 3 i = some (.inr (2, xx_ini β F i)) := if_pos h
theorem xx_4 {i : Nat} (h : i < xx_n S 0) : xW G β F L S 4 i = some (.inl (G.2.1 0, 8, .inl (xx_f8 (F 2) i))) := if_pos h
theorem xx_5 {i : Nat} (h : i < xx_n S 1) : xW G β F L S 5 i = some (.inr (1, xx_job G β F L S i)) := if_pos h
theorem xx_6 {i : Nat} (h : i < xx_n S 1) : xW G β F L S 6 i = some (.inl (G.2.1 0, 4, .inl (xx_f4 (F 15) i))) := if_pos h
theorem xx_7 {i : Nat} (h : i < 36) : xW G β F L S 7 i = some (.inr (3, xx_cls F i)) := if_pos h
theorem xx_8 : xW G β F L S 8 0 = some (.inl (G.2.1 4, 36, .inr (.inr (.inr (.inr (xx_c36 β)))))) := rfl
theorem xx_9 : xW G β F L S 9 0 = some (.inl (G.2.1 0, 4, .inl (F 10))) := rfl
theorem xx_10 : xW G β F L S 10 0 = some (.inl (G.2.1 5, 6, .inr (.inr (.inr (.inr (xx_c6 β)))))) := rfl
theorem xx_12 : xW G β F L S 12 0 = some (.inr (4, [.long (L 23 0), .int (F 24 0)])) := rfl
theorem xx_b {k i : Nat} (hk : 13 ≤ k) : xW G β F L S k i = none := by
  match k, hk with
  | n + 13, _ => rfl
theorem xx_e5 {j : Nat} (h : j < xx_n S 1) : jj_e β (xW G β F L S) (β 5 j) := ⟨5, j, 1, _, rfl, xx_5 h, Or.inl rfl⟩
theorem xx_e3 {j : Nat} (h : j < xx_n S 0) : jj_e β (xW G β F L S) (β 3 j) := ⟨3, j, 2, _, rfl, xx_3 h, Or.inr rfl⟩
theorem xx_f8_at {f : Nat → Int32} {i p : Nat} (h : p < 8) : xx_f8 f i p = f (8 * i + p) := if_pos h
theorem xx_f4_at {f : Nat → Int32} {i p : Nat} (h : p < 4) : xx_f4 f i p = f (4 * i + p) := if_pos h
theorem xx_c36_at {c : Nat} (h : c < 36) : xx_c36 β c = some (β 7 c) := if_pos h
theorem xx_c6_at {c : Nat} (h : c < 6) : xx_c6 β c = some (β 11 c) := if_pos h
theorem xx_row_no {li j : Nat} (h : xx_n S li ≤ j) : xx_row β S li j = none := if_neg (by omega)
theorem xx_row_at {li j : Nat} (h : j < xx_n S li) : xx_row β S li j = some (β (xx_kd li) (xx_g S li j)) := if_pos h
end XW
/-! what holds between the calls -/
def xx_In (a22 a5 : Int32) (S : xx_S) : Prop := a22 = nI (xx_n S 1) ∧ xx_n S 1 ≤ 100 ∧ a5 = nI (xx_n S 0) ∧ xx_n S 0 ≤ 12 ∧ (∀ k, k < xx_n S 0 → xx_g S 0 k = k) ∧ (∀ k, k < xx_n S 1 → xx_g S 1 k = k) ∧ ∀ li, li < xx_n S 1 + 3 → xx_n S li ≤ xx_cp S li ∧ xx_cp S li ≤ 150
def xx_Ir (f14 : Nat → Int32) (S : xx_S) : Prop := (∀ k, k < xx_n S 2 → xx_g S 2 k < xx_n S 1) ∧ (∀ a b, a < xx_n S 2 → b < xx_n S 2 → xx_g S 2 a = xx_g S 2 b → a = b) ∧ ∀ j, j < xx_n S 1 → (f14 j = 2 ↔ ∃ k, k < xx_n S 2 ∧ xx_g S 2 k = j)
def xx_Id (f18 : Nat → Int32) (S : xx_S) : Prop := (∀ j, j < xx_n S 1 → ∀ k, k < xx_n S (j + 3) → xx_g S (j + 3) k < xx_n S 1) ∧ (∀ j, j < xx_n S 1 → ∀ a b, a < xx_n S (j + 3) → b < xx_n S (j + 3) → xx_g S (j + 3) a = xx_g S (j + 3) b → a = b) ∧ ∀ j, j < xx_n S 1 → ∀ i, i < xx_n S 1 → (¬ f18 (100 * j + i) = 0 ↔ ∃ k, k < xx_n S (j + 3) ∧ xx_g S (j + 3) k = i)
def xx_Ia (f3 f14 : Nat → Int32) (S : xx_S) : Prop := (∀ j, j < xx_n S 1 → f14 j = 2 → ∃ i, xx_a S j = some i ∧ i < xx_n S 0 ∧ f3 i = nI j) ∧ (∀ i, i < xx_n S 0 → f3 i = -1 ∨ ∃ j, j < xx_n S 1 ∧ f3 i = nI j ∧ f14 j = 2 ∧ xx_a S j = some i) ∧ ∀ j, j < xx_n S 1 → ∀ i, xx_a S j = some i → i < xx_n S 0
def xx_Ifi (f2 f3 f4 : Nat → Int32) (S : xx_S) : Prop := ∀ i, xx_n S 0 ≤ i → i < 12 → f3 i = -1 ∧ f4 i = 0 ∧ ∀ p, p < 8 → f2 (8 * i + p) = -1
def xx_Ifj (f14 f15 f16 f17 f18 : Nat → Int32) (l21 : Nat → Int64) (S : xx_S) : Prop := ∀ j, xx_n S 1 ≤ j → j < 100 → f14 j = 0 ∧ f16 j = 0 ∧ f17 j = 0 ∧ l21 j = 0 ∧ (∀ p, p < 4 → f15 (4 * j + p) = 0) ∧ ∀ k, k < 100 → f18 (100 * j + k) = 0 ∧ f18 (100 * k + j) = 0
def xx_Iv (f14 f16 f11 f12 : Nat → Int32) (l20 : Nat → Int64) (now : Int64) (S : xx_S) : Prop := ∀ j, j < xx_n S 1 → (f14 j = 0 ∨ f14 j = 2 ∨ f14 j = 3) ∧ (f16 j = 0 ∨ f16 j = 1) ∧ (f11 j = nI (ix_t (f11 j)) ∧ ix_t (f11 j) < 36) ∧ (f12 j = nI (ix_t (f12 j)) ∧ ix_t (f12 j) ≤ 15) ∧ ¬ l20 j < 0 ∧ ¬ now < l20 j
def xx_Ic (most : Int32) (per now : Int64) (f9 : Nat → Int32) : Prop := (most = nI (ix_t most) ∧ ix_t most ≤ 15) ∧ ¬ per < 0 ∧ ¬ now < 0 ∧ ∀ c, c < 36 → f9 c = nI (ix_t (f9 c)) ∧ ix_t (f9 c) ≤ 1000
def xx_Il (f2 : Nat → Int32) : Prop := ∀ q, q < 96 → f2 q = -1 ∨ (f2 q = nI (ix_t (f2 q)) ∧ ix_t (f2 q) < 36)
def xx_I (F : mm_F) (L : mm_L) (S : xx_S) : Prop := xx_In (F 22 0) (F 5 0) S ∧ xx_Ir (F 14) S ∧ xx_Id (F 18) S ∧ xx_Ia (F 3) (F 14) S ∧ xx_Ifi (F 2) (F 3) (F 4) S ∧ xx_Ifj (F 14) (F 15) (F 16) (F 17) (F 18) (L 21) S ∧ xx_Iv (F 14) (F 16) (F 11) (F 12) (L 20) (L 1 0) S ∧ xx_Ic (F 24 0) (L 23 0) (L 1 0) (F 9) ∧ xx_Il (F 2)
section XI
variable {F : mm_F} {L : mm_L} {S : xx_S}
theorem xx_I.n (h : xx_I F L S) : F 22 0 = nI (xx_n S 1) := h.1.1
theorem xx_I.h100 (h : xx_I F L S) : xx_n S 1 ≤ 100 := h.1.2.1
theorem xx_I.ni (h : xx_I F L S) : F 5 0 = nI (xx_n S 0) := h.1.2.2.1
theorem xx_I.h12 (h : xx_I F L S) : xx_n S 0 ≤ 12 := h.1.2.2.2.1
theorem xx_I.g0 (h : xx_I F L S) {k : Nat} (hk : k < xx_n S 0) : xx_g S 0 k = k := h.1.2.2.2.2.1 k hk
theorem xx_I.g1 (h : xx_I F L S) {k : Nat} (hk : k < xx_n S 1) : xx_g S 1 k = k := h.1.2.2.2.2.2.1 k hk
theorem xx_I.cap (h : xx_I F L S) {li : Nat} (hk : li < xx_n S 1 + 3) : xx_n S li ≤ xx_cp S li ∧ xx_cp S li ≤ 150 := h.1.2.2.2.2.2.2 li hk
theorem xx_I.rg (h : xx_I F L S) {k : Nat} (hk : k < xx_n S 2) : xx_g S 2 k < xx_n S 1 := h.2.1.1 k hk
theorem xx_I.rj (h : xx_I F L S) {a b : Nat} (ha : a < xx_n S 2) (hb : b < xx_n S 2) (e : xx_g S 2 a = xx_g S 2 b) : a = b := h.2.1.2.1 a b ha hb e
theorem xx_I.rm (h : xx_I F L S) {j : Nat} (hj : j < xx_n S 1) : F 14 j = 2 ↔ ∃ k, k < xx_n S 2 ∧ xx_g S 2 k = j := h.2.1.2.2 j hj
theorem xx_I.dg (h : xx_I F L S) {j k : Nat} (hj : j < xx_n S 1) (hk : k < xx_n S (j + 3)) : xx_g S (j + 3) k < xx_n S 1 := h.2.2.1.1 j hj k hk
theorem xx_I.dj (h : xx_I F L S) {j a b : Nat} (hj : j < xx_n S 1) (ha : a < xx_n S (j + 3)) (hb : b < xx_n S (j + 3)) (e : xx_g S (j + 3) a = xx_g S (j + 3) b) : a = b := h.2.2.1.2.1 j hj a b ha hb e
theorem xx_I.dm (h : xx_I F L S) {j i : Nat} (hj : j < xx_n S 1) (hi : i < xx_n S 1) : ¬ F 18 (100 * j + i) = 0 ↔ ∃ k, k < xx_n S (j + 3) ∧ xx_g S (j + 3) k = i := h.2.2.1.2.2 j hj i hi
theorem xx_I.v (h : xx_I F L S) {j : Nat} (hj : j < xx_n S 1) : (F 14 j = 0 ∨ F 14 j = 2 ∨ F 14 j = 3) ∧ (F 16 j = 0 ∨ F 16 j = 1) ∧ (F 11 j = nI (ix_t (F 11 j)) ∧ ix_t (F 11 j) < 36) ∧ (F 12 j = nI (ix_t (F 12 j)) ∧ ix_t (F 12 j) ≤ 15) ∧ ¬ L 20 j < 0 ∧ ¬ L 1 0 < L 20 j := h.2.2.2.2.2.2.1 j hj
theorem xx_I.c (h : xx_I F L S) : xx_Ic (F 24 0) (L 23 0) (L 1 0) (F 9) := h.2.2.2.2.2.2.2.1
theorem xx_I.l (h : xx_I F L S) : xx_Il (F 2) := h.2.2.2.2.2.2.2.2
theorem xx_I.cl (h : xx_I F L S) : mm_cl F (xx_n S 1) := fun j hj => (h.v hj).2.2.1
theorem xx_I.row0 (h : xx_I F L S) {β : ix_B} {k : Nat} (hk : k < xx_n S 0) : xx_row β S 0 k = some (β 3 k) := by rw [xx_row_at hk, h.g0 hk]; rfl
theorem xx_I.row1 (h : xx_I F L S) {β : ix_B} {k : Nat} (hk : k < xx_n S 1) : xx_row β S 1 k = some (β 5 k) := by rw [xx_row_at hk, h.g1 hk]; rfl
theorem xx_row2 {β : ix_B} {k : Nat} (hk : k < xx_n S 2) : xx_row β S 2 k = some (β 5 (xx_g S 2 k)) := by rw [xx_row_at hk]; rfl
theorem xx_row3 {β : ix_B} {j k : Nat} (hk : k < xx_n S (j + 3)) : xx_row β S (j + 3) k = some (β 5 (xx_g S (j + 3) k)) := by rw [xx_row_at hk, xx_kd, if_neg (by omega)]
/-- elements of the lists are jobs and initiators of the world -/
theorem xx_I.el (h : xx_I F L S) {G : ix_G} {β : ix_B} {li j y : Nat} (hli : li < xx_n S 1 + 3) (hy : xx_row β S li j = some y) : jj_e β (xW G β F L S) y := by
  by_cases hj : j < xx_n S li
  · match li, hli, hj, hy with
    | 0, _, hj, hy => rw [h.row0 hj] at hy; cases hy; exact xx_e3 hj
    | 1, _, hj, hy => rw [h.row1 hj] at hy; cases hy; exact xx_e5 hj
    | 2, _, hj, hy => rw [xx_row2 hj] at hy; cases hy; exact xx_e5 (h.rg hj)
    | q + 3, hq, hj, hy => rw [xx_row3 hj] at hy; cases hy; exact xx_e5 (h.dg (by omega) hj)
  · rw [xx_row_no (by omega)] at hy; cases hy
end XI
