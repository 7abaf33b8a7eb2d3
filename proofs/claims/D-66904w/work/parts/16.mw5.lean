/-! THE REFERENCE: its constructor -/
def mm_r (β : ix_B) (i k : Nat) : Value := if k < i then .ref (β k 0) else .null
def mm_Mo (β : ix_B) (i : Nat) : List Value := [.int 0, .long 0, mm_r β i 2, mm_r β i 3, mm_r β i 4, .int 0, mm_r β i 6, mm_r β i 7, mm_r β i 8, mm_r β i 9, mm_r β i 10, mm_r β i 11, mm_r β i 12, mm_r β i 13, mm_r β i 14, mm_r β i 15, mm_r β i 16, mm_r β i 17, mm_r β i 18, mm_r β i 19, mm_r β i 20, mm_r β i 21, .int 0, .long 0, .int 0]
def mm_M (dA : Nat → ClassId) (β : ix_B) (i : Nat) : ix_N := fun k j => if j = 0 then (if k = 0 then some (.inr (14, mm_Mo β i)) else if k < i then mm_N dA β (fun _ _ => 0) (fun _ _ => 0) k 0 else none) else none
theorem mm_Mst {dA : Nat → ClassId} {β b : ix_B} {k : Nat} {ar : va_E} (h0 : k ≠ 0) (h22 : k < 22) (har : mm_N dA b (fun _ _ => 0) (fun _ _ => 0) k 0 = some ar) (ho : mm_Mo b (k + 1) = (mm_Mo β k).set k (.ref (b k 0))) (hb : ∀ x y, ¬ (x = k ∧ y = 0) → b x y = β x y) :
    ∀ x y e, mm_M dA b (k + 1) x y = some e → ix_u (ix_u (mm_M dA β k) k 0 (some ar)) 0 0 (some (.inr (14, (mm_Mo β k).set k (.ref (b k 0))))) x y = some e := by
  intro x y e h
  by_cases hy : y = 0
  · subst hy
    by_cases hx : x = 0
    · subst hx
      rw [ix_us]
      simpa [mm_M, ho] using h
    · rw [ix_un (fun z => hx z.1)]
      by_cases hk : x = k
      · subst hk
        rw [ix_us]
        simpa [mm_M, hx, har] using h
      · rw [ix_un (fun z => hk z.1)]
        by_cases hlt : x < k
        · simp only [mm_M, hx, hlt, show x < k + 1 by omega, if_true, if_false] at h ⊢
          simpa [mm_N, hx] using h
        · simp [mm_M, hx, show ¬ x < k + 1 by omega] at h
  · simp [mm_M, hy] at h
theorem mm_M56 {dA : Nat → ClassId} {b : ix_B} : ∀ x y e, mm_M dA b 6 x y = some e → mm_M dA b 5 x y = some e := by
  intro x y e h
  by_cases hy : y = 0
  · subst hy
    by_cases hx : x = 0
    · subst hx
      exact h
    · by_cases h5 : x = 5
      · subst h5
        simp [mm_M, mm_N, mm_k] at h
      · by_cases hlt : x < 5
        · simpa only [mm_M, hx, hlt, show x < 6 by omega, if_true, if_false] using h
        · simp [mm_M, hx, show ¬ x < 6 by omega] at h
  · simp [mm_M, hy] at h
/-- the reference's world without the law's own array -/
def mm_N0 (dA : Nat → ClassId) (β : ix_B) (F : mm_F) (L : mm_L) : ix_N := fun k i => if k = 30 then none else mm_N dA β F L k i
theorem mm_k_3 {k : Nat} (h : 22 ≤ k) (h30 : k ≠ 30) : mm_k k = (3, 0) := by
  by_cases h31 : 31 ≤ k
  · obtain ⟨m, rfl⟩ : ∃ m, k = m + 31 := ⟨k - 31, by omega⟩
    rfl
  · have : k = 22 ∨ k = 23 ∨ k = 24 ∨ k = 25 ∨ k = 26 ∨ k = 27 ∨ k = 28 ∨ k = 29 := by omega
    rcases this with rfl | rfl | rfl | rfl | rfl | rfl | rfl | rfl <;> rfl
theorem mm_M22 {dA : Nat → ClassId} {b : ix_B} : ∀ x y e, mm_N0 dA b (fun _ _ => 0) (fun _ _ => 0) x y = some e → mm_M dA b 22 x y = some e := by
  intro x y e h
  by_cases h30 : x = 30
  · simp [mm_N0, h30] at h
  · by_cases hy : y = 0
    · subst hy
      by_cases hx : x = 0
      · subst hx
        exact h
      · by_cases hlt : x < 22
        · simpa only [mm_M, mm_N0, h30, hx, hlt, if_true, if_false] using h
        · simp [mm_N0, h30, mm_N, hx, mm_k_3 (show 22 ≤ x by omega) h30] at h
    · simp [mm_N0, h30, mm_N, hy] at h
theorem mm_upI0 {dA : Nat → ClassId} {β : ix_B} {F : mm_F} {L : mm_L} (k : Nat) {f : Nat → Int32} (hk : (mm_k k).1 = 0) : ∀ a b e, mm_N0 dA β (va_up F k f) L a b = some e → ix_u (mm_N0 dA β F L) k 0 (some (.inl (dA 0, (mm_k k).2, .inl f))) a b = some e := by
  intro a b e h
  by_cases h30 : a = 30
  · simp [mm_N0, h30] at h
  · simp only [mm_N0, h30, if_false] at h
    have h2 := mm_upI k hk a b e h
    by_cases hc : a = k ∧ b = 0
    · obtain ⟨rfl, rfl⟩ := hc
      rw [ix_us] at h2 ⊢
      exact h2
    · rw [ix_un hc] at h2 ⊢
      simpa only [mm_N0, h30, if_false] using h2
def mm_f1 (k : Nat) : mm_F := fun a b => if a = 2 ∧ b < k then -1 else 0
def mm_f2 (k : Nat) : mm_F := fun a b => if a = 6 ∧ b < k then 40 else mm_f1 96 a b
def mm_f3 (k : Nat) : mm_F := fun a b => if a = 3 ∧ b < k then -1 else mm_f2 36 a b
theorem mm_f1s {k : Nat} : mm_wr (mm_f1 k) 2 k (-1) = mm_f1 (k + 1) := by
  funext a b
  by_cases ha : a = 2
  · subst ha
    by_cases hb : b = k
    · subst hb; simp [va_up, mm_f1]
    · simp [va_up, mm_f1, hb, show b < k + 1 ↔ b < k by omega]
  · simp [va_up, mm_f1, ha]
theorem mm_f2s {k : Nat} : mm_wr (mm_f2 k) 6 k 40 = mm_f2 (k + 1) := by
  funext a b
  by_cases ha : a = 6
  · subst ha
    by_cases hb : b = k
    · subst hb; simp [va_up, mm_f2]
    · simp [va_up, mm_f2, hb, show b < k + 1 ↔ b < k by omega]
  · simp [va_up, mm_f2, ha]
theorem mm_f3s {k : Nat} : mm_wr (mm_f3 k) 3 k (-1) = mm_f3 (k + 1) := by
  funext a b
  by_cases ha : a = 3
  · subst ha
    by_cases hb : b = k
    · subst hb; simp [va_up, mm_f3]
    · simp [va_up, mm_f3, hb, show b < k + 1 ↔ b < k by omega]
  · simp [va_up, mm_f3, ha]
set_option maxHeartbeats 4000000 in
set_option maxRecDepth 100000 in
theorem mm_init_ (l : Launch) (G : ix_G) (β : ix_B) (sz : Nat)  : Met l yX11_init (ws_ yX11_init cX11_init 2 (none)) ({ frames := 1, cells := 20, slots := 12000, locals := 40 } : Room) (ix_P G β (mm_M G.2.1 β 2) sz [.ref (β 0 0)]) (ix_Q (none) (fun (H9 : Heap) => ∃ b : ix_B, b 0 0 = β 0 0 ∧ ix_H G.1 (ix_A β (mm_M G.2.1 β 2) sz) b (mm_N0 G.2.1 b (mm_f3 12) (fun _ _ => 0)) H9) (ix_A β (mm_M G.2.1 β 2) sz)) 20 12000 (ix_A β (mm_M G.2.1 β 2) sz) := by
  refine ix_writer (by decide +kernel) (Nat.le_of_ble_eq_true rfl) ?_
  intro p e s m below meth c A S hr hlocks hnm hC hsz hH hS hA0 hAz hAe ls hl
  have hx := S.1
  have hb := S.2.1
  have hts := S.2.2.2.2
  have S : CallFix p m c cX11_init 2 s ([.ref (β 0 0)] : List Value).toArray lw_all "InitiatorRowsModel" := S
  have hl : lv_has ls 2 [(0, .ref (β 0 0))] := hl
  have e0 : β 0 0 = β 0 0 := rfl
  refine lv_aload_n hx hb dX11_init_0 rfl (lv_at hl 0 rfl) ?_
  refine W.objInit hx hb S.2.2.2.1 (hts _ q831) (hts _ q57) (hts _ q58) rfl (by rw [S.2.2.1]; exact hl.1) rfl dX11_init_1 (Nat.le_of_ble_eq_true rfl) (Nat.le_of_ble_eq_true rfl) ?_
  refine W.eq (g2 := F0 m 4 ls []) rfl ?_
  refine lv_aload_n hx hb dX11_init_4 rfl (lv_at hl 0 rfl) ?_
  refine lv_bipush (v := 96) hx hb dX11_init_5 (by decide) ?_
  refine ix_newa (atype := .int) S hC hH hS hA0 2 0 0 q114 rfl (a0 := (96, .inl (fun _ => 0))) (fun _ => rfl) (j := 96) (rfl : (96 : Int32) = nI 96) (by omega) (Nat.le_of_ble_eq_true rfl) (Nat.le_of_ble_eq_true rfl) dX11_init_7 (fun b_1 H_2 hb_ hbq hH hS hz => ?_)
  have e0 : β 0 0 = b_1 0 0 := e0.trans (hb_ 0 0 (by decide)).symm
  refine ix_putF S hC hH hS (fs := mm_Mo β 2) (rfl : (ix_u (mm_M G.2.1 β 2) 2 0 (some (.inl (G.2.1 0, 96, .inl (fun _ => 0))))) 0 0 = _) e0 rfl in_X11 tyX11 tyX11_ok nmX11 2 (by decide) q834 (fun _ h9 => h9) rfl hnm rfl (rfl) (rfl) (show 2 < 25 by decide) dX11_init_9 (fun H_3 locs_4 hH hS hz => ?_)
  have hH : ix_H G.1 A b_1 (mm_M G.2.1 b_1 3) H_3 := hH.to (mm_Mst (by decide) (by decide) rfl (by simp [mm_Mo, mm_r, hb_]) (fun x y h => hb_ x y h))
  refine lv_aload_n hx hb dX11_init_12 rfl (lv_at hl 0 rfl) ?_
  refine lv_bipush (v := 12) hx hb dX11_init_13 (by decide) ?_
  refine ix_newa (atype := .int) S hC hH hS hA0 3 0 0 q114 rfl (a0 := (12, .inl (fun _ => 0))) (fun _ => rfl) (j := 12) (rfl : (12 : Int32) = nI 12) (by omega) (Nat.le_of_ble_eq_true rfl) (Nat.le_of_ble_eq_true rfl) dX11_init_15 (fun b_5 H_6 hb_ hbq hH hS hz => ?_)
  have e0 : β 0 0 = b_5 0 0 := e0.trans (hb_ 0 0 (by decide)).symm
  refine ix_putF S hC hH hS (fs := mm_Mo b_1 3) (rfl : (ix_u (mm_M G.2.1 b_1 3) 3 0 (some (.inl (G.2.1 0, 12, .inl (fun _ => 0))))) 0 0 = _) e0 rfl in_X11 tyX11 tyX11_ok nmX11 3 (by decide) q835 (fun _ h9 => h9) rfl hnm rfl (rfl) (rfl) (show 3 < 25 by decide) dX11_init_17 (fun H_7 locs_8 hH hS hz => ?_)
  have hH : ix_H G.1 A b_5 (mm_M G.2.1 b_5 4) H_7 := hH.to (mm_Mst (by decide) (by decide) rfl (by simp [mm_Mo, mm_r, hb_]) (fun x y h => hb_ x y h))
  refine lv_aload_n hx hb dX11_init_20 rfl (lv_at hl 0 rfl) ?_
  refine lv_bipush (v := 12) hx hb dX11_init_21 (by decide) ?_
  refine ix_newa (atype := .boolean) S hC hH hS hA0 4 0 2 q490 rfl (a0 := (12, .inl (fun _ => 0))) (fun _ => rfl) (j := 12) (rfl : (12 : Int32) = nI 12) (by omega) (Nat.le_of_ble_eq_true rfl) (Nat.le_of_ble_eq_true rfl) dX11_init_23 (fun b_9 H_10 hb_ hbq hH hS hz => ?_)
  have e0 : β 0 0 = b_9 0 0 := e0.trans (hb_ 0 0 (by decide)).symm
  refine ix_putF S hC hH hS (fs := mm_Mo b_5 4) (rfl : (ix_u (mm_M G.2.1 b_5 4) 4 0 (some (.inl (G.2.1 2, 12, .inl (fun _ => 0))))) 0 0 = _) e0 rfl in_X11 tyX11 tyX11_ok nmX11 4 (by decide) q836 (fun _ h9 => h9) rfl hnm rfl (rfl) (rfl) (show 4 < 25 by decide) dX11_init_25 (fun H_11 locs_12 hH hS hz => ?_)
  have hH : ix_H G.1 A b_9 (mm_M G.2.1 b_9 5) H_11 := hH.to (mm_Mst (by decide) (by decide) rfl (by simp [mm_Mo, mm_r, hb_]) (fun x y h => hb_ x y h))
  have hH : ix_H G.1 A b_9 (mm_M G.2.1 b_9 6) H_11 := hH.to mm_M56
  refine lv_aload_n hx hb dX11_init_28 rfl (lv_at hl 0 rfl) ?_
  refine lv_bipush (v := 36) hx hb dX11_init_29 (by decide) ?_
  refine ix_newa (atype := .int) S hC hH hS hA0 6 0 0 q114 rfl (a0 := (36, .inl (fun _ => 0))) (fun _ => rfl) (j := 36) (rfl : (36 : Int32) = nI 36) (by omega) (Nat.le_of_ble_eq_true rfl) (Nat.le_of_ble_eq_true rfl) dX11_init_31 (fun b_13 H_14 hb_ hbq hH hS hz => ?_)
  have e0 : β 0 0 = b_13 0 0 := e0.trans (hb_ 0 0 (by decide)).symm
  refine ix_putF S hC hH hS (fs := mm_Mo b_9 6) (rfl : (ix_u (mm_M G.2.1 b_9 6) 6 0 (some (.inl (G.2.1 0, 36, .inl (fun _ => 0))))) 0 0 = _) e0 rfl in_X11 tyX11 tyX11_ok nmX11 6 (by decide) q838 (fun _ h9 => h9) rfl hnm rfl (rfl) (rfl) (show 6 < 25 by decide) dX11_init_33 (fun H_15 locs_16 hH hS hz => ?_)
  have hH : ix_H G.1 A b_13 (mm_M G.2.1 b_13 7) H_15 := hH.to (mm_Mst (by decide) (by decide) rfl (by simp [mm_Mo, mm_r, hb_]) (fun x y h => hb_ x y h))
  refine lv_aload_n hx hb dX11_init_36 rfl (lv_at hl 0 rfl) ?_
  refine lv_bipush (v := 36) hx hb dX11_init_37 (by decide) ?_
  refine ix_newa (atype := .int) S hC hH hS hA0 7 0 0 q114 rfl (a0 := (36, .inl (fun _ => 0))) (fun _ => rfl) (j := 36) (rfl : (36 : Int32) = nI 36) (by omega) (Nat.le_of_ble_eq_true rfl) (Nat.le_of_ble_eq_true rfl) dX11_init_39 (fun b_17 H_18 hb_ hbq hH hS hz => ?_)
  have e0 : β 0 0 = b_17 0 0 := e0.trans (hb_ 0 0 (by decide)).symm
  refine ix_putF S hC hH hS (fs := mm_Mo b_13 7) (rfl : (ix_u (mm_M G.2.1 b_13 7) 7 0 (some (.inl (G.2.1 0, 36, .inl (fun _ => 0))))) 0 0 = _) e0 rfl in_X11 tyX11 tyX11_ok nmX11 7 (by decide) q839 (fun _ h9 => h9) rfl hnm rfl (rfl) (rfl) (show 7 < 25 by decide) dX11_init_41 (fun H_19 locs_20 hH hS hz => ?_)
  have hH : ix_H G.1 A b_17 (mm_M G.2.1 b_17 8) H_19 := hH.to (mm_Mst (by decide) (by decide) rfl (by simp [mm_Mo, mm_r, hb_]) (fun x y h => hb_ x y h))
  refine lv_aload_n hx hb dX11_init_44 rfl (lv_at hl 0 rfl) ?_
  refine lv_bipush (v := 36) hx hb dX11_init_45 (by decide) ?_
  refine ix_newa (atype := .int) S hC hH hS hA0 8 0 0 q114 rfl (a0 := (36, .inl (fun _ => 0))) (fun _ => rfl) (j := 36) (rfl : (36 : Int32) = nI 36) (by omega) (Nat.le_of_ble_eq_true rfl) (Nat.le_of_ble_eq_true rfl) dX11_init_47 (fun b_21 H_22 hb_ hbq hH hS hz => ?_)
  have e0 : β 0 0 = b_21 0 0 := e0.trans (hb_ 0 0 (by decide)).symm
  refine ix_putF S hC hH hS (fs := mm_Mo b_17 8) (rfl : (ix_u (mm_M G.2.1 b_17 8) 8 0 (some (.inl (G.2.1 0, 36, .inl (fun _ => 0))))) 0 0 = _) e0 rfl in_X11 tyX11 tyX11_ok nmX11 8 (by decide) q840 (fun _ h9 => h9) rfl hnm rfl (rfl) (rfl) (show 8 < 25 by decide) dX11_init_49 (fun H_23 locs_24 hH hS hz => ?_)
  have hH : ix_H G.1 A b_21 (mm_M G.2.1 b_21 9) H_23 := hH.to (mm_Mst (by decide) (by decide) rfl (by simp [mm_Mo, mm_r, hb_]) (fun x y h => hb_ x y h))
  refine lv_aload_n hx hb dX11_init_52 rfl (lv_at hl 0 rfl) ?_
  refine lv_bipush (v := 36) hx hb dX11_init_53 (by decide) ?_
  refine ix_newa (atype := .int) S hC hH hS hA0 9 0 0 q114 rfl (a0 := (36, .inl (fun _ => 0))) (fun _ => rfl) (j := 36) (rfl : (36 : Int32) = nI 36) (by omega) (Nat.le_of_ble_eq_true rfl) (Nat.le_of_ble_eq_true rfl) dX11_init_55 (fun b_25 H_26 hb_ hbq hH hS hz => ?_)
  have e0 : β 0 0 = b_25 0 0 := e0.trans (hb_ 0 0 (by decide)).symm
  refine ix_putF S hC hH hS (fs := mm_Mo b_21 9) (rfl : (ix_u (mm_M G.2.1 b_21 9) 9 0 (some (.inl (G.2.1 0, 36, .inl (fun _ => 0))))) 0 0 = _) e0 rfl in_X11 tyX11 tyX11_ok nmX11 9 (by decide) q841 (fun _ h9 => h9) rfl hnm rfl (rfl) (rfl) (show 9 < 25 by decide) dX11_init_57 (fun H_27 locs_28 hH hS hz => ?_)
  have hH : ix_H G.1 A b_25 (mm_M G.2.1 b_25 10) H_27 := hH.to (mm_Mst (by decide) (by decide) rfl (by simp [mm_Mo, mm_r, hb_]) (fun x y h => hb_ x y h))
  refine lv_aload_n hx hb dX11_init_60 rfl (lv_at hl 0 rfl) ?_
  refine lv_iconst (v := 4) hx hb dX11_init_61 (by decide) ?_
  refine ix_newa (atype := .int) S hC hH hS hA0 10 0 0 q114 rfl (a0 := (4, .inl (fun _ => 0))) (fun _ => rfl) (j := 4) (rfl : (4 : Int32) = nI 4) (by omega) (Nat.le_of_ble_eq_true rfl) (Nat.le_of_ble_eq_true rfl) dX11_init_62 (fun b_29 H_30 hb_ hbq hH hS hz => ?_)
  have e0 : β 0 0 = b_29 0 0 := e0.trans (hb_ 0 0 (by decide)).symm
  refine ix_putF S hC hH hS (fs := mm_Mo b_25 10) (rfl : (ix_u (mm_M G.2.1 b_25 10) 10 0 (some (.inl (G.2.1 0, 4, .inl (fun _ => 0))))) 0 0 = _) e0 rfl in_X11 tyX11 tyX11_ok nmX11 10 (by decide) q842 (fun _ h9 => h9) rfl hnm rfl (rfl) (rfl) (show 10 < 25 by decide) dX11_init_64 (fun H_31 locs_32 hH hS hz => ?_)
  have hH : ix_H G.1 A b_29 (mm_M G.2.1 b_29 11) H_31 := hH.to (mm_Mst (by decide) (by decide) rfl (by simp [mm_Mo, mm_r, hb_]) (fun x y h => hb_ x y h))
  refine lv_aload_n hx hb dX11_init_67 rfl (lv_at hl 0 rfl) ?_
  refine lv_bipush (v := 100) hx hb dX11_init_68 (by decide) ?_
  refine ix_newa (atype := .int) S hC hH hS hA0 11 0 0 q114 rfl (a0 := (100, .inl (fun _ => 0))) (fun _ => rfl) (j := 100) (rfl : (100 : Int32) = nI 100) (by omega) (Nat.le_of_ble_eq_true rfl) (Nat.le_of_ble_eq_true rfl) dX11_init_70 (fun b_33 H_34 hb_ hbq hH hS hz => ?_)
  have e0 : β 0 0 = b_33 0 0 := e0.trans (hb_ 0 0 (by decide)).symm
  refine ix_putF S hC hH hS (fs := mm_Mo b_29 11) (rfl : (ix_u (mm_M G.2.1 b_29 11) 11 0 (some (.inl (G.2.1 0, 100, .inl (fun _ => 0))))) 0 0 = _) e0 rfl in_X11 tyX11 tyX11_ok nmX11 11 (by decide) q843 (fun _ h9 => h9) rfl hnm rfl (rfl) (rfl) (show 11 < 25 by decide) dX11_init_72 (fun H_35 locs_36 hH hS hz => ?_)
  have hH : ix_H G.1 A b_33 (mm_M G.2.1 b_33 12) H_35 := hH.to (mm_Mst (by decide) (by decide) rfl (by simp [mm_Mo, mm_r, hb_]) (fun x y h => hb_ x y h))
  refine lv_aload_n hx hb dX11_init_75 rfl (lv_at hl 0 rfl) ?_
  refine lv_bipush (v := 100) hx hb dX11_init_76 (by decide) ?_
  refine ix_newa (atype := .int) S hC hH hS hA0 12 0 0 q114 rfl (a0 := (100, .inl (fun _ => 0))) (fun _ => rfl) (j := 100) (rfl : (100 : Int32) = nI 100) (by omega) (Nat.le_of_ble_eq_true rfl) (Nat.le_of_ble_eq_true rfl) dX11_init_78 (fun b_37 H_38 hb_ hbq hH hS hz => ?_)
  have e0 : β 0 0 = b_37 0 0 := e0.trans (hb_ 0 0 (by decide)).symm
  refine ix_putF S hC hH hS (fs := mm_Mo b_33 12) (rfl : (ix_u (mm_M G.2.1 b_33 12) 12 0 (some (.inl (G.2.1 0, 100, .inl (fun _ => 0))))) 0 0 = _) e0 rfl in_X11 tyX11 tyX11_ok nmX11 12 (by decide) q844 (fun _ h9 => h9) rfl hnm rfl (rfl) (rfl) (show 12 < 25 by decide) dX11_init_80 (fun H_39 locs_40 hH hS hz => ?_)
  have hH : ix_H G.1 A b_37 (mm_M G.2.1 b_37 13) H_39 := hH.to (mm_Mst (by decide) (by decide) rfl (by simp [mm_Mo, mm_r, hb_]) (fun x y h => hb_ x y h))
  refine lv_aload_n hx hb dX11_init_83 rfl (lv_at hl 0 rfl) ?_
  refine lv_bipush (v := 100) hx hb dX11_init_84 (by decide) ?_
  refine ix_newa (atype := .int) S hC hH hS hA0 13 0 0 q114 rfl (a0 := (100, .inl (fun _ => 0))) (fun _ => rfl) (j := 100) (rfl : (100 : Int32) = nI 100) (by omega) (Nat.le_of_ble_eq_true rfl) (Nat.le_of_ble_eq_true rfl) dX11_init_86 (fun b_41 H_42 hb_ hbq hH hS hz => ?_)
  have e0 : β 0 0 = b_41 0 0 := e0.trans (hb_ 0 0 (by decide)).symm
  refine ix_putF S hC hH hS (fs := mm_Mo b_37 13) (rfl : (ix_u (mm_M G.2.1 b_37 13) 13 0 (some (.inl (G.2.1 0, 100, .inl (fun _ => 0))))) 0 0 = _) e0 rfl in_X11 tyX11 tyX11_ok nmX11 13 (by decide) q845 (fun _ h9 => h9) rfl hnm rfl (rfl) (rfl) (show 13 < 25 by decide) dX11_init_88 (fun H_43 locs_44 hH hS hz => ?_)
  have hH : ix_H G.1 A b_41 (mm_M G.2.1 b_41 14) H_43 := hH.to (mm_Mst (by decide) (by decide) rfl (by simp [mm_Mo, mm_r, hb_]) (fun x y h => hb_ x y h))
  refine lv_aload_n hx hb dX11_init_91 rfl (lv_at hl 0 rfl) ?_
  refine lv_bipush (v := 100) hx hb dX11_init_92 (by decide) ?_
  refine ix_newa (atype := .int) S hC hH hS hA0 14 0 0 q114 rfl (a0 := (100, .inl (fun _ => 0))) (fun _ => rfl) (j := 100) (rfl : (100 : Int32) = nI 100) (by omega) (Nat.le_of_ble_eq_true rfl) (Nat.le_of_ble_eq_true rfl) dX11_init_94 (fun b_45 H_46 hb_ hbq hH hS hz => ?_)
  have e0 : β 0 0 = b_45 0 0 := e0.trans (hb_ 0 0 (by decide)).symm
  refine ix_putF S hC hH hS (fs := mm_Mo b_41 14) (rfl : (ix_u (mm_M G.2.1 b_41 14) 14 0 (some (.inl (G.2.1 0, 100, .inl (fun _ => 0))))) 0 0 = _) e0 rfl in_X11 tyX11 tyX11_ok nmX11 14 (by decide) q846 (fun _ h9 => h9) rfl hnm rfl (rfl) (rfl) (show 14 < 25 by decide) dX11_init_96 (fun H_47 locs_48 hH hS hz => ?_)
  have hH : ix_H G.1 A b_45 (mm_M G.2.1 b_45 15) H_47 := hH.to (mm_Mst (by decide) (by decide) rfl (by simp [mm_Mo, mm_r, hb_]) (fun x y h => hb_ x y h))
  refine lv_aload_n hx hb dX11_init_99 rfl (lv_at hl 0 rfl) ?_
  refine lv_sipush (v := 400) hx hb dX11_init_100 (by decide) ?_
  refine ix_newa (atype := .int) S hC hH hS hA0 15 0 0 q114 rfl (a0 := (400, .inl (fun _ => 0))) (fun _ => rfl) (j := 400) (rfl : (400 : Int32) = nI 400) (by omega) (Nat.le_of_ble_eq_true rfl) (Nat.le_of_ble_eq_true rfl) dX11_init_103 (fun b_49 H_50 hb_ hbq hH hS hz => ?_)
  have e0 : β 0 0 = b_49 0 0 := e0.trans (hb_ 0 0 (by decide)).symm
  refine ix_putF S hC hH hS (fs := mm_Mo b_45 15) (rfl : (ix_u (mm_M G.2.1 b_45 15) 15 0 (some (.inl (G.2.1 0, 400, .inl (fun _ => 0))))) 0 0 = _) e0 rfl in_X11 tyX11 tyX11_ok nmX11 15 (by decide) q847 (fun _ h9 => h9) rfl hnm rfl (rfl) (rfl) (show 15 < 25 by decide) dX11_init_105 (fun H_51 locs_52 hH hS hz => ?_)
  have hH : ix_H G.1 A b_49 (mm_M G.2.1 b_49 16) H_51 := hH.to (mm_Mst (by decide) (by decide) rfl (by simp [mm_Mo, mm_r, hb_]) (fun x y h => hb_ x y h))
  refine lv_aload_n hx hb dX11_init_108 rfl (lv_at hl 0 rfl) ?_
  refine lv_bipush (v := 100) hx hb dX11_init_109 (by decide) ?_
  refine ix_newa (atype := .boolean) S hC hH hS hA0 16 0 2 q490 rfl (a0 := (100, .inl (fun _ => 0))) (fun _ => rfl) (j := 100) (rfl : (100 : Int32) = nI 100) (by omega) (Nat.le_of_ble_eq_true rfl) (Nat.le_of_ble_eq_true rfl) dX11_init_111 (fun b_53 H_54 hb_ hbq hH hS hz => ?_)
  have e0 : β 0 0 = b_53 0 0 := e0.trans (hb_ 0 0 (by decide)).symm
  refine ix_putF S hC hH hS (fs := mm_Mo b_49 16) (rfl : (ix_u (mm_M G.2.1 b_49 16) 16 0 (some (.inl (G.2.1 2, 100, .inl (fun _ => 0))))) 0 0 = _) e0 rfl in_X11 tyX11 tyX11_ok nmX11 16 (by decide) q848 (fun _ h9 => h9) rfl hnm rfl (rfl) (rfl) (show 16 < 25 by decide) dX11_init_113 (fun H_55 locs_56 hH hS hz => ?_)
  have hH : ix_H G.1 A b_53 (mm_M G.2.1 b_53 17) H_55 := hH.to (mm_Mst (by decide) (by decide) rfl (by simp [mm_Mo, mm_r, hb_]) (fun x y h => hb_ x y h))
  refine lv_aload_n hx hb dX11_init_116 rfl (lv_at hl 0 rfl) ?_
  refine lv_bipush (v := 100) hx hb dX11_init_117 (by decide) ?_
  refine ix_newa (atype := .boolean) S hC hH hS hA0 17 0 2 q490 rfl (a0 := (100, .inl (fun _ => 0))) (fun _ => rfl) (j := 100) (rfl : (100 : Int32) = nI 100) (by omega) (Nat.le_of_ble_eq_true rfl) (Nat.le_of_ble_eq_true rfl) dX11_init_119 (fun b_57 H_58 hb_ hbq hH hS hz => ?_)
  have e0 : β 0 0 = b_57 0 0 := e0.trans (hb_ 0 0 (by decide)).symm
  refine ix_putF S hC hH hS (fs := mm_Mo b_53 17) (rfl : (ix_u (mm_M G.2.1 b_53 17) 17 0 (some (.inl (G.2.1 2, 100, .inl (fun _ => 0))))) 0 0 = _) e0 rfl in_X11 tyX11 tyX11_ok nmX11 17 (by decide) q849 (fun _ h9 => h9) rfl hnm rfl (rfl) (rfl) (show 17 < 25 by decide) dX11_init_121 (fun H_59 locs_60 hH hS hz => ?_)
  have hH : ix_H G.1 A b_57 (mm_M G.2.1 b_57 18) H_59 := hH.to (mm_Mst (by decide) (by decide) rfl (by simp [mm_Mo, mm_r, hb_]) (fun x y h => hb_ x y h))
  refine lv_aload_n hx hb dX11_init_124 rfl (lv_at hl 0 rfl) ?_
  refine lv_sipush (v := 10000) hx hb dX11_init_125 (by decide) ?_
  refine ix_newa (atype := .boolean) S hC hH hS hA0 18 0 2 q490 rfl (a0 := (10000, .inl (fun _ => 0))) (fun _ => rfl) (j := 10000) (rfl : (10000 : Int32) = nI 10000) (by omega) (Nat.le_of_ble_eq_true rfl) (Nat.le_of_ble_eq_true rfl) dX11_init_128 (fun b_61 H_62 hb_ hbq hH hS hz => ?_)
  have e0 : β 0 0 = b_61 0 0 := e0.trans (hb_ 0 0 (by decide)).symm
  refine ix_putF S hC hH hS (fs := mm_Mo b_57 18) (rfl : (ix_u (mm_M G.2.1 b_57 18) 18 0 (some (.inl (G.2.1 2, 10000, .inl (fun _ => 0))))) 0 0 = _) e0 rfl in_X11 tyX11 tyX11_ok nmX11 18 (by decide) q850 (fun _ h9 => h9) rfl hnm rfl (rfl) (rfl) (show 18 < 25 by decide) dX11_init_130 (fun H_63 locs_64 hH hS hz => ?_)
  have hH : ix_H G.1 A b_61 (mm_M G.2.1 b_61 19) H_63 := hH.to (mm_Mst (by decide) (by decide) rfl (by simp [mm_Mo, mm_r, hb_]) (fun x y h => hb_ x y h))
  refine lv_aload_n hx hb dX11_init_133 rfl (lv_at hl 0 rfl) ?_
  refine lv_bipush (v := 100) hx hb dX11_init_134 (by decide) ?_
  refine ix_newa (atype := .boolean) S hC hH hS hA0 19 0 2 q490 rfl (a0 := (100, .inl (fun _ => 0))) (fun _ => rfl) (j := 100) (rfl : (100 : Int32) = nI 100) (by omega) (Nat.le_of_ble_eq_true rfl) (Nat.le_of_ble_eq_true rfl) dX11_init_136 (fun b_65 H_66 hb_ hbq hH hS hz => ?_)
  have e0 : β 0 0 = b_65 0 0 := e0.trans (hb_ 0 0 (by decide)).symm
  refine ix_putF S hC hH hS (fs := mm_Mo b_61 19) (rfl : (ix_u (mm_M G.2.1 b_61 19) 19 0 (some (.inl (G.2.1 2, 100, .inl (fun _ => 0))))) 0 0 = _) e0 rfl in_X11 tyX11 tyX11_ok nmX11 19 (by decide) q851 (fun _ h9 => h9) rfl hnm rfl (rfl) (rfl) (show 19 < 25 by decide) dX11_init_138 (fun H_67 locs_68 hH hS hz => ?_)
  have hH : ix_H G.1 A b_65 (mm_M G.2.1 b_65 20) H_67 := hH.to (mm_Mst (by decide) (by decide) rfl (by simp [mm_Mo, mm_r, hb_]) (fun x y h => hb_ x y h))
  refine lv_aload_n hx hb dX11_init_141 rfl (lv_at hl 0 rfl) ?_
  refine lv_bipush (v := 100) hx hb dX11_init_142 (by decide) ?_
  refine ix_newa (atype := .long) S hC hH hS hA0 20 0 1 q908 rfl (a0 := (100, .inr (.inl (fun _ => 0)))) (fun _ => rfl) (j := 100) (rfl : (100 : Int32) = nI 100) (by omega) (Nat.le_of_ble_eq_true rfl) (Nat.le_of_ble_eq_true rfl) dX11_init_144 (fun b_69 H_70 hb_ hbq hH hS hz => ?_)
  have e0 : β 0 0 = b_69 0 0 := e0.trans (hb_ 0 0 (by decide)).symm
  refine ix_putF S hC hH hS (fs := mm_Mo b_65 20) (rfl : (ix_u (mm_M G.2.1 b_65 20) 20 0 (some (.inl (G.2.1 1, 100, .inr (.inl (fun _ => 0)))))) 0 0 = _) e0 rfl in_X11 tyX11 tyX11_ok nmX11 20 (by decide) q852 (fun _ h9 => h9) rfl hnm rfl (rfl) (rfl) (show 20 < 25 by decide) dX11_init_146 (fun H_71 locs_72 hH hS hz => ?_)
  have hH : ix_H G.1 A b_69 (mm_M G.2.1 b_69 21) H_71 := hH.to (mm_Mst (by decide) (by decide) rfl (by simp [mm_Mo, mm_r, hb_]) (fun x y h => hb_ x y h))
  refine lv_aload_n hx hb dX11_init_149 rfl (lv_at hl 0 rfl) ?_
  refine lv_bipush (v := 100) hx hb dX11_init_150 (by decide) ?_
  refine ix_newa (atype := .long) S hC hH hS hA0 21 0 1 q908 rfl (a0 := (100, .inr (.inl (fun _ => 0)))) (fun _ => rfl) (j := 100) (rfl : (100 : Int32) = nI 100) (by omega) (Nat.le_of_ble_eq_true rfl) (Nat.le_of_ble_eq_true rfl) dX11_init_152 (fun b_73 H_74 hb_ hbq hH hS hz => ?_)
  have e0 : β 0 0 = b_73 0 0 := e0.trans (hb_ 0 0 (by decide)).symm
  refine ix_putF S hC hH hS (fs := mm_Mo b_69 21) (rfl : (ix_u (mm_M G.2.1 b_69 21) 21 0 (some (.inl (G.2.1 1, 100, .inr (.inl (fun _ => 0)))))) 0 0 = _) e0 rfl in_X11 tyX11 tyX11_ok nmX11 21 (by decide) q853 (fun _ h9 => h9) rfl hnm rfl (rfl) (rfl) (show 21 < 25 by decide) dX11_init_154 (fun H_75 locs_76 hH hS hz => ?_)
  have hH : ix_H G.1 A b_73 (mm_M G.2.1 b_73 22) H_75 := hH.to (mm_Mst (by decide) (by decide) rfl (by simp [mm_Mo, mm_r, hb_]) (fun x y h => hb_ x y h))
  have hH : ix_H G.1 A b_73 (mm_N0 G.2.1 b_73 (fun _ _ => 0) (fun _ _ => 0)) H_75 := hH.to mm_M22
  refine lv_iconst (v := 0) hx hb dX11_init_157 (by decide) ?_
  refine lv_istore_n (lv' := [(1, .int 0), (0, .ref (β 0 0))]) hx hb dX11_init_158 rfl hl (by decide) rfl (fun ls hl => ?_)
  have lp159 : ∀ (fu159 : Nat) (k : Nat) (Fk : mm_F), 96 + 1 ≤ k + fu159 → (k ≤ 96) → (Fk = mm_f1 k) → ∀ (H159 : Heap) (locs159 : List Loc), ix_H G.1 A b_73 (mm_N0 G.2.1 b_73 Fk (fun _ _ => 0)) H159 → va_S A s.heap H159 locs159 → ∀ ls, lv_has ls 2 [(0, .ref (β 0 0)), (1, .int (nI k))] → W p l e ({ frames := 1, cells := 20, slots := 12000, locals := 40 } : Room) s m ([.ref (β 0 0)] : List Value).toArray below meth c H159 locs159 19 11568 (MQ below (ix_Q (none) (fun (H9 : Heap) => ∃ b : ix_B, b 0 0 = β 0 0 ∧ ix_H G.1 (ix_A β (mm_M G.2.1 β 2) sz) b (mm_N0 G.2.1 b (mm_f3 12) (fun _ _ => 0)) H9) A) ([.ref (β 0 0)] : List Value).toArray s 20 12000 A) (F0 m 159 ls []) := by
    intro fu159
    induction fu159 with
    | zero =>
      intro k Fk hfu hk hF H159 locs159 hH159 hS159  ls hl
      exact absurd hfu (by omega)
    | succ fu159 ih159 =>
      intro k Fk hfu hk hF H159 locs159 hH159 hS159  ls hl
      refine lv_iload_n hx hb dX11_init_159 rfl (lv_at hl 1 rfl) ?_
      refine lv_aload_n hx hb dX11_init_160 rfl (lv_at hl 0 rfl) ?_
      refine ix_get S hC hH159 (fs := mm_obj b_73 Fk (fun _ _ => 0)) (rfl : (mm_N0 G.2.1 b_73 Fk (fun _ _ => 0)) 0 0 = _) e0 rfl in_X11 2 (by decide) q834 (fun _ h9 => h9) rfl dX11_init_161 ?_
      refine ix_alen S hC hH159 (rfl : mm_N0 G.2.1 b_73 Fk (fun _ _ => 0) 2 0 = _) rfl rfl dX11_init_164 ?_
      refine lv_icmp_ge (tgt := 181) hx hb dX11_init_165 (by decide) (fun c165 => ?_) (fun c165 => ?_)
      · have c165 : 96 ≤ k := (ix_nle (a := 96) (b := k) rfl rfl (by omega) (by omega)).mp c165
        have hF1 : Fk = mm_f1 96 := by rw [hF, show k = 96 by omega]
        refine lv_iconst (v := 0) hx hb dX11_init_181 (by decide) ?_
        refine lv_istore_n (lv' := [(1, .int 0), (0, .ref (β 0 0))]) hx hb dX11_init_182 rfl hl (by decide) rfl (fun ls hl => ?_)
        have lp183 : ∀ (fu183 : Nat) (k : Nat) (Fk : mm_F), 36 + 1 ≤ k + fu183 → (k ≤ 36) → (Fk = mm_f2 k) → ∀ (H183 : Heap) (locs183 : List Loc), ix_H G.1 A b_73 (mm_N0 G.2.1 b_73 Fk (fun _ _ => 0)) H183 → va_S A s.heap H183 locs183 → ∀ ls, lv_has ls 2 [(0, .ref (β 0 0)), (1, .int (nI k))] → W p l e ({ frames := 1, cells := 20, slots := 12000, locals := 40 } : Room) s m ([.ref (β 0 0)] : List Value).toArray below meth c H183 locs183 19 11568 (MQ below (ix_Q (none) (fun (H9 : Heap) => ∃ b : ix_B, b 0 0 = β 0 0 ∧ ix_H G.1 (ix_A β (mm_M G.2.1 β 2) sz) b (mm_N0 G.2.1 b (mm_f3 12) (fun _ _ => 0)) H9) A) ([.ref (β 0 0)] : List Value).toArray s 20 12000 A) (F0 m 183 ls []) := by
          intro fu183
          induction fu183 with
          | zero =>
            intro k Fk hfu hk hF H183 locs183 hH183 hS183  ls hl
            exact absurd hfu (by omega)
          | succ fu183 ih183 =>
            intro k Fk hfu hk hF H183 locs183 hH183 hS183  ls hl
            refine lv_iload_n hx hb dX11_init_183 rfl (lv_at hl 1 rfl) ?_
            refine lv_bipush (v := 36) hx hb dX11_init_184 (by decide) ?_
            refine lv_icmp_ge (tgt := 203) hx hb dX11_init_186 (by decide) (fun c186 => ?_) (fun c186 => ?_)
            · have c186 : 36 ≤ k := (ix_nle (a := 36) (b := k) (rfl : (36 : Int32) = nI 36) rfl (by omega) (by omega)).mp c186
              have hF2 : Fk = mm_f2 36 := by rw [hF, show k = 36 by omega]
              refine lv_iconst (v := 0) hx hb dX11_init_203 (by decide) ?_
              refine lv_istore_n (lv' := [(1, .int 0), (0, .ref (β 0 0))]) hx hb dX11_init_204 rfl hl (by decide) rfl (fun ls hl => ?_)
              have lp205 : ∀ (fu205 : Nat) (k : Nat) (Fk : mm_F), 12 + 1 ≤ k + fu205 → (k ≤ 12) → (Fk = mm_f3 k) → ∀ (H205 : Heap) (locs205 : List Loc), ix_H G.1 A b_73 (mm_N0 G.2.1 b_73 Fk (fun _ _ => 0)) H205 → va_S A s.heap H205 locs205 → ∀ ls, lv_has ls 2 [(0, .ref (β 0 0)), (1, .int (nI k))] → W p l e ({ frames := 1, cells := 20, slots := 12000, locals := 40 } : Room) s m ([.ref (β 0 0)] : List Value).toArray below meth c H205 locs205 19 11568 (MQ below (ix_Q (none) (fun (H9 : Heap) => ∃ b : ix_B, b 0 0 = β 0 0 ∧ ix_H G.1 (ix_A β (mm_M G.2.1 β 2) sz) b (mm_N0 G.2.1 b (mm_f3 12) (fun _ _ => 0)) H9) A) ([.ref (β 0 0)] : List Value).toArray s 20 12000 A) (F0 m 205 ls []) := by
                intro fu205
                induction fu205 with
                | zero =>
                  intro k Fk hfu hk hF H205 locs205 hH205 hS205  ls hl
                  exact absurd hfu (by omega)
                | succ fu205 ih205 =>
                  intro k Fk hfu hk hF H205 locs205 hH205 hS205  ls hl
                  refine lv_iload_n hx hb dX11_init_205 rfl (lv_at hl 1 rfl) ?_
                  refine lv_bipush (v := 12) hx hb dX11_init_206 (by decide) ?_
                  refine lv_icmp_ge (tgt := 224) hx hb dX11_init_208 (by decide) (fun c208 => ?_) (fun c208 => ?_)
                  · have c208 : 12 ≤ k := (ix_nle (a := 12) (b := k) (rfl : (12 : Int32) = nI 12) rfl (by omega) (by omega)).mp c208
                    have hF3 : Fk = mm_f3 12 := by rw [hF, show k = 12 by omega]
                    exact ix_wV S hr hlocks hS205 (⟨_, e0.symm, by rw [← hAe, ← hF3]; exact hH205⟩) (by omega) (by omega) dX11_init_224
                  · have c208 : ¬ (12 ≤ k) := (not_congr (ix_nle (a := 12) (b := k) (rfl : (12 : Int32) = nI 12) rfl (by omega) (by omega))).mp c208
                    refine lv_aload_n hx hb dX11_init_211 rfl (lv_at hl 0 rfl) ?_
                    refine ix_get S hC hH205 (fs := mm_obj b_73 Fk (fun _ _ => 0)) (rfl : (mm_N0 G.2.1 b_73 Fk (fun _ _ => 0)) 0 0 = _) e0 rfl in_X11 3 (by decide) q835 (fun _ h9 => h9) rfl dX11_init_212 ?_
                    refine lv_iload_n hx hb dX11_init_215 rfl (lv_at hl 1 rfl) ?_
                    refine lv_iconst (v := (-1)) hx hb dX11_init_216 (by decide) ?_
                    refine ix_iast (n := 12) S hC hH205 hS205 (rfl : mm_N0 G.2.1 b_73 Fk (fun _ _ => 0) 3 0 = _) rfl (j := k) rfl (by omega) (by omega) dX11_init_217 (fun H_77 locs_78 hH hS hz => ?_)
                    have hH : ix_H G.1 A b_73 (mm_N0 G.2.1 b_73 (mm_wr Fk 3 k ((-1))) (fun _ _ => 0)) H_77 := hH.to (mm_upI0 3 rfl)
                    refine lv_iinc (v := nI (k + 1)) (lv' := [(1, .int (nI (k + 1))), (0, .ref (β 0 0))]) hx hb dX11_init_218 hl (k := 1) rfl ((ix_nadd rfl (rfl : (1 : Int32) = nI 1))) (by decide) rfl (fun ls hl => ?_)
                    refine lv_goto (tgt := 205) hx hb dX11_init_221 (by decide) ?_
                    exact ih205 (k + 1) (mm_wr Fk 3 k ((-1))) (by omega) (by omega) (by rw [hF]; exact mm_f3s) _ _ hH hS  _ (lv_sub hl [1, 0] rfl)
              exact lp205 (12 + 1) 0 Fk (by omega) (by omega) (by funext a b; rw [hF2]; simp [mm_f3, mm_f2]) _ _ hH183 hS183  _ (lv_sub hl [1, 0] rfl)
            · have c186 : ¬ (36 ≤ k) := (not_congr (ix_nle (a := 36) (b := k) (rfl : (36 : Int32) = nI 36) rfl (by omega) (by omega))).mp c186
              refine lv_aload_n hx hb dX11_init_189 rfl (lv_at hl 0 rfl) ?_
              refine ix_get S hC hH183 (fs := mm_obj b_73 Fk (fun _ _ => 0)) (rfl : (mm_N0 G.2.1 b_73 Fk (fun _ _ => 0)) 0 0 = _) e0 rfl in_X11 6 (by decide) q838 (fun _ h9 => h9) rfl dX11_init_190 ?_
              refine lv_iload_n hx hb dX11_init_193 rfl (lv_at hl 1 rfl) ?_
              refine lv_bipush (v := 40) hx hb dX11_init_194 (by decide) ?_
              refine ix_iast (n := 36) S hC hH183 hS183 (rfl : mm_N0 G.2.1 b_73 Fk (fun _ _ => 0) 6 0 = _) rfl (j := k) rfl (by omega) (by omega) dX11_init_196 (fun H_79 locs_80 hH hS hz => ?_)
              have hH : ix_H G.1 A b_73 (mm_N0 G.2.1 b_73 (mm_wr Fk 6 k 40) (fun _ _ => 0)) H_79 := hH.to (mm_upI0 6 rfl)
              refine lv_iinc (v := nI (k + 1)) (lv' := [(1, .int (nI (k + 1))), (0, .ref (β 0 0))]) hx hb dX11_init_197 hl (k := 1) rfl ((ix_nadd rfl (rfl : (1 : Int32) = nI 1))) (by decide) rfl (fun ls hl => ?_)
              refine lv_goto (tgt := 183) hx hb dX11_init_200 (by decide) ?_
              exact ih183 (k + 1) (mm_wr Fk 6 k 40) (by omega) (by omega) (by rw [hF]; exact mm_f2s) _ _ hH hS  _ (lv_sub hl [1, 0] rfl)
        exact lp183 (36 + 1) 0 Fk (by omega) (by omega) (by funext a b; rw [hF1]; simp [mm_f2, mm_f1]) _ _ hH159 hS159  _ (lv_sub hl [1, 0] rfl)
      · have c165 : ¬ (96 ≤ k) := (not_congr (ix_nle (a := 96) (b := k) rfl rfl (by omega) (by omega))).mp c165
        refine lv_aload_n hx hb dX11_init_168 rfl (lv_at hl 0 rfl) ?_
        refine ix_get S hC hH159 (fs := mm_obj b_73 Fk (fun _ _ => 0)) (rfl : (mm_N0 G.2.1 b_73 Fk (fun _ _ => 0)) 0 0 = _) e0 rfl in_X11 2 (by decide) q834 (fun _ h9 => h9) rfl dX11_init_169 ?_
        refine lv_iload_n hx hb dX11_init_172 rfl (lv_at hl 1 rfl) ?_
        refine lv_iconst (v := (-1)) hx hb dX11_init_173 (by decide) ?_
        refine ix_iast (n := 96) S hC hH159 hS159 (rfl : mm_N0 G.2.1 b_73 Fk (fun _ _ => 0) 2 0 = _) rfl (j := k) rfl (by omega) (by omega) dX11_init_174 (fun H_81 locs_82 hH hS hz => ?_)
        have hH : ix_H G.1 A b_73 (mm_N0 G.2.1 b_73 (mm_wr Fk 2 k ((-1))) (fun _ _ => 0)) H_81 := hH.to (mm_upI0 2 rfl)
        refine lv_iinc (v := nI (k + 1)) (lv' := [(1, .int (nI (k + 1))), (0, .ref (β 0 0))]) hx hb dX11_init_175 hl (k := 1) rfl ((ix_nadd rfl (rfl : (1 : Int32) = nI 1))) (by decide) rfl (fun ls hl => ?_)
        refine lv_goto (tgt := 159) hx hb dX11_init_178 (by decide) ?_
        exact ih159 (k + 1) (mm_wr Fk 2 k ((-1))) (by omega) (by omega) (by rw [hF]; exact mm_f1s) _ _ hH hS  _ (lv_sub hl [1, 0] rfl)
  exact lp159 (96 + 1) 0 ((fun _ _ => 0)) (by omega) (by omega) (by funext a b; simp [mm_f1]) _ _ hH hS  _ (lv_sub hl [1, 0] rfl)
