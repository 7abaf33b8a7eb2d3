/-! THE LIBRARY's LISTS: constructors, growth, add -/
theorem ix_same {N : ix_N} {k i : Nat} {e : va_E} (h : N k i = some e) : ix_u N k i (some e) = N := by
  funext a b
  by_cases hc : a = k ∧ b = i
  · rw [hc.1, hc.2, ix_us, h]
  · rw [ix_un hc]
theorem jj_n1 {N : ix_N} {li : Nat} {a b c : Option va_E} : ix_u (ix_u (ix_u N 2 li a) 1 li b) 2 li c = ix_u (ix_u N 2 li c) 1 li b := by
  rw [ix_uc (by omega), ix_uu]
theorem jj_n2 {N : ix_N} {li : Nat} {a b c : Option va_E} : ix_u (ix_u (ix_u N 2 li a) 1 li b) 1 li c = ix_u (ix_u N 2 li a) 1 li c := by
  rw [ix_uu]
theorem jj_n3 {N : ix_N} {li : Nat} {a b c : Option va_E} : ix_u (ix_u (ix_u N 1 li a) 2 li b) 1 li c = ix_u (ix_u N 2 li b) 1 li c := by
  rw [ix_uc (by omega), ix_uu, ix_uc (by omega)]
set_option maxHeartbeats 4000000 in
set_option maxRecDepth 100000 in
theorem jj_acinit (l : Launch) (G : ix_G) (β : ix_B) (N : ix_N) (sz : Nat) (x : Nat) : Met l yJ0_init (ws_ yJ0_init cJ0_init 1 (none)) ({ frames := 1, cells := 0, slots := 0, locals := 40 } : Room) (ix_P G β N sz [.ref x]) (ix_R (none)) 0 0 (fun _ => False) := by
  refine ix_reader (by decide +kernel) (Nat.le_of_ble_eq_true rfl) ?_
  intro p e s m below meth c S hr hlocks hC hH hS ls hl
  have hAz : ∀ q, ix_z G q → ix_z G q := fun _ h => h
  have hx := S.1
  have hb := S.2.1
  have hts := S.2.2.2.2
  have S : CallFix p m c cJ0_init 1 s ([.ref x] : List Value).toArray lw_all "java/util/AbstractCollection" := S
  have hl : lv_has ls 1 [(0, .ref x)] := hl
  refine lv_aload_n hx hb dJ0_init_0 rfl (lv_at hl 0 rfl) ?_
  refine W.objInit hx hb S.2.2.2.1 (hts _ q70) (hts _ q57) (hts _ q58) rfl (by rw [S.2.2.1]; exact hl.1) rfl dJ0_init_1 (Nat.le_of_ble_eq_true rfl) (Nat.le_of_ble_eq_true rfl) ?_
  refine W.eq (g2 := F0 m 4 ls []) rfl ?_
  exact ix_rV S hr hlocks dJ0_init_4
set_option maxHeartbeats 4000000 in
set_option maxRecDepth 100000 in
theorem jj_alinit (l : Launch) (G : ix_G) (β : ix_B) (N : ix_N) (sz : Nat) (li : Nat) (hl0 : N 1 li = some (.inr (11, [.int 0, .null, .int 0]))) : Met l yJ1_init (ws_ yJ1_init cJ1_init 1 (none)) ({ frames := 2, cells := 0, slots := 0, locals := 80 } : Room) (ix_P G β N sz [.ref (β 1 li)]) (ix_Q (none) (fun (H9 : Heap) => ix_H G.1 (ix_A β N sz) β N H9) (ix_A β N sz)) 0 0 (ix_A β N sz) := by
  refine ix_writer (by decide +kernel) (Nat.le_of_ble_eq_true rfl) ?_
  intro p e s m below meth c A S hr hlocks hnm hC hsz hH hS hA0 hAz hAe ls hl
  have hx := S.1
  have hb := S.2.1
  have hts := S.2.2.2.2
  have S : CallFix p m c cJ1_init 1 s ([.ref (β 1 li)] : List Value).toArray lw_all "java/util/AbstractList" := S
  have hl : lv_has ls 1 [(0, .ref (β 1 li))] := hl
  refine lv_aload_n hx hb dJ1_init_0 rfl (lv_at hl 0 rfl) ?_
  refine ix_rd (W.runI (As := []) (rest := []) S (jj_acinit l G β N s.heap.size (β 1 li)) (cwI 0 hts (lw_meth q69) rfl rfl rfl (hts _ q22) (hts _ q67) (hts _ q68) rfl (by decide +kernel) ⟨Nat.le_of_ble_eq_true rfl, Nat.le_of_ble_eq_true rfl⟩) (ix_pre hC hS hAz hH rfl) rfl rfl hl.1 rfl (lv_room (Nat.le_of_ble_eq_true rfl)) dJ1_init_1 ⟨by first | exact Nat.le_of_ble_eq_true rfl | (show _ ≤ 0; omega), by first | exact Nat.le_of_ble_eq_true rfl | (show _ ≤ 0; omega)⟩) ?_
  refine W.eq (g2 := F0 m 4 ls []) rfl ?_
  refine lv_aload_n hx hb dJ1_init_4 rfl (lv_at hl 0 rfl) ?_
  refine lv_iconst (v := 0) hx hb dJ1_init_5 (by decide) ?_
  refine ix_put S hC hH hS (k := 1) (i := li) (fs := [.int 0, .null, .int 0]) hl0 rfl rfl in_J2 tyJ2 tyJ2_ok nmJ2 0 (by decide) q77 (fun _ h9 => h9) rfl (rfl) (rfl) (show 0 < 3 by decide) dJ1_init_6 (fun H_1 locs_2 hH hS hz => ?_)
  have hH : ix_H G.1 A β (ix_u N 1 li (some (.inr (11, [.int 0, .null, .int 0])))) H_1 := hH
  exact ix_wV S hr hlocks hS (by rw [← hAe]; rw [ix_same hl0] at hH; exact hH) (by omega) (by omega) dJ1_init_9
set_option maxHeartbeats 4000000 in
set_option maxRecDepth 100000 in
theorem jj_init (l : Launch) (G : ix_G) (β : ix_B) (N : ix_N) (sz : Nat) (li : Nat) (hl0 : N 1 li = some (.inr (11, [.int 0, .null, .int 0]))) : Met l yJ2_init (ws_ yJ2_init cJ2_init 1 (none)) ({ frames := 3, cells := 0, slots := 0, locals := 120 } : Room) (ix_P G β N sz [.ref (β 1 li)]) (ix_Q (none) (fun (H9 : Heap) => ix_H G.1 (ix_A β N sz) β (ix_u N 1 li (some (.inr (11, [.int 0, .ref (G.2.2.1 4), .int (nI 0)])))) H9) (ix_A β N sz)) 0 0 (ix_A β N sz) := by
  refine ix_writer (by decide +kernel) (Nat.le_of_ble_eq_true rfl) ?_
  intro p e s m below meth c A S hr hlocks hnm hC hsz hH hS hA0 hAz hAe ls hl
  have hx := S.1
  have hb := S.2.1
  have hts := S.2.2.2.2
  have S : CallFix p m c cJ2_init 1 s ([.ref (β 1 li)] : List Value).toArray lw_all "java/util/ArrayList" := S
  have hl : lv_has ls 1 [(0, .ref (β 1 li))] := hl
  refine lv_aload_n hx hb dJ2_init_0 rfl (lv_at hl 0 rfl) ?_
  have hsub := ix_sub hH hS hA0
  refine ix_wr3 (va_runI (As := []) (rest := []) S (jj_alinit l G β N s.heap.size li hl0) (cwI 0 hts (lw_meth q66) rfl rfl rfl (hts _ q23) (hts _ q64) (hts _ q65) rfl (by decide +kernel) ⟨Nat.le_of_ble_eq_true rfl, Nat.le_of_ble_eq_true rfl⟩) (ix_pre hC hS hAz hH rfl) rfl rfl hl.1 rfl (lv_room (Nat.le_of_ble_eq_true rfl)) dJ2_init_1 ⟨by first | exact Nat.le_of_ble_eq_true rfl | (show _ ≤ 0; omega), by first | exact Nat.le_of_ble_eq_true rfl | (show _ ≤ 0; omega)⟩) hS (hsub) (hsub) (fun H_1 locs_2 hB hz hk hS => ?_)
  have hH := hB.weaken hsub
  refine W.eq (g2 := F0 m 4 ls []) rfl ?_
  refine lv_aload_n hx hb dJ2_init_4 rfl (lv_at hl 0 rfl) ?_
  refine ix_getEmpty S hC hS hAz q71 dJ2_init_5 ?_
  refine ix_put S hC hH hS (k := 1) (i := li) (fs := [.int 0, .null, .int 0]) hl0 rfl rfl in_J2 tyJ2 tyJ2_ok nmJ2 1 (by decide) q73 (fun _ h9 => h9) rfl (rfl) (rfl) (show 1 < 3 by decide) dJ2_init_8 (fun H_3 locs_4 hH hS hz => ?_)
  have hH : ix_H G.1 A β (ix_u N 1 li (some (.inr (11, [.int 0, .ref (G.2.2.1 4), .int 0])))) H_3 := hH
  exact ix_wV S hr hlocks hS (by rw [← hAe]; exact hH) (by omega) (by omega) dJ2_init_11
set_option maxHeartbeats 4000000 in
set_option maxRecDepth 100000 in
theorem jj_init2 (l : Launch) (G : ix_G) (β : ix_B) (N : ix_N) (sz : Nat) (li : Nat) (hl0 : N 1 li = some (.inr (11, [.int 0, .null, .int 0]))) : Met l yJ2_init_2 (ws_ yJ2_init_2 cJ2_init_2 2 (none)) ({ frames := 3, cells := 1, slots := 2, locals := 120 } : Room) (ix_P G β N sz [.ref (β 1 li), .int (nI 2)]) (ix_Q (none) (fun (H9 : Heap) => ∃ b : ix_B, (∀ x y, ¬ (x = 2 ∧ y = li) → b x y = β x y) ∧ ix_H G.1 (ix_A β N sz) b (ix_u (ix_u N 2 li (some (.inl (G.2.1 3, 2, .inr (.inr (.inr (.inr ((fun _ => none))))))))) 1 li (some (.inr (11, [.int 0, .ref (b 2 li), .int (nI 0)])))) H9) (ix_A β N sz)) 1 2 (ix_A β N sz) := by
  refine ix_writer (by decide +kernel) (Nat.le_of_ble_eq_true rfl) ?_
  intro p e s m below meth c A S hr hlocks hnm hC hsz hH hS hA0 hAz hAe ls hl
  have hx := S.1
  have hb := S.2.1
  have hts := S.2.2.2.2
  have S : CallFix p m c cJ2_init_2 2 s ([.ref (β 1 li), .int (nI 2)] : List Value).toArray lw_all "java/util/ArrayList" := S
  have hl : lv_has ls 2 [(0, .ref (β 1 li)), (1, .int (nI 2))] := hl
  refine lv_aload_n hx hb dJ2_init_2_0 rfl (lv_at hl 0 rfl) ?_
  have hsub := ix_sub hH hS hA0
  refine ix_wr3 (va_runI (As := []) (rest := []) S (jj_alinit l G β N s.heap.size li hl0) (cwI 0 hts (lw_meth q66) rfl rfl rfl (hts _ q23) (hts _ q64) (hts _ q65) rfl (by decide +kernel) ⟨Nat.le_of_ble_eq_true rfl, Nat.le_of_ble_eq_true rfl⟩) (ix_pre hC hS hAz hH rfl) rfl rfl hl.1 rfl (lv_room (Nat.le_of_ble_eq_true rfl)) dJ2_init_2_1 ⟨by first | exact Nat.le_of_ble_eq_true rfl | (show _ ≤ 1; omega), by first | exact Nat.le_of_ble_eq_true rfl | (show _ ≤ 2; omega)⟩) hS (hsub) (hsub) (fun H_1 locs_2 hB hz hk hS => ?_)
  have hH := hB.weaken hsub
  refine W.eq (g2 := F0 m 4 ls []) rfl ?_
  refine lv_iload_n hx hb dJ2_init_2_4 rfl (lv_at hl 1 rfl) ?_
  refine lv_if_le (tgt := 19) hx hb dJ2_init_2_5 (by decide) (fun c5 => ?_) (fun c5 => ?_)
  · have c5 : ¬ (0 < (nI 2)) := Int32.not_lt.mpr c5
    exact absurd c5 (by decide)
  · have c5 : 0 < (nI 2) := Int32.not_le.mp c5
    refine lv_aload_n hx hb dJ2_init_2_8 rfl (lv_at hl 0 rfl) ?_
    refine lv_iload_n hx hb dJ2_init_2_9 rfl (lv_at hl 1 rfl) ?_
    refine ix_newq S hC hH hS hA0 2 li 3 q319 (hC.2.1.2.2.1 _ (by simp)) rfl (j := 2) rfl (by omega) (Nat.le_of_ble_eq_true rfl) (Nat.le_of_ble_eq_true rfl) dJ2_init_2_10 (fun b_3 H_4 hb_ hbq hH hS hz => ?_)
    have ea_5 : β 1 li = b_3 1 li := (show β 1 li = β 1 li from rfl).trans (hb_ 1 li (by omega)).symm
    have hH : ix_H G.1 A b_3 (ix_u N 2 li (some (.inl (G.2.1 3, 2, .inr (.inr (.inr (.inr ((fun _ => none))))))))) H_4 := hH
    refine ix_put S hC hH hS (k := 1) (i := li) (fs := [.int 0, .null, .int 0]) ((ix_un (by omega)).trans hl0) ea_5 rfl in_J2 tyJ2 tyJ2_ok nmJ2 1 (by decide) q73 (fun _ h9 => h9) rfl (rfl) (rfl) (show 1 < 3 by decide) dJ2_init_2_13 (fun H_6 locs_7 hH hS hz => ?_)
    have hH : ix_H G.1 A b_3 (ix_u (ix_u N 2 li (some (.inl (G.2.1 3, 2, .inr (.inr (.inr (.inr ((fun _ => none))))))))) 1 li (some (.inr (11, [.int 0, .ref (b_3 2 li), .int 0])))) H_6 := hH
    refine lv_goto (tgt := 60) hx hb dJ2_init_2_16 (by decide) ?_
    exact ix_wV S hr hlocks hS (⟨_, hb_, by rw [← hAe]; exact hH⟩) (by omega) (by omega) dJ2_init_2_60
set_option maxHeartbeats 4000000 in
set_option maxRecDepth 100000 in
theorem jj_copyOf2 (l : Launch) (G : ix_G) (β : ix_B) (N : ix_N) (sz : Nat) (li cap m2 : Nat) (f : Nat → Option Nat) (ha0 : N 2 li = some (.inl (G.2.1 3, cap, .inr (.inr (.inr (.inr f)))))) (hcm : cap ≤ m2) (hm2 : m2 ≤ 200) (hE : ∀ j y, f j = some y → jj_e β N y) (h90 : N 90 0 = none) : Met l yJ5_copyOf_2 (ws_ yJ5_copyOf_2 cJ5_copyOf_2 4 (some (.array (.object "java/lang/Object")))) ({ frames := 1, cells := 1, slots := 200, locals := 40 } : Room) (ix_P G β N sz [.ref (β 2 li), .int (nI m2), .ref G.2.2.2.1]) (ix_Qr (fun (a9 : Nat) (H9 : Heap) => ∃ b : ix_B, b 90 0 = a9 ∧ (∀ x y, ¬ (x = 90 ∧ y = 0) → b x y = β x y) ∧ ix_H G.1 (ix_A β N sz) b (ix_u N 90 0 (some (.inl (G.2.1 3, m2, .inr (.inr (.inr (.inr (va_cpy f (fun _ => none) 0 0 cap)))))))) H9) (ix_A β N sz)) 1 200 (ix_A β N sz) := by
  refine ix_writerR (by decide +kernel) (Nat.le_of_ble_eq_true rfl) ?_
  intro p e s m below meth c A S hr hlocks hnm hC hsz hH hS hA0 hAz hAe ls hl
  have hx := S.1
  have hb := S.2.1
  have hts := S.2.2.2.2
  have S : CallFix p m c cJ5_copyOf_2 4 s ([.ref (β 2 li), .int (nI m2), .ref G.2.2.2.1] : List Value).toArray lw_all "java/util/Arrays" := S
  have hl : lv_has ls 4 [(0, .ref (β 2 li)), (1, .int (nI m2)), (2, .ref G.2.2.2.1)] := hl
  have hd90 : jj_no (N 90 0) := by rw [h90]; exact jj_no_n
  refine lv_aload_n hx hb dJ5_copyOf_2_0 rfl (lv_at hl 2 rfl) ?_
  refine va_ldcM hx hb S.2.2.2.1 (hts _ q309) hC.2.1.2.2.2.1 dJ5_copyOf_2_1 ?_
  refine lv_acmp_ne (rx := some G.2.2.2.1) (ry := some G.2.2.2.1) (tgt := 13) hx hb dJ5_copyOf_2_3 (by decide) (fun c3 => ?_) (fun c3 => ?_)
  · exact absurd rfl c3
  · refine lv_iload_n hx hb dJ5_copyOf_2_6 rfl (lv_at hl 1 rfl) ?_
    refine ix_newq S hC hH hS hA0 90 0 3 q311 (hC.2.1.2.2.1 _ (by simp)) rfl (j := m2) rfl (by omega) (Nat.le_of_ble_eq_true rfl) (show 0 + m2 ≤ 200 by omega) dJ5_copyOf_2_7 (fun b_1 H_2 hb_ hbq hH hS hz => ?_)
    have ea_3 : β 2 li = b_1 2 li := (show β 2 li = β 2 li from rfl).trans (hb_ 2 li (by omega)).symm
    have hH : ix_H G.1 A b_1 (ix_u N 90 0 (some (.inl (G.2.1 3, m2, .inr (.inr (.inr (.inr ((fun _ => none))))))))) H_2 := hH
    have hE : ∀ j y, f j = some y → jj_e b_1 (ix_u N 90 0 (some (.inl (G.2.1 3, m2, .inr (.inr (.inr (.inr ((fun _ => none))))))))) y := fun j y h => (hE j y h).upd hd90 hb_
    refine lv_goto (tgt := 24) hx hb dJ5_copyOf_2_10 (by decide) ?_
    refine lv_astore_n (lv' := [(3, .ref (b_1 90 0)), (0, .ref (β 2 li)), (1, .int (nI m2)), (2, .ref G.2.2.2.1)]) hx hb dJ5_copyOf_2_24 rfl hl (by decide) rfl (fun ls hl => ?_)
    refine lv_aload_n hx hb dJ5_copyOf_2_25 rfl (lv_at hl 1 rfl) ?_
    refine lv_iconst (v := 0) hx hb dJ5_copyOf_2_26 (by decide) ?_
    refine lv_aload_n hx hb dJ5_copyOf_2_27 rfl (lv_at hl 0 rfl) ?_
    refine lv_iconst (v := 0) hx hb dJ5_copyOf_2_28 (by decide) ?_
    refine lv_aload_n hx hb dJ5_copyOf_2_29 rfl (lv_at hl 1 rfl) ?_
    refine ix_alen S hC hH ((ix_un (by omega)).trans ha0) rfl ea_3 dJ5_copyOf_2_30 ?_
    refine lv_iload_n hx hb dJ5_copyOf_2_31 rfl (lv_at hl 2 rfl) ?_
    refine va_mmin hx hb (by rw [S.2.2.1]; exact hl.1.symm) S.2.2.2.1 (hts _ q312) (hts _ q313) (hts _ q37) (hts _ q314) (Nat.le_of_ble_eq_true rfl) (Nat.le_of_ble_eq_true rfl) ((by first | exact Nat.le_of_ble_eq_true rfl | (show _ ≤ 1; omega))) ((by first | exact Nat.le_of_ble_eq_true rfl | (show _ ≤ 200; omega))) dJ5_copyOf_2_32 ?_
    refine ix_reI (y := nI cap) (if_neg (nI_nlt (by omega) (by omega))) ?_
    refine ix_copy S hC hH hS q315 hl.1 (sj := 0) (dj := 0) (nj := cap) ((ix_un (by omega)).trans ha0) ix_us ea_3 rfl (rfl : (0 : Int32) = nI 0) (rfl : (0 : Int32) = nI 0) rfl (by omega) (by omega) (by omega) (by omega) (fun i _ y h => jj_any hC hH (hE _ y h)) (Nat.le_of_ble_eq_true rfl) (Nat.le_of_ble_eq_true rfl) dJ5_copyOf_2_35 (fun H_4 locs_5 hH hS hz => ?_)
    have hH : ix_H G.1 A b_1 (ix_u (ix_u N 90 0 (some (.inl (G.2.1 3, m2, .inr (.inr (.inr (.inr ((fun _ => none))))))))) 90 0 (some (.inl (G.2.1 3, m2, .inr (.inr (.inr (.inr (va_cpy f ((fun _ => none)) 0 0 cap)))))))) H_4 := hH
    have hE : ∀ j y, f j = some y → jj_e b_1 (ix_u (ix_u N 90 0 (some (.inl (G.2.1 3, m2, .inr (.inr (.inr (.inr ((fun _ => none))))))))) 90 0 (some (.inl (G.2.1 3, m2, .inr (.inr (.inr (.inr (va_cpy f ((fun _ => none)) 0 0 cap)))))))) y := fun j y h => (hE j y h).upd (by rw [ix_us]; exact jj_no_a) (fun _ _ _ => rfl)
    refine lv_aload_n hx hb dJ5_copyOf_2_38 rfl (lv_at hl 0 rfl) ?_
    exact ix_wR S hr hlocks (Or.inr ⟨_, rfl⟩) hS (⟨_, rfl, hb_, by rw [← hAe]; rw [ix_uu] at hH; exact hH⟩) (by omega) (by omega) dJ5_copyOf_2_39
set_option maxHeartbeats 4000000 in
set_option maxRecDepth 100000 in
theorem jj_copyOf (l : Launch) (G : ix_G) (β : ix_B) (N : ix_N) (sz : Nat) (li cap m2 : Nat) (f : Nat → Option Nat) (ha0 : N 2 li = some (.inl (G.2.1 3, cap, .inr (.inr (.inr (.inr f)))))) (hcm : cap ≤ m2) (hm2 : m2 ≤ 200) (hE : ∀ j y, f j = some y → jj_e β N y) (h90 : N 90 0 = none) : Met l yJ5_copyOf (ws_ yJ5_copyOf cJ5_copyOf 2 (some (.array (.object "java/lang/Object")))) ({ frames := 2, cells := 1, slots := 200, locals := 80 } : Room) (ix_P G β N sz [.ref (β 2 li), .int (nI m2)]) (ix_Qr (fun (a9 : Nat) (H9 : Heap) => ∃ b : ix_B, b 90 0 = a9 ∧ (∀ x y, ¬ (x = 90 ∧ y = 0) → b x y = β x y) ∧ ix_H G.1 (ix_A β N sz) b (ix_u N 90 0 (some (.inl (G.2.1 3, m2, .inr (.inr (.inr (.inr (va_cpy f (fun _ => none) 0 0 cap)))))))) H9) (ix_A β N sz)) 1 200 (ix_A β N sz) := by
  refine ix_writerR (by decide +kernel) (Nat.le_of_ble_eq_true rfl) ?_
  intro p e s m below meth c A S hr hlocks hnm hC hsz hH hS hA0 hAz hAe ls hl
  have hx := S.1
  have hb := S.2.1
  have hts := S.2.2.2.2
  have S : CallFix p m c cJ5_copyOf 2 s ([.ref (β 2 li), .int (nI m2)] : List Value).toArray lw_all "java/util/Arrays" := S
  have hl : lv_has ls 2 [(0, .ref (β 2 li)), (1, .int (nI m2))] := hl
  refine lv_aload_n hx hb dJ5_copyOf_0 rfl (lv_at hl 0 rfl) ?_
  refine lv_iload_n hx hb dJ5_copyOf_1 rfl (lv_at hl 1 rfl) ?_
  refine lv_aload_n hx hb dJ5_copyOf_2 rfl (lv_at hl 0 rfl) ?_
  refine va_getC hx hb (by rw [S.2.2.1]; exact hl.1.symm) S.2.2.2.1 (hts _ q286) (va_Dc.use hC.2.1.2.2.2.2) (hts _ q1061) (hts _ q287) (hts _ q305) hC.2.1.2.2.2.1 (ix_recvO hC hH ha0) (Nat.le_of_ble_eq_true rfl) (Nat.le_of_ble_eq_true rfl) dJ5_copyOf_3 ?_
  have hsub := ix_sub hH hS hA0
  refine ix_wrr3 (va_runS (As := [.ref (β 2 li), .int (nI m2), .ref G.2.2.2.1]) (rest := []) S (jj_copyOf2 l G β N s.heap.size li cap m2 f ha0 hcm hm2 hE h90) (va_cwS 3 hts (lw_S q306 q307 q38 q308) rfl rfl rfl (by decide +kernel) ⟨Nat.le_of_ble_eq_true rfl, Nat.le_of_ble_eq_true rfl⟩) (ix_pre hC hS hAz hH rfl) rfl rfl hl.1 rfl (lv_room (Nat.le_of_ble_eq_true rfl)) dJ5_copyOf_6 ⟨by first | exact Nat.le_of_ble_eq_true rfl | (show _ ≤ 1; omega), by first | exact Nat.le_of_ble_eq_true rfl | (show _ ≤ 200; omega)⟩) hS (hsub) (hsub) (fun ra H_1 locs_2 hB hz hk hS => ?_)
  obtain ⟨b1, hb1, hbf, hH⟩ := hB
  have hH := hH.weaken hsub
  refine W.eq (g2 := F0 m 9 ls [.ref ra]) rfl ?_
  exact ix_wR S hr hlocks (Or.inr ⟨_, rfl⟩) hS (⟨b1, hb1, hbf, by rw [← hAe]; exact hH⟩) (by omega) (by omega) dJ5_copyOf_9
set_option maxHeartbeats 4000000 in
set_option maxRecDepth 100000 in
theorem jj_grow2_0 (l : Launch) (G : ix_G) (β : ix_B) (N : ix_N) (sz : Nat) (li : Nat) (mc : Int32) (hl0 : N 1 li = some (.inr (11, [.int mc, .ref (G.2.2.1 4), .int (nI 0)]))) : Met l yJ2_grow_2 (ws_ yJ2_grow_2 cJ2_grow_2 4 (some (.array (.object "java/lang/Object")))) ({ frames := 3, cells := 1, slots := 200, locals := 120 } : Room) (ix_P G β N sz [.ref (β 1 li), .int (nI 1)]) (ix_Qr (fun (a9 : Nat) (H9 : Heap) => ∃ b : ix_B, b 2 li = a9 ∧ (∀ x y, ¬ (x = 2 ∧ y = li) → b x y = β x y) ∧ ix_H G.1 (ix_A β N sz) b (ix_u (ix_u N 2 li (some (.inl (G.2.1 3, 10, .inr (.inr (.inr (.inr ((fun _ => none))))))))) 1 li (some (.inr (11, [.int mc, .ref (b 2 li), .int (nI 0)])))) H9) (ix_A β N sz)) 1 200 (ix_A β N sz) := by
  refine ix_writerR (by decide +kernel) (Nat.le_of_ble_eq_true rfl) ?_
  intro p e s m below meth c A S hr hlocks hnm hC hsz hH hS hA0 hAz hAe ls hl
  have hx := S.1
  have hb := S.2.1
  have hts := S.2.2.2.2
  have S : CallFix p m c cJ2_grow_2 4 s ([.ref (β 1 li), .int (nI 1)] : List Value).toArray lw_all "java/util/ArrayList" := S
  have hl : lv_has ls 4 [(0, .ref (β 1 li)), (1, .int (nI 1))] := hl
  refine lv_aload_n hx hb dJ2_grow_2_0 rfl (lv_at hl 0 rfl) ?_
  refine ix_get S hC hH (k := 1) (i := li) (fs := [.int mc, .ref (G.2.2.1 4), .int (nI 0)]) hl0 rfl rfl in_J2 1 (by decide) q73 (fun _ h9 => h9) rfl dJ2_grow_2_1 ?_
  refine ix_lenEmpty S hC hS hAz dJ2_grow_2_4 ?_
  refine lv_istore_n (lv' := [(2, .int (nI 0)), (0, .ref (β 1 li)), (1, .int (nI 1))]) hx hb dJ2_grow_2_5 rfl hl (by decide) rfl (fun ls hl => ?_)
  refine lv_iload_n hx hb dJ2_grow_2_6 rfl (lv_at hl 0 rfl) ?_
  refine lv_if_gt (tgt := 20) hx hb dJ2_grow_2_7 (by decide) (fun c7 => ?_) (fun c7 => ?_)
  · exact absurd c7 (by decide)
  · refine lv_aload_n hx hb dJ2_grow_2_10 rfl (lv_at hl 1 rfl) ?_
    refine ix_get S hC hH (k := 1) (i := li) (fs := [.int mc, .ref (G.2.2.1 4), .int (nI 0)]) hl0 rfl rfl in_J2 1 (by decide) q73 (fun _ h9 => h9) rfl dJ2_grow_2_11 ?_
    refine ix_getEmpty S hC hS hAz q71 dJ2_grow_2_14 ?_
    refine lv_acmp_eq (rx := some (G.2.2.1 4)) (ry := some (G.2.2.1 4)) (tgt := 45) hx hb dJ2_grow_2_17 (by decide) (fun c17 => ?_) (fun c17 => ?_)
    · refine lv_aload_n hx hb dJ2_grow_2_45 rfl (lv_at hl 1 rfl) ?_
      refine lv_bipush (v := 10) hx hb dJ2_grow_2_46 (by decide) ?_
      refine lv_iload_n hx hb dJ2_grow_2_48 rfl (lv_at hl 2 rfl) ?_
      refine va_mmax hx hb (by rw [S.2.2.1]; exact hl.1.symm) S.2.2.2.1 (hts _ q318) (hts _ q277) (hts _ q37) (hts _ q278) (Nat.le_of_ble_eq_true rfl) (Nat.le_of_ble_eq_true rfl) ((by first | exact Nat.le_of_ble_eq_true rfl | (show _ ≤ 1; omega))) ((by first | exact Nat.le_of_ble_eq_true rfl | (show _ ≤ 200; omega))) dJ2_grow_2_49 ?_
      refine ix_reI (y := 10) (by decide) ?_
      refine ix_newq S hC hH hS hA0 2 li 3 q319 (hC.2.1.2.2.1 _ (by simp)) rfl (j := 10) (rfl : (10 : Int32) = nI 10) (by omega) (Nat.le_of_ble_eq_true rfl) (Nat.le_of_ble_eq_true rfl) dJ2_grow_2_52 (fun b_1 H_2 hb_ hbq hH hS hz => ?_)
      have ea_3 : β 1 li = b_1 1 li := (show β 1 li = β 1 li from rfl).trans (hb_ 1 li (by omega)).symm
      have hH : ix_H G.1 A b_1 (ix_u N 2 li (some (.inl (G.2.1 3, 10, .inr (.inr (.inr (.inr ((fun _ => none))))))))) H_2 := hH
      refine lv_dup_x1 hx hb dJ2_grow_2_55 rfl rfl ?_
      refine ix_put S hC hH hS (k := 1) (i := li) (fs := [.int mc, .ref (G.2.2.1 4), .int (nI 0)]) ((ix_un (by omega)).trans hl0) ea_3 rfl in_J2 tyJ2 tyJ2_ok nmJ2 1 (by decide) q73 (fun _ h9 => h9) rfl (rfl) (rfl) (show 1 < 3 by decide) dJ2_grow_2_56 (fun H_4 locs_5 hH hS hz => ?_)
      have hH : ix_H G.1 A b_1 (ix_u (ix_u N 2 li (some (.inl (G.2.1 3, 10, .inr (.inr (.inr (.inr ((fun _ => none))))))))) 1 li (some (.inr (11, [.int mc, .ref (b_1 2 li), .int (nI 0)])))) H_4 := hH
      exact ix_wR S hr hlocks (Or.inr ⟨_, rfl⟩) hS (⟨_, rfl, hb_, by rw [← hAe]; exact hH⟩) (by omega) (by omega) dJ2_grow_2_59
    · exact absurd rfl c17
set_option maxHeartbeats 4000000 in
set_option maxRecDepth 100000 in
theorem jj_grow2_1 (l : Launch) (G : ix_G) (β : ix_B) (N : ix_N) (sz : Nat) (li : Nat) (mc : Int32) (cap : Nat) (f : Nat → Option Nat) (hl0 : N 1 li = some (.inr (11, [.int mc, .ref (β 2 li), .int (nI cap)]))) (ha0 : N 2 li = some (.inl (G.2.1 3, cap, .inr (.inr (.inr (.inr f)))))) (hc1 : 1 ≤ cap) (hc2 : cap ≤ 100) (hE : ∀ j y, f j = some y → jj_e β N y) (h90 : N 90 0 = none) : Met l yJ2_grow_2 (ws_ yJ2_grow_2 cJ2_grow_2 4 (some (.array (.object "java/lang/Object")))) ({ frames := 3, cells := 1, slots := 200, locals := 120 } : Room) (ix_P G β N sz [.ref (β 1 li), .int (nI ((cap + 1)))]) (ix_Qr (fun (a9 : Nat) (H9 : Heap) => ∃ b : ix_B, b 2 li = a9 ∧ (∀ x y, ¬ (x = 2 ∧ y = li) → b x y = β x y) ∧ ix_H G.1 (ix_A β N sz) b (ix_u (ix_u N 2 li (some (.inl (G.2.1 3, cap + jj_mx 1 (cap / 2), .inr (.inr (.inr (.inr (va_cpy f (fun _ => none) 0 0 cap)))))))) 1 li (some (.inr (11, [.int mc, .ref (b 2 li), .int (nI cap)])))) H9) (ix_A β N sz)) 1 200 (ix_A β N sz) := by
  refine ix_writerR (by decide +kernel) (Nat.le_of_ble_eq_true rfl) ?_
  intro p e s m below meth c A S hr hlocks hnm hC hsz hH hS hA0 hAz hAe ls hl
  have hx := S.1
  have hb := S.2.1
  have hts := S.2.2.2.2
  have S : CallFix p m c cJ2_grow_2 4 s ([.ref (β 1 li), .int (nI ((cap + 1)))] : List Value).toArray lw_all "java/util/ArrayList" := S
  have hl : lv_has ls 4 [(0, .ref (β 1 li)), (1, .int (nI ((cap + 1))))] := hl
  have hmx := jj_mx_b 1 (cap / 2)
  refine lv_aload_n hx hb dJ2_grow_2_0 rfl (lv_at hl 0 rfl) ?_
  refine ix_get S hC hH (k := 1) (i := li) (fs := [.int mc, .ref (β 2 li), .int (nI cap)]) hl0 rfl rfl in_J2 1 (by decide) q73 (fun _ h9 => h9) rfl dJ2_grow_2_1 ?_
  refine ix_alen S hC hH ha0 rfl rfl dJ2_grow_2_4 ?_
  refine lv_istore_n (lv' := [(2, .int (nI cap)), (0, .ref (β 1 li)), (1, .int (nI ((cap + 1))))]) hx hb dJ2_grow_2_5 rfl hl (by decide) rfl (fun ls hl => ?_)
  refine lv_iload_n hx hb dJ2_grow_2_6 rfl (lv_at hl 0 rfl) ?_
  refine lv_if_gt (tgt := 20) hx hb dJ2_grow_2_7 (by decide) (fun c7 => ?_) (fun c7 => ?_)
  · refine lv_iload_n hx hb dJ2_grow_2_20 rfl (lv_at hl 0 rfl) ?_
    refine lv_iload_n hx hb dJ2_grow_2_21 rfl (lv_at hl 2 rfl) ?_
    refine lv_iload_n hx hb dJ2_grow_2_22 rfl (lv_at hl 0 rfl) ?_
    refine lv_isub hx hb dJ2_grow_2_23 ?_
    refine ix_reI (y := nI 1) ((ix_nsub (a := cap + 1) (b := cap) rfl rfl (by omega)).trans (by rw [show cap + 1 - cap = 1 by omega])) ?_
    refine lv_iload_n hx hb dJ2_grow_2_24 rfl (lv_at hl 0 rfl) ?_
    refine lv_iconst (v := 1) hx hb dJ2_grow_2_25 (by decide) ?_
    refine lv_ishr hx hb dJ2_grow_2_26 ?_
    refine ix_reI (y := nI (cap / 2)) (by have k9 := pk_shrN (n := cap) (by omega) ((1 : Int32) &&& 31) 1 (by decide); rw [Nat.pow_one] at k9; exact k9) ?_
    refine ix_rd (W.runS (As := [.int (nI cap), .int (nI 1), .int (nI (cap / 2))]) (rest := []) S (jj_newLength l G β N s.heap.size cap 1 ((cap / 2)) (by omega) (by omega)) (va_cwS 3 hts (lw_S q273 q274 q36 q275) rfl rfl rfl (by decide +kernel) ⟨Nat.le_of_ble_eq_true rfl, Nat.le_of_ble_eq_true rfl⟩) (ix_pre hC hS hAz hH rfl) rfl rfl hl.1 rfl (lv_room (Nat.le_of_ble_eq_true rfl)) dJ2_grow_2_27 ⟨by first | exact Nat.le_of_ble_eq_true rfl | (show _ ≤ 1; omega), by first | exact Nat.le_of_ble_eq_true rfl | (show _ ≤ 200; omega)⟩) ?_
    refine W.eq (g2 := F0 m 30 ls [.int (nI (cap + jj_mx 1 ((cap / 2))))]) rfl ?_
    refine lv_istore_n (lv' := [(3, .int (nI (cap + jj_mx 1 ((cap / 2))))), (2, .int (nI cap)), (0, .ref (β 1 li)), (1, .int (nI ((cap + 1))))]) hx hb dJ2_grow_2_30 rfl hl (by decide) rfl (fun ls hl => ?_)
    refine lv_aload_n hx hb dJ2_grow_2_31 rfl (lv_at hl 2 rfl) ?_
    refine lv_aload_n hx hb dJ2_grow_2_32 rfl (lv_at hl 2 rfl) ?_
    refine ix_get S hC hH (k := 1) (i := li) (fs := [.int mc, .ref (β 2 li), .int (nI cap)]) hl0 rfl rfl in_J2 1 (by decide) q73 (fun _ h9 => h9) rfl dJ2_grow_2_33 ?_
    refine lv_iload_n hx hb dJ2_grow_2_36 rfl (lv_at hl 0 rfl) ?_
    have hsub := ix_sub hH hS hA0
    refine ix_wrr3 (va_runS (As := [.ref (β 2 li), .int (nI (cap + jj_mx 1 ((cap / 2))))]) (rest := [.ref (β 1 li)]) S (jj_copyOf l G β N s.heap.size li cap (cap + jj_mx 1 ((cap / 2))) f ha0 (by omega) (by omega) hE h90) (va_cwS 2 hts (lw_S q283 q284 q38 q285) rfl rfl rfl (by decide +kernel) ⟨Nat.le_of_ble_eq_true rfl, Nat.le_of_ble_eq_true rfl⟩) (ix_pre hC hS hAz hH rfl) rfl rfl hl.1 rfl (lv_room (Nat.le_of_ble_eq_true rfl)) dJ2_grow_2_37 ⟨by first | exact Nat.le_of_ble_eq_true rfl | (show _ ≤ 1; omega), by first | exact Nat.le_of_ble_eq_true rfl | (show _ ≤ 200; omega)⟩) hS (hsub) (hsub) (fun ra H_1 locs_2 hB hz hk hS => ?_)
    obtain ⟨b1, hb1, hbf, hH⟩ := hB
    have hH := hH.weaken hsub
    obtain ⟨b2, hb2, hbf2, hH⟩ := jj_ren hH hbf h90 li
    have ea_3 : β 1 li = b2 1 li := (show β 1 li = β 1 li from rfl).trans (hbf2 1 li (by omega)).symm
    have hra : ra = b2 2 li := (hb2.trans hb1).symm
    refine W.eq (g2 := F0 m 40 ls [.ref ra, .ref (β 1 li)]) rfl ?_
    refine lv_dup_x1 hx hb dJ2_grow_2_40 rfl rfl ?_
    refine ix_put S hC hH hS (k := 1) (i := li) (fs := [.int mc, .ref (β 2 li), .int (nI cap)]) ((ix_un (by omega)).trans hl0) ea_3 rfl in_J2 tyJ2 tyJ2_ok nmJ2 1 (by decide) q73 (fun _ h9 => h9) rfl (rfl) (rfl) (show 1 < 3 by decide) dJ2_grow_2_41 (fun H_4 locs_5 hH hS hz => ?_)
    have hH : ix_H G.1 A b2 (ix_u (ix_u N 2 li (some (.inl (G.2.1 3, cap + jj_mx 1 ((cap / 2)), .inr (.inr (.inr (.inr (va_cpy f (fun _ => none) 0 0 cap)))))))) 1 li (some (.inr (11, [.int mc, .ref ra, .int (nI cap)])))) H_4 := hH
    exact ix_wR S hr hlocks (Or.inr ⟨_, rfl⟩) hS (⟨_, hra.symm, hbf2, by rw [← hAe]; rw [hra] at hH; exact hH⟩) (by omega) (by omega) dJ2_grow_2_44
  · exact absurd ((nI_ltI (a := 0) (b := cap) (by omega) (by omega)).mpr (by omega)) c7
set_option maxHeartbeats 4000000 in
set_option maxRecDepth 100000 in
theorem jj_grow_0 (l : Launch) (G : ix_G) (β : ix_B) (N : ix_N) (sz : Nat) (li : Nat) (mc : Int32) (hl0 : N 1 li = some (.inr (11, [.int mc, .ref (G.2.2.1 4), .int (nI 0)]))) : Met l yJ2_grow (ws_ yJ2_grow cJ2_grow 1 (some (.array (.object "java/lang/Object")))) ({ frames := 4, cells := 1, slots := 200, locals := 160 } : Room) (ix_P G β N sz [.ref (β 1 li)]) (ix_Qr (fun (a9 : Nat) (H9 : Heap) => ∃ b : ix_B, b 2 li = a9 ∧ (∀ x y, ¬ (x = 2 ∧ y = li) → b x y = β x y) ∧ ix_H G.1 (ix_A β N sz) b (ix_u (ix_u N 2 li (some (.inl (G.2.1 3, 10, .inr (.inr (.inr (.inr ((fun _ => none))))))))) 1 li (some (.inr (11, [.int mc, .ref (b 2 li), .int (nI 0)])))) H9) (ix_A β N sz)) 1 200 (ix_A β N sz) := by
  refine ix_writerR (by decide +kernel) (Nat.le_of_ble_eq_true rfl) ?_
  intro p e s m below meth c A S hr hlocks hnm hC hsz hH hS hA0 hAz hAe ls hl
  have hx := S.1
  have hb := S.2.1
  have hts := S.2.2.2.2
  have S : CallFix p m c cJ2_grow 1 s ([.ref (β 1 li)] : List Value).toArray lw_all "java/util/ArrayList" := S
  have hl : lv_has ls 1 [(0, .ref (β 1 li))] := hl
  refine lv_aload_n hx hb dJ2_grow_0 rfl (lv_at hl 0 rfl) ?_
  refine lv_aload_n hx hb dJ2_grow_1 rfl (lv_at hl 0 rfl) ?_
  refine ix_get S hC hH (k := 1) (i := li) (fs := [.int mc, .ref (G.2.2.1 4), .int (nI 0)]) hl0 rfl rfl in_J2 2 (by decide) q76 (fun _ h9 => h9) rfl dJ2_grow_2 ?_
  refine lv_iconst (v := 1) hx hb dJ2_grow_5 (by decide) ?_
  refine lv_iadd hx hb dJ2_grow_6 ?_
  refine ix_reI (y := nI 1) (by decide) ?_
  have hsub := ix_sub hH hS hA0
  refine ix_wrr3 (va_runV (As := [.int (nI 1)]) (rest := []) S (jj_grow2_0 l G β N s.heap.size li mc hl0) (cwV 1 hts (lw_V q269 q271 qs2 q24 q272) rfl rfl rfl (by decide +kernel) ⟨Nat.le_of_ble_eq_true rfl, Nat.le_of_ble_eq_true rfl⟩) (ix_preV hC hS hAz hH (ix_recv (k := 1) (i := li) hC hH hl0 rfl) rfl) rfl rfl hl.1 rfl (lv_room (Nat.le_of_ble_eq_true rfl)) dJ2_grow_7 ⟨by first | exact Nat.le_of_ble_eq_true rfl | (show _ ≤ 1; omega), by first | exact Nat.le_of_ble_eq_true rfl | (show _ ≤ 200; omega)⟩) hS (hsub) (hsub) (fun ra H_1 locs_2 hB hz hk hS => ?_)
  obtain ⟨b3, hb3, hbf3, hH⟩ := hB
  have hH := hH.weaken hsub
  have ea_3 : β 1 li = b3 1 li := (show β 1 li = β 1 li from rfl).trans (hbf3 1 li (by omega)).symm
  have hra : ra = b3 2 li := hb3.symm
  refine W.eq (g2 := F0 m 10 ls [.ref ra]) rfl ?_
  exact ix_wR S hr hlocks (Or.inr ⟨_, rfl⟩) hS (⟨b3, hb3, hbf3, by rw [← hAe]; exact hH⟩) (by omega) (by omega) dJ2_grow_10
set_option maxHeartbeats 4000000 in
set_option maxRecDepth 100000 in
theorem jj_grow_1 (l : Launch) (G : ix_G) (β : ix_B) (N : ix_N) (sz : Nat) (li : Nat) (mc : Int32) (cap : Nat) (f : Nat → Option Nat) (hl0 : N 1 li = some (.inr (11, [.int mc, .ref (β 2 li), .int (nI cap)]))) (ha0 : N 2 li = some (.inl (G.2.1 3, cap, .inr (.inr (.inr (.inr f)))))) (hc1 : 1 ≤ cap) (hc2 : cap ≤ 100) (hE : ∀ j y, f j = some y → jj_e β N y) (h90 : N 90 0 = none) : Met l yJ2_grow (ws_ yJ2_grow cJ2_grow 1 (some (.array (.object "java/lang/Object")))) ({ frames := 4, cells := 1, slots := 200, locals := 160 } : Room) (ix_P G β N sz [.ref (β 1 li)]) (ix_Qr (fun (a9 : Nat) (H9 : Heap) => ∃ b : ix_B, b 2 li = a9 ∧ (∀ x y, ¬ (x = 2 ∧ y = li) → b x y = β x y) ∧ ix_H G.1 (ix_A β N sz) b (ix_u (ix_u N 2 li (some (.inl (G.2.1 3, cap + jj_mx 1 (cap / 2), .inr (.inr (.inr (.inr (va_cpy f (fun _ => none) 0 0 cap)))))))) 1 li (some (.inr (11, [.int mc, .ref (b 2 li), .int (nI cap)])))) H9) (ix_A β N sz)) 1 200 (ix_A β N sz) := by
  refine ix_writerR (by decide +kernel) (Nat.le_of_ble_eq_true rfl) ?_
  intro p e s m below meth c A S hr hlocks hnm hC hsz hH hS hA0 hAz hAe ls hl
  have hx := S.1
  have hb := S.2.1
  have hts := S.2.2.2.2
  have S : CallFix p m c cJ2_grow 1 s ([.ref (β 1 li)] : List Value).toArray lw_all "java/util/ArrayList" := S
  have hl : lv_has ls 1 [(0, .ref (β 1 li))] := hl
  refine lv_aload_n hx hb dJ2_grow_0 rfl (lv_at hl 0 rfl) ?_
  refine lv_aload_n hx hb dJ2_grow_1 rfl (lv_at hl 0 rfl) ?_
  refine ix_get S hC hH (k := 1) (i := li) (fs := [.int mc, .ref (β 2 li), .int (nI cap)]) hl0 rfl rfl in_J2 2 (by decide) q76 (fun _ h9 => h9) rfl dJ2_grow_2 ?_
  refine lv_iconst (v := 1) hx hb dJ2_grow_5 (by decide) ?_
  refine lv_iadd hx hb dJ2_grow_6 ?_
  have hsub := ix_sub hH hS hA0
  refine ix_wrr3 (va_runV (As := [.int ((nI cap) + 1)]) (rest := []) S (jj_grow2_1 l G β N s.heap.size li mc cap f hl0 ha0 (by omega) (by omega) hE h90) (cwV 1 hts (lw_V q269 q271 qs2 q24 q272) rfl rfl rfl (by decide +kernel) ⟨Nat.le_of_ble_eq_true rfl, Nat.le_of_ble_eq_true rfl⟩) (ix_preV hC hS hAz hH (ix_recv (k := 1) (i := li) hC hH hl0 rfl) (by rw [(ix_nadd rfl (rfl : (1 : Int32) = nI 1))])) rfl rfl hl.1 rfl (lv_room (Nat.le_of_ble_eq_true rfl)) dJ2_grow_7 ⟨by first | exact Nat.le_of_ble_eq_true rfl | (show _ ≤ 1; omega), by first | exact Nat.le_of_ble_eq_true rfl | (show _ ≤ 200; omega)⟩) hS (hsub) (hsub) (fun ra H_1 locs_2 hB hz hk hS => ?_)
  obtain ⟨b3, hb3, hbf3, hH⟩ := hB
  have hH := hH.weaken hsub
  have ea_3 : β 1 li = b3 1 li := (show β 1 li = β 1 li from rfl).trans (hbf3 1 li (by omega)).symm
  have hra : ra = b3 2 li := hb3.symm
  refine W.eq (g2 := F0 m 10 ls [.ref ra]) rfl ?_
  exact ix_wR S hr hlocks (Or.inr ⟨_, rfl⟩) hS (⟨b3, hb3, hbf3, by rw [← hAe]; exact hH⟩) (by omega) (by omega) dJ2_grow_10
set_option maxHeartbeats 4000000 in
set_option maxRecDepth 100000 in
theorem jj_add2_f (l : Launch) (G : ix_G) (β : ix_B) (N : ix_N) (sz : Nat) (li : Nat) (mc : Int32) (n : Nat) (cap : Nat) (f : Nat → Option Nat) (q : Nat) (hl0 : N 1 li = some (.inr (11, [.int mc, .ref (β 2 li), .int (nI n)]))) (ha0 : N 2 li = some (.inl (G.2.1 3, cap, .inr (.inr (.inr (.inr f)))))) (hn : n < cap) (hcap : cap ≤ 1000) (hq : jj_e β N q) : Met l yJ2_add_2 (ws_ yJ2_add_2 cJ2_add_2 4 (none)) ({ frames := 5, cells := 1, slots := 200, locals := 200 } : Room) (ix_P G β N sz [.ref (β 1 li), .ref q, .ref (β 2 li), .int (nI n)]) (ix_Q (none) (fun (H9 : Heap) => ∃ b : ix_B, (∀ x y, ¬ (x = 2 ∧ y = li) → b x y = β x y) ∧ ix_H G.1 (ix_A β N sz) b (ix_u (ix_u N 2 li (some (.inl (G.2.1 3, cap, .inr (.inr (.inr (.inr (va_up f n (some q))))))))) 1 li (some (.inr (11, [.int mc, .ref (b 2 li), .int (nI ((n + 1)))])))) H9) (ix_A β N sz)) 1 200 (ix_A β N sz) := by
  refine ix_writer (by decide +kernel) (Nat.le_of_ble_eq_true rfl) ?_
  intro p e s m below meth c A S hr hlocks hnm hC hsz hH hS hA0 hAz hAe ls hl
  have hx := S.1
  have hb := S.2.1
  have hts := S.2.2.2.2
  have S : CallFix p m c cJ2_add_2 4 s ([.ref (β 1 li), .ref q, .ref (β 2 li), .int (nI n)] : List Value).toArray lw_all "java/util/ArrayList" := S
  have hl : lv_has ls 4 [(0, .ref (β 1 li)), (1, .ref q), (2, .ref (β 2 li)), (3, .int (nI n))] := hl
  refine lv_iload_n hx hb dJ2_add_2_0 rfl (lv_at hl 3 rfl) ?_
  refine lv_aload_n hx hb dJ2_add_2_1 rfl (lv_at hl 2 rfl) ?_
  refine ix_alen S hC hH ha0 rfl rfl dJ2_add_2_2 ?_
  refine lv_icmp_ne (tgt := 11) hx hb dJ2_add_2_3 (by decide) (fun c3 => ?_) (fun c3 => ?_)
  · have c3 : ¬ (n = cap) := (not_congr (ix_neq (a := n) (b := cap) rfl rfl (by omega) (by omega))).mp c3
    refine lv_aload_n hx hb dJ2_add_2_11 rfl (lv_at hl 2 rfl) ?_
    refine lv_iload_n hx hb dJ2_add_2_12 rfl (lv_at hl 3 rfl) ?_
    refine lv_aload_n hx hb dJ2_add_2_13 rfl (lv_at hl 1 rfl) ?_
    refine ix_aast (n := cap) S hC hH hS ha0 rfl rfl ((jj_any hC hH hq)) (j := n) rfl (by omega) (by omega) dJ2_add_2_14 (fun H_1 locs_2 hH hS hz => ?_)
    have hH : ix_H G.1 A β (ix_u N 2 li (some (.inl (G.2.1 3, cap, .inr (.inr (.inr (.inr (va_up f n (some q))))))))) H_1 := hH
    have hq : jj_e β (ix_u N 2 li (some (.inl (G.2.1 3, cap, .inr (.inr (.inr (.inr (va_up f n (some q))))))))) q := hq.upd (by rw [ha0]; exact jj_no_a) (fun _ _ _ => rfl)
    refine lv_aload_n hx hb dJ2_add_2_15 rfl (lv_at hl 0 rfl) ?_
    refine lv_iload_n hx hb dJ2_add_2_16 rfl (lv_at hl 3 rfl) ?_
    refine lv_iconst (v := 1) hx hb dJ2_add_2_17 (by decide) ?_
    refine lv_iadd hx hb dJ2_add_2_18 ?_
    refine ix_reI (y := nI (n + 1)) (nI_1 _) ?_
    refine ix_put S hC hH hS (k := 1) (i := li) (fs := [.int mc, .ref (β 2 li), .int (nI n)]) ((ix_un (by omega)).trans hl0) rfl rfl in_J2 tyJ2 tyJ2_ok nmJ2 2 (by decide) q76 (fun _ h9 => h9) rfl (rfl) (rfl) (show 2 < 3 by decide) dJ2_add_2_19 (fun H_3 locs_4 hH hS hz => ?_)
    have hH : ix_H G.1 A β (ix_u (ix_u N 2 li (some (.inl (G.2.1 3, cap, .inr (.inr (.inr (.inr (va_up f n (some q))))))))) 1 li (some (.inr (11, [.int mc, .ref (β 2 li), .int (nI (n + 1))])))) H_3 := hH
    have hq : jj_e β (ix_u (ix_u N 2 li (some (.inl (G.2.1 3, cap, .inr (.inr (.inr (.inr (va_up f n (some q))))))))) 1 li (some (.inr (11, [.int mc, .ref (β 2 li), .int (nI (n + 1))])))) q := hq.upd (by rw [((ix_un (by omega)).trans hl0)]; exact jj_no_11) (fun _ _ _ => rfl)
    exact ix_wV S hr hlocks hS (⟨β, fun _ _ _ => rfl, by rw [← hAe]; exact hH⟩) (by omega) (by omega) dJ2_add_2_22
  · have c3 : n = cap := (ix_neq (a := n) (b := cap) rfl rfl (by omega) (by omega)).mp c3
    exfalso; omega
set_option maxHeartbeats 4000000 in
set_option maxRecDepth 100000 in
theorem jj_add2_0 (l : Launch) (G : ix_G) (β : ix_B) (N : ix_N) (sz : Nat) (li : Nat) (mc : Int32) (q : Nat) (hl0 : N 1 li = some (.inr (11, [.int mc, .ref (G.2.2.1 4), .int (nI 0)]))) (hq : jj_e β N q) (hd2 : jj_no (N 2 li)) : Met l yJ2_add_2 (ws_ yJ2_add_2 cJ2_add_2 4 (none)) ({ frames := 5, cells := 1, slots := 200, locals := 200 } : Room) (ix_P G β N sz [.ref (β 1 li), .ref q, .ref (G.2.2.1 4), .int (nI 0)]) (ix_Q (none) (fun (H9 : Heap) => ∃ b : ix_B, (∀ x y, ¬ (x = 2 ∧ y = li) → b x y = β x y) ∧ ix_H G.1 (ix_A β N sz) b (ix_u (ix_u N 2 li (some (.inl (G.2.1 3, 10, .inr (.inr (.inr (.inr (va_up (fun _ => none) 0 (some q))))))))) 1 li (some (.inr (11, [.int mc, .ref (b 2 li), .int (nI ((0 + 1)))])))) H9) (ix_A β N sz)) 1 200 (ix_A β N sz) := by
  refine ix_writer (by decide +kernel) (Nat.le_of_ble_eq_true rfl) ?_
  intro p e s m below meth c A S hr hlocks hnm hC hsz hH hS hA0 hAz hAe ls hl
  have hx := S.1
  have hb := S.2.1
  have hts := S.2.2.2.2
  have S : CallFix p m c cJ2_add_2 4 s ([.ref (β 1 li), .ref q, .ref (G.2.2.1 4), .int (nI 0)] : List Value).toArray lw_all "java/util/ArrayList" := S
  have hl : lv_has ls 4 [(0, .ref (β 1 li)), (1, .ref q), (2, .ref (G.2.2.1 4)), (3, .int (nI 0))] := hl
  refine lv_iload_n hx hb dJ2_add_2_0 rfl (lv_at hl 3 rfl) ?_
  refine lv_aload_n hx hb dJ2_add_2_1 rfl (lv_at hl 2 rfl) ?_
  refine ix_lenEmpty S hC hS hAz dJ2_add_2_2 ?_
  refine lv_icmp_ne (tgt := 11) hx hb dJ2_add_2_3 (by decide) (fun c3 => ?_) (fun c3 => ?_)
  · have c3 : ¬ (0 = 0) := (not_congr (ix_neq (a := 0) (b := 0) rfl rfl (by omega) (by omega))).mp c3
    exact absurd rfl c3
  · have c3 : 0 = 0 := (ix_neq (a := 0) (b := 0) rfl rfl (by omega) (by omega)).mp c3
    refine lv_aload_n hx hb dJ2_add_2_6 rfl (lv_at hl 0 rfl) ?_
    have hsub := ix_sub hH hS hA0
    refine ix_wrr3 (va_runV (As := []) (rest := []) S (jj_grow_0 l G β N s.heap.size li mc hl0) (cwV 0 hts (lw_V q265 q267 qs1 q24 q268) rfl rfl rfl (by decide +kernel) ⟨Nat.le_of_ble_eq_true rfl, Nat.le_of_ble_eq_true rfl⟩) (ix_preV hC hS hAz hH (ix_recv (k := 1) (i := li) hC hH hl0 rfl) rfl) rfl rfl hl.1 rfl (lv_room (Nat.le_of_ble_eq_true rfl)) dJ2_add_2_7 ⟨by first | exact Nat.le_of_ble_eq_true rfl | (show _ ≤ 1; omega), by first | exact Nat.le_of_ble_eq_true rfl | (show _ ≤ 200; omega)⟩) hS (hsub) (hsub) (fun ra H_1 locs_2 hB hz hk hS => ?_)
    obtain ⟨b3, hb3, hbf3, hH⟩ := hB
    have hH := hH.weaken hsub
    have ea_3 : β 1 li = b3 1 li := (show β 1 li = β 1 li from rfl).trans (hbf3 1 li (by omega)).symm
    have hq : jj_e b3 (ix_u N 2 li (some (.inl (G.2.1 3, 10, .inr (.inr (.inr (.inr ((fun _ => none))))))))) q := hq.upd hd2 hbf3
    have hq : jj_e b3 (ix_u (ix_u N 2 li (some (.inl (G.2.1 3, 10, .inr (.inr (.inr (.inr ((fun _ => none))))))))) 1 li (some (.inr (11, [.int mc, .ref (b3 2 li), .int (nI 0)])))) q := hq.upd (by rw [((ix_un (by omega)).trans hl0)]; exact jj_no_11) (fun _ _ _ => rfl)
    have hra : ra = b3 2 li := hb3.symm
    refine W.eq (g2 := F0 m 10 ls [.ref ra]) rfl ?_
    refine lv_astore_n (lv' := [(2, .ref ra), (0, .ref (β 1 li)), (1, .ref q), (3, .int (nI 0))]) hx hb dJ2_add_2_10 rfl hl (by decide) rfl (fun ls hl => ?_)
    refine lv_aload_n hx hb dJ2_add_2_11 rfl (lv_at hl 0 rfl) ?_
    refine lv_iload_n hx hb dJ2_add_2_12 rfl (lv_at hl 3 rfl) ?_
    refine lv_aload_n hx hb dJ2_add_2_13 rfl (lv_at hl 2 rfl) ?_
    refine ix_aast (n := 10) S hC hH hS ((ix_un (by omega)).trans ix_us) rfl hra ((jj_any hC hH hq)) (j := 0) rfl (by omega) (by omega) dJ2_add_2_14 (fun H_4 locs_5 hH hS hz => ?_)
    have hH : ix_H G.1 A b3 (ix_u (ix_u (ix_u N 2 li (some (.inl (G.2.1 3, 10, .inr (.inr (.inr (.inr ((fun _ => none))))))))) 1 li (some (.inr (11, [.int mc, .ref (b3 2 li), .int (nI 0)])))) 2 li (some (.inl (G.2.1 3, 10, .inr (.inr (.inr (.inr (va_up ((fun _ => none)) 0 (some q))))))))) H_4 := hH
    have hq : jj_e b3 (ix_u (ix_u (ix_u N 2 li (some (.inl (G.2.1 3, 10, .inr (.inr (.inr (.inr ((fun _ => none))))))))) 1 li (some (.inr (11, [.int mc, .ref (b3 2 li), .int (nI 0)])))) 2 li (some (.inl (G.2.1 3, 10, .inr (.inr (.inr (.inr (va_up ((fun _ => none)) 0 (some q))))))))) q := hq.upd (by rw [((ix_un (by omega)).trans ix_us)]; exact jj_no_a) (fun _ _ _ => rfl)
    refine lv_aload_n hx hb dJ2_add_2_15 rfl (lv_at hl 1 rfl) ?_
    refine lv_iload_n hx hb dJ2_add_2_16 rfl (lv_at hl 3 rfl) ?_
    refine lv_iconst (v := 1) hx hb dJ2_add_2_17 (by decide) ?_
    refine lv_iadd hx hb dJ2_add_2_18 ?_
    refine ix_reI (y := nI (0 + 1)) (nI_1 _) ?_
    refine ix_put S hC hH hS (k := 1) (i := li) (fs := [.int mc, .ref (b3 2 li), .int (nI 0)]) ((ix_un (by omega)).trans ix_us) ea_3 rfl in_J2 tyJ2 tyJ2_ok nmJ2 2 (by decide) q76 (fun _ h9 => h9) rfl (rfl) (rfl) (show 2 < 3 by decide) dJ2_add_2_19 (fun H_6 locs_7 hH hS hz => ?_)
    have hH : ix_H G.1 A b3 (ix_u (ix_u (ix_u (ix_u N 2 li (some (.inl (G.2.1 3, 10, .inr (.inr (.inr (.inr ((fun _ => none))))))))) 1 li (some (.inr (11, [.int mc, .ref (b3 2 li), .int (nI 0)])))) 2 li (some (.inl (G.2.1 3, 10, .inr (.inr (.inr (.inr (va_up ((fun _ => none)) 0 (some q))))))))) 1 li (some (.inr (11, [.int mc, .ref (b3 2 li), .int (nI (0 + 1))])))) H_6 := hH
    have hq : jj_e b3 (ix_u (ix_u (ix_u (ix_u N 2 li (some (.inl (G.2.1 3, 10, .inr (.inr (.inr (.inr ((fun _ => none))))))))) 1 li (some (.inr (11, [.int mc, .ref (b3 2 li), .int (nI 0)])))) 2 li (some (.inl (G.2.1 3, 10, .inr (.inr (.inr (.inr (va_up ((fun _ => none)) 0 (some q))))))))) 1 li (some (.inr (11, [.int mc, .ref (b3 2 li), .int (nI (0 + 1))])))) q := hq.upd (by rw [((ix_un (by omega)).trans ix_us)]; exact jj_no_11) (fun _ _ _ => rfl)
    exact ix_wV S hr hlocks hS (⟨_, hbf3, by rw [← hAe]; rw [jj_n1, jj_n2] at hH; exact hH⟩) (by omega) (by omega) dJ2_add_2_22
set_option maxHeartbeats 4000000 in
set_option maxRecDepth 100000 in
theorem jj_add2_1 (l : Launch) (G : ix_G) (β : ix_B) (N : ix_N) (sz : Nat) (li : Nat) (mc : Int32) (cap : Nat) (f : Nat → Option Nat) (q : Nat) (hl0 : N 1 li = some (.inr (11, [.int mc, .ref (β 2 li), .int (nI cap)]))) (ha0 : N 2 li = some (.inl (G.2.1 3, cap, .inr (.inr (.inr (.inr f)))))) (hc1 : 1 ≤ cap) (hc2 : cap ≤ 100) (hE : ∀ j y, f j = some y → jj_e β N y) (hq : jj_e β N q) (h90 : N 90 0 = none) : Met l yJ2_add_2 (ws_ yJ2_add_2 cJ2_add_2 4 (none)) ({ frames := 5, cells := 1, slots := 200, locals := 200 } : Room) (ix_P G β N sz [.ref (β 1 li), .ref q, .ref (β 2 li), .int (nI cap)]) (ix_Q (none) (fun (H9 : Heap) => ∃ b : ix_B, (∀ x y, ¬ (x = 2 ∧ y = li) → b x y = β x y) ∧ ix_H G.1 (ix_A β N sz) b (ix_u (ix_u N 2 li (some (.inl (G.2.1 3, (cap + jj_mx 1 (cap / 2)), .inr (.inr (.inr (.inr (va_up (va_cpy f (fun _ => none) 0 0 cap) cap (some q))))))))) 1 li (some (.inr (11, [.int mc, .ref (b 2 li), .int (nI ((cap + 1)))])))) H9) (ix_A β N sz)) 1 200 (ix_A β N sz) := by
  refine ix_writer (by decide +kernel) (Nat.le_of_ble_eq_true rfl) ?_
  intro p e s m below meth c A S hr hlocks hnm hC hsz hH hS hA0 hAz hAe ls hl
  have hx := S.1
  have hb := S.2.1
  have hts := S.2.2.2.2
  have S : CallFix p m c cJ2_add_2 4 s ([.ref (β 1 li), .ref q, .ref (β 2 li), .int (nI cap)] : List Value).toArray lw_all "java/util/ArrayList" := S
  have hl : lv_has ls 4 [(0, .ref (β 1 li)), (1, .ref q), (2, .ref (β 2 li)), (3, .int (nI cap))] := hl
  have hmx := jj_mx_b 1 (cap / 2)
  refine lv_iload_n hx hb dJ2_add_2_0 rfl (lv_at hl 3 rfl) ?_
  refine lv_aload_n hx hb dJ2_add_2_1 rfl (lv_at hl 2 rfl) ?_
  refine ix_alen S hC hH ha0 rfl rfl dJ2_add_2_2 ?_
  refine lv_icmp_ne (tgt := 11) hx hb dJ2_add_2_3 (by decide) (fun c3 => ?_) (fun c3 => ?_)
  · have c3 : ¬ (cap = cap) := (not_congr (ix_neq (a := cap) (b := cap) rfl rfl (by omega) (by omega))).mp c3
    exact absurd rfl c3
  · have c3 : cap = cap := (ix_neq (a := cap) (b := cap) rfl rfl (by omega) (by omega)).mp c3
    refine lv_aload_n hx hb dJ2_add_2_6 rfl (lv_at hl 0 rfl) ?_
    have hsub := ix_sub hH hS hA0
    refine ix_wrr3 (va_runV (As := []) (rest := []) S (jj_grow_1 l G β N s.heap.size li mc cap f hl0 ha0 (by omega) (by omega) hE h90) (cwV 0 hts (lw_V q265 q267 qs1 q24 q268) rfl rfl rfl (by decide +kernel) ⟨Nat.le_of_ble_eq_true rfl, Nat.le_of_ble_eq_true rfl⟩) (ix_preV hC hS hAz hH (ix_recv (k := 1) (i := li) hC hH hl0 rfl) rfl) rfl rfl hl.1 rfl (lv_room (Nat.le_of_ble_eq_true rfl)) dJ2_add_2_7 ⟨by first | exact Nat.le_of_ble_eq_true rfl | (show _ ≤ 1; omega), by first | exact Nat.le_of_ble_eq_true rfl | (show _ ≤ 200; omega)⟩) hS (hsub) (hsub) (fun ra H_1 locs_2 hB hz hk hS => ?_)
    obtain ⟨b3, hb3, hbf3, hH⟩ := hB
    have hH := hH.weaken hsub
    have ea_3 : β 1 li = b3 1 li := (show β 1 li = β 1 li from rfl).trans (hbf3 1 li (by omega)).symm
    have hq : jj_e b3 (ix_u N 2 li (some (.inl (G.2.1 3, (cap + jj_mx 1 (cap / 2)), .inr (.inr (.inr (.inr (va_cpy f (fun _ => none) 0 0 cap)))))))) q := hq.upd (by rw [ha0]; exact jj_no_a) hbf3
    have hq : jj_e b3 (ix_u (ix_u N 2 li (some (.inl (G.2.1 3, (cap + jj_mx 1 (cap / 2)), .inr (.inr (.inr (.inr (va_cpy f (fun _ => none) 0 0 cap)))))))) 1 li (some (.inr (11, [.int mc, .ref (b3 2 li), .int (nI cap)])))) q := hq.upd (by rw [((ix_un (by omega)).trans hl0)]; exact jj_no_11) (fun _ _ _ => rfl)
    have hra : ra = b3 2 li := hb3.symm
    refine W.eq (g2 := F0 m 10 ls [.ref ra]) rfl ?_
    refine lv_astore_n (lv' := [(2, .ref ra), (0, .ref (β 1 li)), (1, .ref q), (3, .int (nI cap))]) hx hb dJ2_add_2_10 rfl hl (by decide) rfl (fun ls hl => ?_)
    refine lv_aload_n hx hb dJ2_add_2_11 rfl (lv_at hl 0 rfl) ?_
    refine lv_iload_n hx hb dJ2_add_2_12 rfl (lv_at hl 3 rfl) ?_
    refine lv_aload_n hx hb dJ2_add_2_13 rfl (lv_at hl 2 rfl) ?_
    refine ix_aast (n := (cap + jj_mx 1 (cap / 2))) S hC hH hS ((ix_un (by omega)).trans ix_us) rfl hra ((jj_any hC hH hq)) (j := cap) rfl (by omega) (by omega) dJ2_add_2_14 (fun H_4 locs_5 hH hS hz => ?_)
    have hH : ix_H G.1 A b3 (ix_u (ix_u (ix_u N 2 li (some (.inl (G.2.1 3, (cap + jj_mx 1 (cap / 2)), .inr (.inr (.inr (.inr (va_cpy f (fun _ => none) 0 0 cap)))))))) 1 li (some (.inr (11, [.int mc, .ref (b3 2 li), .int (nI cap)])))) 2 li (some (.inl (G.2.1 3, (cap + jj_mx 1 (cap / 2)), .inr (.inr (.inr (.inr (va_up (va_cpy f (fun _ => none) 0 0 cap) cap (some q))))))))) H_4 := hH
    have hq : jj_e b3 (ix_u (ix_u (ix_u N 2 li (some (.inl (G.2.1 3, (cap + jj_mx 1 (cap / 2)), .inr (.inr (.inr (.inr (va_cpy f (fun _ => none) 0 0 cap)))))))) 1 li (some (.inr (11, [.int mc, .ref (b3 2 li), .int (nI cap)])))) 2 li (some (.inl (G.2.1 3, (cap + jj_mx 1 (cap / 2)), .inr (.inr (.inr (.inr (va_up (va_cpy f (fun _ => none) 0 0 cap) cap (some q))))))))) q := hq.upd (by rw [((ix_un (by omega)).trans ix_us)]; exact jj_no_a) (fun _ _ _ => rfl)
    refine lv_aload_n hx hb dJ2_add_2_15 rfl (lv_at hl 1 rfl) ?_
    refine lv_iload_n hx hb dJ2_add_2_16 rfl (lv_at hl 3 rfl) ?_
    refine lv_iconst (v := 1) hx hb dJ2_add_2_17 (by decide) ?_
    refine lv_iadd hx hb dJ2_add_2_18 ?_
    refine ix_reI (y := nI (cap + 1)) (nI_1 _) ?_
    refine ix_put S hC hH hS (k := 1) (i := li) (fs := [.int mc, .ref (b3 2 li), .int (nI cap)]) ((ix_un (by omega)).trans ix_us) ea_3 rfl in_J2 tyJ2 tyJ2_ok nmJ2 2 (by decide) q76 (fun _ h9 => h9) rfl (rfl) (rfl) (show 2 < 3 by decide) dJ2_add_2_19 (fun H_6 locs_7 hH hS hz => ?_)
    have hH : ix_H G.1 A b3 (ix_u (ix_u (ix_u (ix_u N 2 li (some (.inl (G.2.1 3, (cap + jj_mx 1 (cap / 2)), .inr (.inr (.inr (.inr (va_cpy f (fun _ => none) 0 0 cap)))))))) 1 li (some (.inr (11, [.int mc, .ref (b3 2 li), .int (nI cap)])))) 2 li (some (.inl (G.2.1 3, (cap + jj_mx 1 (cap / 2)), .inr (.inr (.inr (.inr (va_up (va_cpy f (fun _ => none) 0 0 cap) cap (some q))))))))) 1 li (some (.inr (11, [.int mc, .ref (b3 2 li), .int (nI (cap + 1))])))) H_6 := hH
    have hq : jj_e b3 (ix_u (ix_u (ix_u (ix_u N 2 li (some (.inl (G.2.1 3, (cap + jj_mx 1 (cap / 2)), .inr (.inr (.inr (.inr (va_cpy f (fun _ => none) 0 0 cap)))))))) 1 li (some (.inr (11, [.int mc, .ref (b3 2 li), .int (nI cap)])))) 2 li (some (.inl (G.2.1 3, (cap + jj_mx 1 (cap / 2)), .inr (.inr (.inr (.inr (va_up (va_cpy f (fun _ => none) 0 0 cap) cap (some q))))))))) 1 li (some (.inr (11, [.int mc, .ref (b3 2 li), .int (nI (cap + 1))])))) q := hq.upd (by rw [((ix_un (by omega)).trans ix_us)]; exact jj_no_11) (fun _ _ _ => rfl)
    exact ix_wV S hr hlocks hS (⟨_, hbf3, by rw [← hAe]; rw [jj_n1, jj_n2] at hH; exact hH⟩) (by omega) (by omega) dJ2_add_2_22
set_option maxHeartbeats 4000000 in
set_option maxRecDepth 100000 in
theorem jj_add_f (l : Launch) (G : ix_G) (β : ix_B) (N : ix_N) (sz : Nat) (li : Nat) (mc : Int32) (n : Nat) (cap : Nat) (f : Nat → Option Nat) (q : Nat) (hl0 : N 1 li = some (.inr (11, [.int mc, .ref (β 2 li), .int (nI n)]))) (ha0 : N 2 li = some (.inl (G.2.1 3, cap, .inr (.inr (.inr (.inr f)))))) (hn : n < cap) (hcap : cap ≤ 1000) (hq : jj_e β N q) : Met l yJ2_add (ws_ yJ2_add cJ2_add 2 (some .boolean)) ({ frames := 6, cells := 1, slots := 200, locals := 240 } : Room) (ix_P G β N sz [.ref (β 1 li), .ref q]) (ix_Q (some (.int (ix_b true))) (fun (H9 : Heap) => ∃ b : ix_B, (∀ x y, ¬ (x = 2 ∧ y = li) → b x y = β x y) ∧ ix_H G.1 (ix_A β N sz) b (ix_u (ix_u N 2 li (some (.inl (G.2.1 3, cap, .inr (.inr (.inr (.inr (va_up f n (some q))))))))) 1 li (some (.inr (11, [.int ((mc + 1)), .ref (b 2 li), .int (nI ((n + 1)))])))) H9) (ix_A β N sz)) 1 200 (ix_A β N sz) := by
  refine ix_writer (by decide +kernel) (Nat.le_of_ble_eq_true rfl) ?_
  intro p e s m below meth c A S hr hlocks hnm hC hsz hH hS hA0 hAz hAe ls hl
  have hx := S.1
  have hb := S.2.1
  have hts := S.2.2.2.2
  have S : CallFix p m c cJ2_add 2 s ([.ref (β 1 li), .ref q] : List Value).toArray lw_all "java/util/ArrayList" := S
  have hl : lv_has ls 2 [(0, .ref (β 1 li)), (1, .ref q)] := hl
  refine lv_aload_n hx hb dJ2_add_0 rfl (lv_at hl 0 rfl) ?_
  refine lv_dup hx hb dJ2_add_1 rfl ?_
  refine ix_get S hC hH (k := 1) (i := li) (fs := [.int mc, .ref (β 2 li), .int (nI n)]) hl0 rfl rfl in_J2 0 (by decide) q80 (u_same (hts _ q79)) rfl dJ2_add_2 ?_
  refine lv_iconst (v := 1) hx hb dJ2_add_5 (by decide) ?_
  refine lv_iadd hx hb dJ2_add_6 ?_
  refine ix_put S hC hH hS (k := 1) (i := li) (fs := [.int mc, .ref (β 2 li), .int (nI n)]) hl0 rfl rfl in_J2 tyJ2 tyJ2_ok nmJ2 0 (by decide) q80 (u_same (hts _ q79)) rfl (rfl) (rfl) (show 0 < 3 by decide) dJ2_add_7 (fun H_1 locs_2 hH hS hz => ?_)
  have hH : ix_H G.1 A β (ix_u N 1 li (some (.inr (11, [.int (mc + 1), .ref (β 2 li), .int (nI n)])))) H_1 := hH
  have hq : jj_e β (ix_u N 1 li (some (.inr (11, [.int (mc + 1), .ref (β 2 li), .int (nI n)])))) q := hq.upd (by rw [hl0]; exact jj_no_11) (fun _ _ _ => rfl)
  refine lv_aload_n hx hb dJ2_add_10 rfl (lv_at hl 0 rfl) ?_
  refine lv_aload_n hx hb dJ2_add_11 rfl (lv_at hl 1 rfl) ?_
  refine lv_aload_n hx hb dJ2_add_12 rfl (lv_at hl 0 rfl) ?_
  refine ix_get S hC hH (k := 1) (i := li) (fs := [.int (mc + 1), .ref (β 2 li), .int (nI n)]) ix_us rfl rfl in_J2 1 (by decide) q73 (fun _ h9 => h9) rfl dJ2_add_13 ?_
  refine lv_aload_n hx hb dJ2_add_16 rfl (lv_at hl 0 rfl) ?_
  refine ix_get S hC hH (k := 1) (i := li) (fs := [.int (mc + 1), .ref (β 2 li), .int (nI n)]) ix_us rfl rfl in_J2 2 (by decide) q76 (fun _ h9 => h9) rfl dJ2_add_17 ?_
  have hsub := ix_sub hH hS hA0
  refine ix_wr3 (va_runV (As := [.ref q, .ref (β 2 li), .int (nI n)]) (rest := []) S (jj_add2_f l G β (ix_u N 1 li (some (.inr (11, [.int (mc + 1), .ref (β 2 li), .int (nI n)])))) H_1.size li (mc + 1) n cap f q ix_us ((ix_un (by omega)).trans ha0) (by omega) (by omega) hq) (cwV 3 hts (lw_V q261 q263 qs0 q24 q264) rfl rfl rfl (by decide +kernel) ⟨Nat.le_of_ble_eq_true rfl, Nat.le_of_ble_eq_true rfl⟩) (ix_preV hC hS hAz hH (ix_recv (k := 1) (i := li) hC hH ix_us rfl) rfl) rfl rfl hl.1 rfl (lv_room (Nat.le_of_ble_eq_true rfl)) dJ2_add_20 ⟨by first | exact Nat.le_of_ble_eq_true rfl | (show _ ≤ 1; omega), by first | exact Nat.le_of_ble_eq_true rfl | (show _ ≤ 200; omega)⟩) hS (hsub) (hsub) (fun H_3 locs_4 hB hz hk hS => ?_)
  obtain ⟨b4, hbf4, hH⟩ := hB
  have hH := hH.weaken hsub
  refine W.eq (g2 := F0 m 23 ls []) rfl ?_
  refine lv_iconst (v := 1) hx hb dJ2_add_23 (by decide) ?_
  exact ix_wZ S hr hlocks hS (rfl) (⟨b4, hbf4, by rw [← hAe]; rw [jj_n3] at hH; exact hH⟩) (by omega) (by omega) dJ2_add_24
set_option maxHeartbeats 4000000 in
set_option maxRecDepth 100000 in
theorem jj_add_0 (l : Launch) (G : ix_G) (β : ix_B) (N : ix_N) (sz : Nat) (li : Nat) (mc : Int32) (q : Nat) (hl0 : N 1 li = some (.inr (11, [.int mc, .ref (G.2.2.1 4), .int (nI 0)]))) (hq : jj_e β N q) (hd2 : jj_no (N 2 li)) : Met l yJ2_add (ws_ yJ2_add cJ2_add 2 (some .boolean)) ({ frames := 6, cells := 1, slots := 200, locals := 240 } : Room) (ix_P G β N sz [.ref (β 1 li), .ref q]) (ix_Q (some (.int (ix_b true))) (fun (H9 : Heap) => ∃ b : ix_B, (∀ x y, ¬ (x = 2 ∧ y = li) → b x y = β x y) ∧ ix_H G.1 (ix_A β N sz) b (ix_u (ix_u N 2 li (some (.inl (G.2.1 3, 10, .inr (.inr (.inr (.inr (va_up (fun _ => none) 0 (some q))))))))) 1 li (some (.inr (11, [.int ((mc + 1)), .ref (b 2 li), .int (nI ((0 + 1)))])))) H9) (ix_A β N sz)) 1 200 (ix_A β N sz) := by
  refine ix_writer (by decide +kernel) (Nat.le_of_ble_eq_true rfl) ?_
  intro p e s m below meth c A S hr hlocks hnm hC hsz hH hS hA0 hAz hAe ls hl
  have hx := S.1
  have hb := S.2.1
  have hts := S.2.2.2.2
  have S : CallFix p m c cJ2_add 2 s ([.ref (β 1 li), .ref q] : List Value).toArray lw_all "java/util/ArrayList" := S
  have hl : lv_has ls 2 [(0, .ref (β 1 li)), (1, .ref q)] := hl
  refine lv_aload_n hx hb dJ2_add_0 rfl (lv_at hl 0 rfl) ?_
  refine lv_dup hx hb dJ2_add_1 rfl ?_
  refine ix_get S hC hH (k := 1) (i := li) (fs := [.int mc, .ref (G.2.2.1 4), .int (nI 0)]) hl0 rfl rfl in_J2 0 (by decide) q80 (u_same (hts _ q79)) rfl dJ2_add_2 ?_
  refine lv_iconst (v := 1) hx hb dJ2_add_5 (by decide) ?_
  refine lv_iadd hx hb dJ2_add_6 ?_
  refine ix_put S hC hH hS (k := 1) (i := li) (fs := [.int mc, .ref (G.2.2.1 4), .int (nI 0)]) hl0 rfl rfl in_J2 tyJ2 tyJ2_ok nmJ2 0 (by decide) q80 (u_same (hts _ q79)) rfl (rfl) (rfl) (show 0 < 3 by decide) dJ2_add_7 (fun H_1 locs_2 hH hS hz => ?_)
  have hH : ix_H G.1 A β (ix_u N 1 li (some (.inr (11, [.int (mc + 1), .ref (G.2.2.1 4), .int (nI 0)])))) H_1 := hH
  have hq : jj_e β (ix_u N 1 li (some (.inr (11, [.int (mc + 1), .ref (G.2.2.1 4), .int (nI 0)])))) q := hq.upd (by rw [hl0]; exact jj_no_11) (fun _ _ _ => rfl)
  refine lv_aload_n hx hb dJ2_add_10 rfl (lv_at hl 0 rfl) ?_
  refine lv_aload_n hx hb dJ2_add_11 rfl (lv_at hl 1 rfl) ?_
  refine lv_aload_n hx hb dJ2_add_12 rfl (lv_at hl 0 rfl) ?_
  refine ix_get S hC hH (k := 1) (i := li) (fs := [.int (mc + 1), .ref (G.2.2.1 4), .int (nI 0)]) ix_us rfl rfl in_J2 1 (by decide) q73 (fun _ h9 => h9) rfl dJ2_add_13 ?_
  refine lv_aload_n hx hb dJ2_add_16 rfl (lv_at hl 0 rfl) ?_
  refine ix_get S hC hH (k := 1) (i := li) (fs := [.int (mc + 1), .ref (G.2.2.1 4), .int (nI 0)]) ix_us rfl rfl in_J2 2 (by decide) q76 (fun _ h9 => h9) rfl dJ2_add_17 ?_
  have hsub := ix_sub hH hS hA0
  refine ix_wr3 (va_runV (As := [.ref q, .ref (G.2.2.1 4), .int (nI 0)]) (rest := []) S (jj_add2_0 l G β (ix_u N 1 li (some (.inr (11, [.int (mc + 1), .ref (G.2.2.1 4), .int (nI 0)])))) H_1.size li (mc + 1) q ix_us hq (by rw [ix_un (by omega)]; exact hd2)) (cwV 3 hts (lw_V q261 q263 qs0 q24 q264) rfl rfl rfl (by decide +kernel) ⟨Nat.le_of_ble_eq_true rfl, Nat.le_of_ble_eq_true rfl⟩) (ix_preV hC hS hAz hH (ix_recv (k := 1) (i := li) hC hH ix_us rfl) rfl) rfl rfl hl.1 rfl (lv_room (Nat.le_of_ble_eq_true rfl)) dJ2_add_20 ⟨by first | exact Nat.le_of_ble_eq_true rfl | (show _ ≤ 1; omega), by first | exact Nat.le_of_ble_eq_true rfl | (show _ ≤ 200; omega)⟩) hS (hsub) (hsub) (fun H_3 locs_4 hB hz hk hS => ?_)
  obtain ⟨b4, hbf4, hH⟩ := hB
  have hH := hH.weaken hsub
  refine W.eq (g2 := F0 m 23 ls []) rfl ?_
  refine lv_iconst (v := 1) hx hb dJ2_add_23 (by decide) ?_
  exact ix_wZ S hr hlocks hS (rfl) (⟨b4, hbf4, by rw [← hAe]; rw [jj_n3] at hH; exact hH⟩) (by omega) (by omega) dJ2_add_24
set_option maxHeartbeats 4000000 in
set_option maxRecDepth 100000 in
theorem jj_add_1 (l : Launch) (G : ix_G) (β : ix_B) (N : ix_N) (sz : Nat) (li : Nat) (mc : Int32) (cap : Nat) (f : Nat → Option Nat) (q : Nat) (hl0 : N 1 li = some (.inr (11, [.int mc, .ref (β 2 li), .int (nI cap)]))) (ha0 : N 2 li = some (.inl (G.2.1 3, cap, .inr (.inr (.inr (.inr f)))))) (hc1 : 1 ≤ cap) (hc2 : cap ≤ 100) (hE : ∀ j y, f j = some y → jj_e β N y) (hq : jj_e β N q) (h90 : N 90 0 = none) : Met l yJ2_add (ws_ yJ2_add cJ2_add 2 (some .boolean)) ({ frames := 6, cells := 1, slots := 200, locals := 240 } : Room) (ix_P G β N sz [.ref (β 1 li), .ref q]) (ix_Q (some (.int (ix_b true))) (fun (H9 : Heap) => ∃ b : ix_B, (∀ x y, ¬ (x = 2 ∧ y = li) → b x y = β x y) ∧ ix_H G.1 (ix_A β N sz) b (ix_u (ix_u N 2 li (some (.inl (G.2.1 3, (cap + jj_mx 1 (cap / 2)), .inr (.inr (.inr (.inr (va_up (va_cpy f (fun _ => none) 0 0 cap) cap (some q))))))))) 1 li (some (.inr (11, [.int ((mc + 1)), .ref (b 2 li), .int (nI ((cap + 1)))])))) H9) (ix_A β N sz)) 1 200 (ix_A β N sz) := by
  refine ix_writer (by decide +kernel) (Nat.le_of_ble_eq_true rfl) ?_
  intro p e s m below meth c A S hr hlocks hnm hC hsz hH hS hA0 hAz hAe ls hl
  have hx := S.1
  have hb := S.2.1
  have hts := S.2.2.2.2
  have S : CallFix p m c cJ2_add 2 s ([.ref (β 1 li), .ref q] : List Value).toArray lw_all "java/util/ArrayList" := S
  have hl : lv_has ls 2 [(0, .ref (β 1 li)), (1, .ref q)] := hl
  refine lv_aload_n hx hb dJ2_add_0 rfl (lv_at hl 0 rfl) ?_
  refine lv_dup hx hb dJ2_add_1 rfl ?_
  refine ix_get S hC hH (k := 1) (i := li) (fs := [.int mc, .ref (β 2 li), .int (nI cap)]) hl0 rfl rfl in_J2 0 (by decide) q80 (u_same (hts _ q79)) rfl dJ2_add_2 ?_
  refine lv_iconst (v := 1) hx hb dJ2_add_5 (by decide) ?_
  refine lv_iadd hx hb dJ2_add_6 ?_
  refine ix_put S hC hH hS (k := 1) (i := li) (fs := [.int mc, .ref (β 2 li), .int (nI cap)]) hl0 rfl rfl in_J2 tyJ2 tyJ2_ok nmJ2 0 (by decide) q80 (u_same (hts _ q79)) rfl (rfl) (rfl) (show 0 < 3 by decide) dJ2_add_7 (fun H_1 locs_2 hH hS hz => ?_)
  have hH : ix_H G.1 A β (ix_u N 1 li (some (.inr (11, [.int (mc + 1), .ref (β 2 li), .int (nI cap)])))) H_1 := hH
  have hq : jj_e β (ix_u N 1 li (some (.inr (11, [.int (mc + 1), .ref (β 2 li), .int (nI cap)])))) q := hq.upd (by rw [hl0]; exact jj_no_11) (fun _ _ _ => rfl)
  have hE : ∀ j y, f j = some y → jj_e β (ix_u N 1 li (some (.inr (11, [.int (mc + 1), .ref (β 2 li), .int (nI cap)])))) y := fun j y h => (hE j y h).upd (by rw [hl0]; exact jj_no_11) (fun _ _ _ => rfl)
  refine lv_aload_n hx hb dJ2_add_10 rfl (lv_at hl 0 rfl) ?_
  refine lv_aload_n hx hb dJ2_add_11 rfl (lv_at hl 1 rfl) ?_
  refine lv_aload_n hx hb dJ2_add_12 rfl (lv_at hl 0 rfl) ?_
  refine ix_get S hC hH (k := 1) (i := li) (fs := [.int (mc + 1), .ref (β 2 li), .int (nI cap)]) ix_us rfl rfl in_J2 1 (by decide) q73 (fun _ h9 => h9) rfl dJ2_add_13 ?_
  refine lv_aload_n hx hb dJ2_add_16 rfl (lv_at hl 0 rfl) ?_
  refine ix_get S hC hH (k := 1) (i := li) (fs := [.int (mc + 1), .ref (β 2 li), .int (nI cap)]) ix_us rfl rfl in_J2 2 (by decide) q76 (fun _ h9 => h9) rfl dJ2_add_17 ?_
  have hsub := ix_sub hH hS hA0
  refine ix_wr3 (va_runV (As := [.ref q, .ref (β 2 li), .int (nI cap)]) (rest := []) S (jj_add2_1 l G β (ix_u N 1 li (some (.inr (11, [.int (mc + 1), .ref (β 2 li), .int (nI cap)])))) H_1.size li (mc + 1) cap f q ix_us ((ix_un (by omega)).trans ha0) (by omega) (by omega) hE hq ((ix_un (by omega)).trans h90)) (cwV 3 hts (lw_V q261 q263 qs0 q24 q264) rfl rfl rfl (by decide +kernel) ⟨Nat.le_of_ble_eq_true rfl, Nat.le_of_ble_eq_true rfl⟩) (ix_preV hC hS hAz hH (ix_recv (k := 1) (i := li) hC hH ix_us rfl) rfl) rfl rfl hl.1 rfl (lv_room (Nat.le_of_ble_eq_true rfl)) dJ2_add_20 ⟨by first | exact Nat.le_of_ble_eq_true rfl | (show _ ≤ 1; omega), by first | exact Nat.le_of_ble_eq_true rfl | (show _ ≤ 200; omega)⟩) hS (hsub) (hsub) (fun H_3 locs_4 hB hz hk hS => ?_)
  obtain ⟨b4, hbf4, hH⟩ := hB
  have hH := hH.weaken hsub
  refine W.eq (g2 := F0 m 23 ls []) rfl ?_
  refine lv_iconst (v := 1) hx hb dJ2_add_23 (by decide) ?_
  exact ix_wZ S hr hlocks hS (rfl) (⟨b4, hbf4, by rw [← hAe]; rw [jj_n3] at hH; exact hH⟩) (by omega) (by omega) dJ2_add_24
