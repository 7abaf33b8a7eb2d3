/-! THE REFERENCE: its public methods, without loops -/
set_option maxHeartbeats 4000000 in
set_option maxRecDepth 100000 in
theorem mm_initiator_ (l : Launch) (G : ix_G) (β : ix_B) (F : mm_F) (L : mm_L) (sz : Nat)  : Met l yX11_initiator (ws_ yX11_initiator cX11_initiator 1 (some .int)) ({ frames := 0, cells := 0, slots := 0, locals := 0 } : Room) (ix_P G β (mm_N G.2.1 β F L) sz [.ref (β 0 0)]) (ix_Q (some (.int (mm_oInit (mm_0 F) L).1)) (fun (H9 : Heap) => ix_H G.1 (ix_A β (mm_N G.2.1 β F L) sz) β (mm_N G.2.1 β (mm_oInit (mm_0 F) L).2.1 (mm_oInit (mm_0 F) L).2.2) H9) (ix_A β (mm_N G.2.1 β F L) sz)) 0 0 (ix_A β (mm_N G.2.1 β F L) sz) := by
  refine ix_writer (by decide +kernel) (Nat.le_of_ble_eq_true rfl) ?_
  intro p e s m below meth c A S hr hlocks hnm hC hsz hH hS hA0 hAz hAe ls hl
  have hx := S.1
  have hb := S.2.1
  have hts := S.2.2.2.2
  have S : CallFix p m c cX11_initiator 1 s ([.ref (β 0 0)] : List Value).toArray lw_all "InitiatorRowsModel" := S
  have hl : lv_has ls 1 [(0, .ref (β 0 0))] := hl
  refine lv_aload_n hx hb dX11_initiator_0 rfl (lv_at hl 0 rfl) ?_
  refine lv_iconst (v := 0) hx hb dX11_initiator_1 (by decide) ?_
  refine ix_put S hC hH hS (fs := mm_obj β F L) (rfl : mm_N G.2.1 β F L 0 0 = _) rfl rfl in_X11 tyX11 tyX11_ok nmX11 0 (by decide) q832 (fun _ h9 => h9) rfl (rfl) (rfl) (show 0 < 25 by decide) dX11_initiator_2 (fun H_1 locs_2 hH hS hz => ?_)
  have hH : ix_H G.1 A β (mm_N G.2.1 β (mm_0 F) L) H_1 := hH.to (mm_putI 0 _ (by decide))
  generalize mm_0 F = F1 at hH ⊢
  refine lv_aload_n hx hb dX11_initiator_5 rfl (lv_at hl 0 rfl) ?_
  refine ix_get S hC hH (fs := mm_obj β F1 L) (rfl : mm_N G.2.1 β F1 L 0 0 = _) rfl rfl in_X11 5 (by decide) q837 (fun _ h9 => h9) rfl dX11_initiator_6 ?_
  refine lv_bipush (v := 12) hx hb dX11_initiator_9 (by decide) ?_
  refine lv_icmp_ne (tgt := 16) hx hb dX11_initiator_11 (by decide) (fun c11 => ?_) (fun c11 => ?_)
  · refine lv_aload_n hx hb dX11_initiator_16 rfl (lv_at hl 0 rfl) ?_
    refine lv_dup hx hb dX11_initiator_17 rfl ?_
    refine ix_get S hC hH (fs := mm_obj β F1 L) (rfl : mm_N G.2.1 β F1 L 0 0 = _) rfl rfl in_X11 5 (by decide) q837 (fun _ h9 => h9) rfl dX11_initiator_18 ?_
    refine lv_iconst (v := 1) hx hb dX11_initiator_21 (by decide) ?_
    refine lv_iadd hx hb dX11_initiator_22 ?_
    refine ix_put S hC hH hS (fs := mm_obj β F1 L) (rfl : mm_N G.2.1 β F1 L 0 0 = _) rfl rfl in_X11 tyX11 tyX11_ok nmX11 5 (by decide) q837 (fun _ h9 => h9) rfl (rfl) (rfl) (show 5 < 25 by decide) dX11_initiator_23 (fun H_3 locs_4 hH hS hz => ?_)
    have hH : ix_H G.1 A β (mm_N G.2.1 β (mm_st F1 5 ((F1 5 0) + 1)) L) H_3 := hH.to (mm_putI 5 _ (by decide))
    refine lv_aload_n hx hb dX11_initiator_26 rfl (lv_at hl 0 rfl) ?_
    refine ix_get S hC hH (fs := mm_obj β (mm_st F1 5 ((F1 5 0) + 1)) L) (rfl : mm_N G.2.1 β (mm_st F1 5 ((F1 5 0) + 1)) L 0 0 = _) rfl rfl in_X11 5 (by decide) q837 (fun _ h9 => h9) rfl dX11_initiator_27 ?_
    have e9 : mm_oInit F1 L = ((F1 5 0) + 1, mm_st F1 5 ((F1 5 0) + 1), L) := by simp [mm_oInit, c11]
    exact ix_wI S hr hlocks hS (congrArg Prod.fst e9).symm (by rw [← hAe, e9]; exact hH) (by omega) (by omega) dX11_initiator_30
  · refine lv_iconst (v := (-1)) hx hb dX11_initiator_14 (by decide) ?_
    have e9 : mm_oInit F1 L = ((-1), F1, L) := by simp [mm_oInit, c11]
    exact ix_wI S hr hlocks hS (congrArg Prod.fst e9).symm (by rw [← hAe, e9]; exact hH) (by omega) (by omega) dX11_initiator_15
set_option maxHeartbeats 4000000 in
set_option maxRecDepth 100000 in
theorem mm_cls_ (l : Launch) (G : ix_G) (β : ix_B) (F : mm_F) (L : mm_L) (sz : Nat) (i o k : Int32) (ni : Nat) (h12 : ni ≤ 12) (hi : F 5 0 = nI ni) : Met l yX11_cls (ws_ yX11_cls cX11_cls 4 (some .int)) ({ frames := 1, cells := 0, slots := 0, locals := 40 } : Room) (ix_P G β (mm_N G.2.1 β F L) sz [.ref (β 0 0), .int i, .int o, .int k]) (ix_Q (some (.int (mm_oCls (mm_0 F) L i o k).1)) (fun (H9 : Heap) => ix_H G.1 (ix_A β (mm_N G.2.1 β F L) sz) β (mm_N G.2.1 β (mm_oCls (mm_0 F) L i o k).2.1 (mm_oCls (mm_0 F) L i o k).2.2) H9) (ix_A β (mm_N G.2.1 β F L) sz)) 0 0 (ix_A β (mm_N G.2.1 β F L) sz) := by
  refine ix_writer (by decide +kernel) (Nat.le_of_ble_eq_true rfl) ?_
  intro p e s m below meth c A S hr hlocks hnm hC hsz hH hS hA0 hAz hAe ls hl
  have hx := S.1
  have hb := S.2.1
  have hts := S.2.2.2.2
  have S : CallFix p m c cX11_cls 4 s ([.ref (β 0 0), .int i, .int o, .int k] : List Value).toArray lw_all "InitiatorRowsModel" := S
  have hl : lv_has ls 4 [(0, .ref (β 0 0)), (1, .int i), (2, .int o), (3, .int k)] := hl
  refine lv_aload_n hx hb dX11_cls_0 rfl (lv_at hl 0 rfl) ?_
  refine lv_iconst (v := 0) hx hb dX11_cls_1 (by decide) ?_
  refine ix_put S hC hH hS (fs := mm_obj β F L) (rfl : mm_N G.2.1 β F L 0 0 = _) rfl rfl in_X11 tyX11 tyX11_ok nmX11 0 (by decide) q832 (fun _ h9 => h9) rfl (rfl) (rfl) (show 0 < 25 by decide) dX11_cls_2 (fun H_1 locs_2 hH hS hz => ?_)
  have hH : ix_H G.1 A β (mm_N G.2.1 β (mm_0 F) L) H_1 := hH.to (mm_putI 0 _ (by decide))
  have hi0 : (mm_0 F) 5 0 = nI ni := hi
  generalize mm_0 F = F1 at hi0 hH ⊢
  refine lv_aload_n hx hb dX11_cls_5 rfl (lv_at hl 0 rfl) ?_
  refine lv_iload_n hx hb dX11_cls_6 rfl (lv_at hl 1 rfl) ?_
  refine ix_rd (W.runV (As := [.int i]) (rest := []) S (mm_isI_ l G β F1 L H_1.size i) (cwV 1 hts (lw_V q921 q923 qs11 q34 q924) rfl rfl rfl (by decide +kernel) ⟨Nat.le_of_ble_eq_true rfl, Nat.le_of_ble_eq_true rfl⟩) (ix_preV hC hS hAz hH (ix_recv hC hH (rfl : mm_N G.2.1 β F1 L 0 0 = _) rfl) rfl) rfl rfl hl.1 rfl (lv_room (Nat.le_of_ble_eq_true rfl)) dX11_cls_7 ⟨by omega, by omega⟩) ?_
  refine W.eq (g2 := F0 m 10 ls [.int (ix_b (mm_isI F1 i))]) rfl ?_
  refine lv_if_ne (tgt := 16) hx hb dX11_cls_10 (by decide) (fun c10 => ?_) (fun c10 => ?_)
  · have c10 : (mm_isI F1 i) = true := ix_b_ne.mp c10
    have ki := mm_isI_t hi0 h12 c10
    refine lv_iload_n hx hb dX11_cls_16 rfl (lv_at hl 2 rfl) ?_
    refine lv_if_lt (tgt := 38) hx hb dX11_cls_17 (by decide) (fun c17 => ?_) (fun c17 => ?_)
    · refine lv_bipush (v := (-4)) hx hb dX11_cls_38 (by decide) ?_
      have e9 : mm_oCls F1 L i o k = ((-4), F1, L) := by simp [mm_oCls, c10, c17]
      exact ix_wI S hr hlocks hS (congrArg Prod.fst e9).symm (by rw [← hAe, e9]; exact hH) (by omega) (by omega) dX11_cls_40
    · refine lv_iload_n hx hb dX11_cls_20 rfl (lv_at hl 2 rfl) ?_
      refine lv_bipush (v := 7) hx hb dX11_cls_21 (by decide) ?_
      refine lv_icmp_gt (tgt := 38) hx hb dX11_cls_23 (by decide) (fun c23 => ?_) (fun c23 => ?_)
      · refine lv_bipush (v := (-4)) hx hb dX11_cls_38 (by decide) ?_
        have e9 : mm_oCls F1 L i o k = ((-4), F1, L) := by simp [mm_oCls, c10, c17, c23]
        exact ix_wI S hr hlocks hS (congrArg Prod.fst e9).symm (by rw [← hAe, e9]; exact hH) (by omega) (by omega) dX11_cls_40
      · have ko := ix_t_le (M := 7) (n := 7) rfl (by omega) c17 c23
        refine lv_iload_n hx hb dX11_cls_26 rfl (lv_at hl 3 rfl) ?_
        refine lv_iconst (v := (-1)) hx hb dX11_cls_27 (by decide) ?_
        refine lv_icmp_eq (tgt := 41) hx hb dX11_cls_28 (by decide) (fun c28 => ?_) (fun c28 => ?_)
        · refine lv_aload_n hx hb dX11_cls_41 rfl (lv_at hl 0 rfl) ?_
          refine ix_get S hC hH (fs := mm_obj β F1 L) (rfl : mm_N G.2.1 β F1 L 0 0 = _) rfl rfl in_X11 2 (by decide) q834 (fun _ h9 => h9) rfl dX11_cls_42 ?_
          refine lv_bipush (v := 8) hx hb dX11_cls_45 (by decide) ?_
          refine lv_iload_n hx hb dX11_cls_47 rfl (lv_at hl 1 rfl) ?_
          refine lv_imul hx hb dX11_cls_48 ?_
          refine lv_bipush (v := 8) hx hb dX11_cls_49 (by decide) ?_
          refine lv_isub hx hb dX11_cls_51 ?_
          refine lv_iload_n hx hb dX11_cls_52 rfl (lv_at hl 2 rfl) ?_
          refine lv_iadd hx hb dX11_cls_53 ?_
          refine lv_iload_n hx hb dX11_cls_54 rfl (lv_at hl 3 rfl) ?_
          refine ix_iast (n := 96) S hC hH hS (rfl : mm_N G.2.1 β F1 L 2 0 = _) rfl (j := ((8 * ((ix_t i))) - 8) + ((ix_t o))) (ix_nadd (ix_nsub (a := 8 * ((ix_t i))) (b := 8) (ix_nmul (rfl : (8 : Int32) = nI 8) ki.1) (rfl : (8 : Int32) = nI 8) (by omega)) ko.1) (by omega) (by omega) dX11_cls_55 (fun H_3 locs_4 hH hS hz => ?_)
          have hH : ix_H G.1 A β (mm_N G.2.1 β (mm_wr F1 2 (((8 * ((ix_t i))) - 8) + ((ix_t o))) k) L) H_3 := hH.to (mm_upI 2 rfl)
          refine lv_iconst (v := 1) hx hb dX11_cls_56 (by decide) ?_
          have e9 : mm_oCls F1 L i o k = (1, mm_wr F1 2 (((8 * ((ix_t i))) - 8) + ((ix_t o))) k, L) := by simp [mm_oCls, c10, c17, c23, c28]
          exact ix_wI S hr hlocks hS (congrArg Prod.fst e9).symm (by rw [← hAe, e9]; exact hH) (by omega) (by omega) dX11_cls_57
        · refine lv_iload_n hx hb dX11_cls_31 rfl (lv_at hl 3 rfl) ?_
          refine ix_rd (W.runS (As := [.int k]) (rest := []) S (mm_isC_ l G β F1 L H_1.size k) (va_cwS 1 hts (lw_S q925 q926 q34 q927) rfl rfl rfl (by decide +kernel) ⟨Nat.le_of_ble_eq_true rfl, Nat.le_of_ble_eq_true rfl⟩) (ix_pre hC hS hAz hH rfl) rfl rfl hl.1 rfl (lv_room (Nat.le_of_ble_eq_true rfl)) dX11_cls_32 ⟨by omega, by omega⟩) ?_
          refine W.eq (g2 := F0 m 35 ls [.int (ix_b (mm_isC k))]) rfl ?_
          refine lv_if_ne (tgt := 41) hx hb dX11_cls_35 (by decide) (fun c35 => ?_) (fun c35 => ?_)
          · have c35 : (mm_isC k) = true := ix_b_ne.mp c35
            refine lv_aload_n hx hb dX11_cls_41 rfl (lv_at hl 0 rfl) ?_
            refine ix_get S hC hH (fs := mm_obj β F1 L) (rfl : mm_N G.2.1 β F1 L 0 0 = _) rfl rfl in_X11 2 (by decide) q834 (fun _ h9 => h9) rfl dX11_cls_42 ?_
            refine lv_bipush (v := 8) hx hb dX11_cls_45 (by decide) ?_
            refine lv_iload_n hx hb dX11_cls_47 rfl (lv_at hl 1 rfl) ?_
            refine lv_imul hx hb dX11_cls_48 ?_
            refine lv_bipush (v := 8) hx hb dX11_cls_49 (by decide) ?_
            refine lv_isub hx hb dX11_cls_51 ?_
            refine lv_iload_n hx hb dX11_cls_52 rfl (lv_at hl 2 rfl) ?_
            refine lv_iadd hx hb dX11_cls_53 ?_
            refine lv_iload_n hx hb dX11_cls_54 rfl (lv_at hl 3 rfl) ?_
            refine ix_iast (n := 96) S hC hH hS (rfl : mm_N G.2.1 β F1 L 2 0 = _) rfl (j := ((8 * ((ix_t i))) - 8) + ((ix_t o))) (ix_nadd (ix_nsub (a := 8 * ((ix_t i))) (b := 8) (ix_nmul (rfl : (8 : Int32) = nI 8) ki.1) (rfl : (8 : Int32) = nI 8) (by omega)) ko.1) (by omega) (by omega) dX11_cls_55 (fun H_5 locs_6 hH hS hz => ?_)
            have hH : ix_H G.1 A β (mm_N G.2.1 β (mm_wr F1 2 (((8 * ((ix_t i))) - 8) + ((ix_t o))) k) L) H_5 := hH.to (mm_upI 2 rfl)
            refine lv_iconst (v := 1) hx hb dX11_cls_56 (by decide) ?_
            have e9 : mm_oCls F1 L i o k = (1, mm_wr F1 2 (((8 * ((ix_t i))) - 8) + ((ix_t o))) k, L) := by simp [mm_oCls, c10, c17, c23, c28, c35]
            exact ix_wI S hr hlocks hS (congrArg Prod.fst e9).symm (by rw [← hAe, e9]; exact hH) (by omega) (by omega) dX11_cls_57
          · have c35 : (mm_isC k) = false := ix_b_eq.mp c35
            refine lv_bipush (v := (-4)) hx hb dX11_cls_38 (by decide) ?_
            have e9 : mm_oCls F1 L i o k = ((-4), F1, L) := by simp [mm_oCls, c10, c17, c23, c28, c35]
            exact ix_wI S hr hlocks hS (congrArg Prod.fst e9).symm (by rw [← hAe, e9]; exact hH) (by omega) (by omega) dX11_cls_40
  · have c10 : (mm_isI F1 i) = false := ix_b_eq.mp c10
    refine lv_bipush (v := (-2)) hx hb dX11_cls_13 (by decide) ?_
    have e9 : mm_oCls F1 L i o k = ((-2), F1, L) := by simp [mm_oCls, c10]
    exact ix_wI S hr hlocks hS (congrArg Prod.fst e9).symm (by rw [← hAe, e9]; exact hH) (by omega) (by omega) dX11_cls_15
set_option maxHeartbeats 4000000 in
set_option maxRecDepth 100000 in
theorem mm_limit_ (l : Launch) (G : ix_G) (β : ix_B) (F : mm_F) (L : mm_L) (sz : Nat) (k x : Int32) : Met l yX11_limit (ws_ yX11_limit cX11_limit 3 (some .int)) ({ frames := 1, cells := 0, slots := 0, locals := 40 } : Room) (ix_P G β (mm_N G.2.1 β F L) sz [.ref (β 0 0), .int k, .int x]) (ix_Q (some (.int (mm_oLimit (mm_0 F) L k x).1)) (fun (H9 : Heap) => ix_H G.1 (ix_A β (mm_N G.2.1 β F L) sz) β (mm_N G.2.1 β (mm_oLimit (mm_0 F) L k x).2.1 (mm_oLimit (mm_0 F) L k x).2.2) H9) (ix_A β (mm_N G.2.1 β F L) sz)) 0 0 (ix_A β (mm_N G.2.1 β F L) sz) := by
  refine ix_writer (by decide +kernel) (Nat.le_of_ble_eq_true rfl) ?_
  intro p e s m below meth c A S hr hlocks hnm hC hsz hH hS hA0 hAz hAe ls hl
  have hx := S.1
  have hb := S.2.1
  have hts := S.2.2.2.2
  have S : CallFix p m c cX11_limit 3 s ([.ref (β 0 0), .int k, .int x] : List Value).toArray lw_all "InitiatorRowsModel" := S
  have hl : lv_has ls 3 [(0, .ref (β 0 0)), (1, .int k), (2, .int x)] := hl
  refine lv_aload_n hx hb dX11_limit_0 rfl (lv_at hl 0 rfl) ?_
  refine lv_iconst (v := 0) hx hb dX11_limit_1 (by decide) ?_
  refine ix_put S hC hH hS (fs := mm_obj β F L) (rfl : mm_N G.2.1 β F L 0 0 = _) rfl rfl in_X11 tyX11 tyX11_ok nmX11 0 (by decide) q832 (fun _ h9 => h9) rfl (rfl) (rfl) (show 0 < 25 by decide) dX11_limit_2 (fun H_1 locs_2 hH hS hz => ?_)
  have hH : ix_H G.1 A β (mm_N G.2.1 β (mm_0 F) L) H_1 := hH.to (mm_putI 0 _ (by decide))
  generalize mm_0 F = F1 at hH ⊢
  refine lv_iload_n hx hb dX11_limit_5 rfl (lv_at hl 1 rfl) ?_
  refine ix_rd (W.runS (As := [.int k]) (rest := []) S (mm_isC_ l G β F1 L H_1.size k) (va_cwS 1 hts (lw_S q925 q926 q34 q927) rfl rfl rfl (by decide +kernel) ⟨Nat.le_of_ble_eq_true rfl, Nat.le_of_ble_eq_true rfl⟩) (ix_pre hC hS hAz hH rfl) rfl rfl hl.1 rfl (lv_room (Nat.le_of_ble_eq_true rfl)) dX11_limit_6 ⟨by omega, by omega⟩) ?_
  refine W.eq (g2 := F0 m 9 ls [.int (ix_b (mm_isC k))]) rfl ?_
  refine lv_if_eq (tgt := 22) hx hb dX11_limit_9 (by decide) (fun c9 => ?_) (fun c9 => ?_)
  · have c9 : (mm_isC k) = false := ix_b_eq.mp c9
    refine lv_bipush (v := (-4)) hx hb dX11_limit_22 (by decide) ?_
    have e9 : mm_oLimit F1 L k x = ((-4), F1, L) := by simp [mm_oLimit, c9]
    exact ix_wI S hr hlocks hS (congrArg Prod.fst e9).symm (by rw [← hAe, e9]; exact hH) (by omega) (by omega) dX11_limit_24
  · have c9 : (mm_isC k) = true := ix_b_ne.mp c9
    have kk := mm_isC_t c9
    refine lv_iload_n hx hb dX11_limit_12 rfl (lv_at hl 2 rfl) ?_
    refine lv_if_lt (tgt := 22) hx hb dX11_limit_13 (by decide) (fun c13 => ?_) (fun c13 => ?_)
    · refine lv_bipush (v := (-4)) hx hb dX11_limit_22 (by decide) ?_
      have e9 : mm_oLimit F1 L k x = ((-4), F1, L) := by simp [mm_oLimit, c9, c13]
      exact ix_wI S hr hlocks hS (congrArg Prod.fst e9).symm (by rw [← hAe, e9]; exact hH) (by omega) (by omega) dX11_limit_24
    · refine lv_iload_n hx hb dX11_limit_16 rfl (lv_at hl 2 rfl) ?_
      refine lv_bipush (v := 40) hx hb dX11_limit_17 (by decide) ?_
      refine lv_icmp_le (tgt := 25) hx hb dX11_limit_19 (by decide) (fun c19 => ?_) (fun c19 => ?_)
      · have c19 : ¬ (40 < x) := Int32.not_lt.mpr c19
        refine lv_aload_n hx hb dX11_limit_25 rfl (lv_at hl 0 rfl) ?_
        refine ix_get S hC hH (fs := mm_obj β F1 L) (rfl : mm_N G.2.1 β F1 L 0 0 = _) rfl rfl in_X11 6 (by decide) q838 (fun _ h9 => h9) rfl dX11_limit_26 ?_
        refine lv_iload_n hx hb dX11_limit_29 rfl (lv_at hl 1 rfl) ?_
        refine lv_iload_n hx hb dX11_limit_30 rfl (lv_at hl 2 rfl) ?_
        refine ix_iast (n := 36) S hC hH hS (rfl : mm_N G.2.1 β F1 L 6 0 = _) rfl (j := (ix_t k)) kk.1 (by omega) (by omega) dX11_limit_31 (fun H_3 locs_4 hH hS hz => ?_)
        have hH : ix_H G.1 A β (mm_N G.2.1 β (mm_wr F1 6 ((ix_t k)) x) L) H_3 := hH.to (mm_upI 6 rfl)
        refine lv_iconst (v := 1) hx hb dX11_limit_32 (by decide) ?_
        have e9 : mm_oLimit F1 L k x = (1, mm_wr F1 6 ((ix_t k)) x, L) := by simp [mm_oLimit, c9, c13, c19]
        exact ix_wI S hr hlocks hS (congrArg Prod.fst e9).symm (by rw [← hAe, e9]; exact hH) (by omega) (by omega) dX11_limit_33
      · have c19 : 40 < x := Int32.not_le.mp c19
        refine lv_bipush (v := (-4)) hx hb dX11_limit_22 (by decide) ?_
        have e9 : mm_oLimit F1 L k x = ((-4), F1, L) := by simp [mm_oLimit, c9, c13, c19]
        exact ix_wI S hr hlocks hS (congrArg Prod.fst e9).symm (by rw [← hAe, e9]; exact hH) (by omega) (by omega) dX11_limit_24
set_option maxHeartbeats 4000000 in
set_option maxRecDepth 100000 in
theorem mm_window_ (l : Launch) (G : ix_G) (β : ix_B) (F : mm_F) (L : mm_L) (sz : Nat) (k x y : Int32) : Met l yX11_window (ws_ yX11_window cX11_window 4 (some .int)) ({ frames := 1, cells := 0, slots := 0, locals := 40 } : Room) (ix_P G β (mm_N G.2.1 β F L) sz [.ref (β 0 0), .int k, .int x, .int y]) (ix_Q (some (.int (mm_oWindow (mm_0 F) L k x y).1)) (fun (H9 : Heap) => ix_H G.1 (ix_A β (mm_N G.2.1 β F L) sz) β (mm_N G.2.1 β (mm_oWindow (mm_0 F) L k x y).2.1 (mm_oWindow (mm_0 F) L k x y).2.2) H9) (ix_A β (mm_N G.2.1 β F L) sz)) 0 0 (ix_A β (mm_N G.2.1 β F L) sz) := by
  refine ix_writer (by decide +kernel) (Nat.le_of_ble_eq_true rfl) ?_
  intro p e s m below meth c A S hr hlocks hnm hC hsz hH hS hA0 hAz hAe ls hl
  have hx := S.1
  have hb := S.2.1
  have hts := S.2.2.2.2
  have S : CallFix p m c cX11_window 4 s ([.ref (β 0 0), .int k, .int x, .int y] : List Value).toArray lw_all "InitiatorRowsModel" := S
  have hl : lv_has ls 4 [(0, .ref (β 0 0)), (1, .int k), (2, .int x), (3, .int y)] := hl
  refine lv_aload_n hx hb dX11_window_0 rfl (lv_at hl 0 rfl) ?_
  refine lv_iconst (v := 0) hx hb dX11_window_1 (by decide) ?_
  refine ix_put S hC hH hS (fs := mm_obj β F L) (rfl : mm_N G.2.1 β F L 0 0 = _) rfl rfl in_X11 tyX11 tyX11_ok nmX11 0 (by decide) q832 (fun _ h9 => h9) rfl (rfl) (rfl) (show 0 < 25 by decide) dX11_window_2 (fun H_1 locs_2 hH hS hz => ?_)
  have hH : ix_H G.1 A β (mm_N G.2.1 β (mm_0 F) L) H_1 := hH.to (mm_putI 0 _ (by decide))
  generalize mm_0 F = F1 at hH ⊢
  refine lv_iload_n hx hb dX11_window_5 rfl (lv_at hl 1 rfl) ?_
  refine ix_rd (W.runS (As := [.int k]) (rest := []) S (mm_isC_ l G β F1 L H_1.size k) (va_cwS 1 hts (lw_S q925 q926 q34 q927) rfl rfl rfl (by decide +kernel) ⟨Nat.le_of_ble_eq_true rfl, Nat.le_of_ble_eq_true rfl⟩) (ix_pre hC hS hAz hH rfl) rfl rfl hl.1 rfl (lv_room (Nat.le_of_ble_eq_true rfl)) dX11_window_6 ⟨by omega, by omega⟩) ?_
  refine W.eq (g2 := F0 m 9 ls [.int (ix_b (mm_isC k))]) rfl ?_
  refine lv_if_eq (tgt := 26) hx hb dX11_window_9 (by decide) (fun c9 => ?_) (fun c9 => ?_)
  · have c9 : (mm_isC k) = false := ix_b_eq.mp c9
    refine lv_bipush (v := (-4)) hx hb dX11_window_26 (by decide) ?_
    have e9 : mm_oWindow F1 L k x y = ((-4), F1, L) := by simp [mm_oWindow, c9]
    exact ix_wI S hr hlocks hS (congrArg Prod.fst e9).symm (by rw [← hAe, e9]; exact hH) (by omega) (by omega) dX11_window_28
  · have c9 : (mm_isC k) = true := ix_b_ne.mp c9
    have kk := mm_isC_t c9
    refine lv_iload_n hx hb dX11_window_12 rfl (lv_at hl 2 rfl) ?_
    refine ix_rd (W.runS (As := [.int x]) (rest := []) S (mm_isM_ l G β F1 L H_1.size x) (va_cwS 1 hts (lw_S q936 q937 q34 q938) rfl rfl rfl (by decide +kernel) ⟨Nat.le_of_ble_eq_true rfl, Nat.le_of_ble_eq_true rfl⟩) (ix_pre hC hS hAz hH rfl) rfl rfl hl.1 rfl (lv_room (Nat.le_of_ble_eq_true rfl)) dX11_window_13 ⟨by omega, by omega⟩) ?_
    refine W.eq (g2 := F0 m 16 ls [.int (ix_b (mm_isM x))]) rfl ?_
    refine lv_if_eq (tgt := 26) hx hb dX11_window_16 (by decide) (fun c16 => ?_) (fun c16 => ?_)
    · have c16 : (mm_isM x) = false := ix_b_eq.mp c16
      refine lv_bipush (v := (-4)) hx hb dX11_window_26 (by decide) ?_
      have e9 : mm_oWindow F1 L k x y = ((-4), F1, L) := by simp [mm_oWindow, c9, c16]
      exact ix_wI S hr hlocks hS (congrArg Prod.fst e9).symm (by rw [← hAe, e9]; exact hH) (by omega) (by omega) dX11_window_28
    · have c16 : (mm_isM x) = true := ix_b_ne.mp c16
      refine lv_iload_n hx hb dX11_window_19 rfl (lv_at hl 3 rfl) ?_
      refine ix_rd (W.runS (As := [.int y]) (rest := []) S (mm_isM_ l G β F1 L H_1.size y) (va_cwS 1 hts (lw_S q936 q937 q34 q938) rfl rfl rfl (by decide +kernel) ⟨Nat.le_of_ble_eq_true rfl, Nat.le_of_ble_eq_true rfl⟩) (ix_pre hC hS hAz hH rfl) rfl rfl hl.1 rfl (lv_room (Nat.le_of_ble_eq_true rfl)) dX11_window_20 ⟨by omega, by omega⟩) ?_
      refine W.eq (g2 := F0 m 23 ls [.int (ix_b (mm_isM y))]) rfl ?_
      refine lv_if_ne (tgt := 29) hx hb dX11_window_23 (by decide) (fun c23 => ?_) (fun c23 => ?_)
      · have c23 : (mm_isM y) = true := ix_b_ne.mp c23
        refine lv_aload_n hx hb dX11_window_29 rfl (lv_at hl 0 rfl) ?_
        refine ix_get S hC hH (fs := mm_obj β F1 L) (rfl : mm_N G.2.1 β F1 L 0 0 = _) rfl rfl in_X11 7 (by decide) q839 (fun _ h9 => h9) rfl dX11_window_30 ?_
        refine lv_iload_n hx hb dX11_window_33 rfl (lv_at hl 1 rfl) ?_
        refine lv_iload_n hx hb dX11_window_34 rfl (lv_at hl 2 rfl) ?_
        refine ix_iast (n := 36) S hC hH hS (rfl : mm_N G.2.1 β F1 L 7 0 = _) rfl (j := (ix_t k)) kk.1 (by omega) (by omega) dX11_window_35 (fun H_3 locs_4 hH hS hz => ?_)
        have hH : ix_H G.1 A β (mm_N G.2.1 β (mm_wr F1 7 ((ix_t k)) x) L) H_3 := hH.to (mm_upI 7 rfl)
        refine lv_aload_n hx hb dX11_window_36 rfl (lv_at hl 0 rfl) ?_
        refine ix_get S hC hH (fs := mm_obj β (mm_wr F1 7 ((ix_t k)) x) L) (rfl : mm_N G.2.1 β (mm_wr F1 7 ((ix_t k)) x) L 0 0 = _) rfl rfl in_X11 8 (by decide) q840 (fun _ h9 => h9) rfl dX11_window_37 ?_
        refine lv_iload_n hx hb dX11_window_40 rfl (lv_at hl 1 rfl) ?_
        refine lv_iload_n hx hb dX11_window_41 rfl (lv_at hl 3 rfl) ?_
        refine ix_iast (n := 36) S hC hH hS (rfl : mm_N G.2.1 β (mm_wr F1 7 ((ix_t k)) x) L 8 0 = _) rfl (j := (ix_t k)) kk.1 (by omega) (by omega) dX11_window_42 (fun H_5 locs_6 hH hS hz => ?_)
        have hH : ix_H G.1 A β (mm_N G.2.1 β (mm_wr (mm_wr F1 7 ((ix_t k)) x) 8 ((ix_t k)) y) L) H_5 := hH.to (mm_upI 8 rfl)
        refine lv_iconst (v := 1) hx hb dX11_window_43 (by decide) ?_
        have e9 : mm_oWindow F1 L k x y = (1, mm_wr (mm_wr F1 7 ((ix_t k)) x) 8 ((ix_t k)) y, L) := by simp [mm_oWindow, c9, c16, c23]
        exact ix_wI S hr hlocks hS (congrArg Prod.fst e9).symm (by rw [← hAe, e9]; exact hH) (by omega) (by omega) dX11_window_44
      · have c23 : (mm_isM y) = false := ix_b_eq.mp c23
        refine lv_bipush (v := (-4)) hx hb dX11_window_26 (by decide) ?_
        have e9 : mm_oWindow F1 L k x y = ((-4), F1, L) := by simp [mm_oWindow, c9, c16, c23]
        exact ix_wI S hr hlocks hS (congrArg Prod.fst e9).symm (by rw [← hAe, e9]; exact hH) (by omega) (by omega) dX11_window_28
set_option maxHeartbeats 4000000 in
set_option maxRecDepth 100000 in
theorem mm_units_ (l : Launch) (G : ix_G) (β : ix_B) (F : mm_F) (L : mm_L) (sz : Nat) (k x : Int32) : Met l yX11_units (ws_ yX11_units cX11_units 3 (some .int)) ({ frames := 0, cells := 0, slots := 0, locals := 0 } : Room) (ix_P G β (mm_N G.2.1 β F L) sz [.ref (β 0 0), .int k, .int x]) (ix_Q (some (.int (mm_oUnits (mm_0 F) L k x).1)) (fun (H9 : Heap) => ix_H G.1 (ix_A β (mm_N G.2.1 β F L) sz) β (mm_N G.2.1 β (mm_oUnits (mm_0 F) L k x).2.1 (mm_oUnits (mm_0 F) L k x).2.2) H9) (ix_A β (mm_N G.2.1 β F L) sz)) 0 0 (ix_A β (mm_N G.2.1 β F L) sz) := by
  refine ix_writer (by decide +kernel) (Nat.le_of_ble_eq_true rfl) ?_
  intro p e s m below meth c A S hr hlocks hnm hC hsz hH hS hA0 hAz hAe ls hl
  have hx := S.1
  have hb := S.2.1
  have hts := S.2.2.2.2
  have S : CallFix p m c cX11_units 3 s ([.ref (β 0 0), .int k, .int x] : List Value).toArray lw_all "InitiatorRowsModel" := S
  have hl : lv_has ls 3 [(0, .ref (β 0 0)), (1, .int k), (2, .int x)] := hl
  refine lv_aload_n hx hb dX11_units_0 rfl (lv_at hl 0 rfl) ?_
  refine lv_iconst (v := 0) hx hb dX11_units_1 (by decide) ?_
  refine ix_put S hC hH hS (fs := mm_obj β F L) (rfl : mm_N G.2.1 β F L 0 0 = _) rfl rfl in_X11 tyX11 tyX11_ok nmX11 0 (by decide) q832 (fun _ h9 => h9) rfl (rfl) (rfl) (show 0 < 25 by decide) dX11_units_2 (fun H_1 locs_2 hH hS hz => ?_)
  have hH : ix_H G.1 A β (mm_N G.2.1 β (mm_0 F) L) H_1 := hH.to (mm_putI 0 _ (by decide))
  generalize mm_0 F = F1 at hH ⊢
  refine lv_iload_n hx hb dX11_units_5 rfl (lv_at hl 1 rfl) ?_
  refine lv_if_lt (tgt := 25) hx hb dX11_units_6 (by decide) (fun c6 => ?_) (fun c6 => ?_)
  · refine lv_bipush (v := (-4)) hx hb dX11_units_25 (by decide) ?_
    have e9 : mm_oUnits F1 L k x = ((-4), F1, L) := by simp [mm_oUnits, c6]
    exact ix_wI S hr hlocks hS (congrArg Prod.fst e9).symm (by rw [← hAe, e9]; exact hH) (by omega) (by omega) dX11_units_27
  · refine lv_iload_n hx hb dX11_units_9 rfl (lv_at hl 1 rfl) ?_
    refine lv_iconst (v := 3) hx hb dX11_units_10 (by decide) ?_
    refine lv_icmp_gt (tgt := 25) hx hb dX11_units_11 (by decide) (fun c11 => ?_) (fun c11 => ?_)
    · refine lv_bipush (v := (-4)) hx hb dX11_units_25 (by decide) ?_
      have e9 : mm_oUnits F1 L k x = ((-4), F1, L) := by simp [mm_oUnits, c6, c11]
      exact ix_wI S hr hlocks hS (congrArg Prod.fst e9).symm (by rw [← hAe, e9]; exact hH) (by omega) (by omega) dX11_units_27
    · have kk := ix_t_le (M := 3) (n := 3) rfl (by omega) c6 c11
      refine lv_iload_n hx hb dX11_units_14 rfl (lv_at hl 2 rfl) ?_
      refine lv_if_lt (tgt := 25) hx hb dX11_units_15 (by decide) (fun c15 => ?_) (fun c15 => ?_)
      · refine lv_bipush (v := (-4)) hx hb dX11_units_25 (by decide) ?_
        have e9 : mm_oUnits F1 L k x = ((-4), F1, L) := by simp [mm_oUnits, c6, c11, c15]
        exact ix_wI S hr hlocks hS (congrArg Prod.fst e9).symm (by rw [← hAe, e9]; exact hH) (by omega) (by omega) dX11_units_27
      · refine lv_iload_n hx hb dX11_units_18 rfl (lv_at hl 2 rfl) ?_
        refine lv_sipush (v := 1000) hx hb dX11_units_19 (by decide) ?_
        refine lv_icmp_le (tgt := 28) hx hb dX11_units_22 (by decide) (fun c22 => ?_) (fun c22 => ?_)
        · have c22 : ¬ (1000 < x) := Int32.not_lt.mpr c22
          refine lv_aload_n hx hb dX11_units_28 rfl (lv_at hl 0 rfl) ?_
          refine ix_get S hC hH (fs := mm_obj β F1 L) (rfl : mm_N G.2.1 β F1 L 0 0 = _) rfl rfl in_X11 10 (by decide) q842 (fun _ h9 => h9) rfl dX11_units_29 ?_
          refine lv_iload_n hx hb dX11_units_32 rfl (lv_at hl 1 rfl) ?_
          refine lv_iload_n hx hb dX11_units_33 rfl (lv_at hl 2 rfl) ?_
          refine ix_iast (n := 4) S hC hH hS (rfl : mm_N G.2.1 β F1 L 10 0 = _) rfl (j := (ix_t k)) kk.1 (by omega) (by omega) dX11_units_34 (fun H_3 locs_4 hH hS hz => ?_)
          have hH : ix_H G.1 A β (mm_N G.2.1 β (mm_wr F1 10 ((ix_t k)) x) L) H_3 := hH.to (mm_upI 10 rfl)
          refine lv_iconst (v := 1) hx hb dX11_units_35 (by decide) ?_
          have e9 : mm_oUnits F1 L k x = (1, mm_wr F1 10 ((ix_t k)) x, L) := by simp [mm_oUnits, c6, c11, c15, c22]
          exact ix_wI S hr hlocks hS (congrArg Prod.fst e9).symm (by rw [← hAe, e9]; exact hH) (by omega) (by omega) dX11_units_36
        · have c22 : 1000 < x := Int32.not_le.mp c22
          refine lv_bipush (v := (-4)) hx hb dX11_units_25 (by decide) ?_
          have e9 : mm_oUnits F1 L k x = ((-4), F1, L) := by simp [mm_oUnits, c6, c11, c15, c22]
          exact ix_wI S hr hlocks hS (congrArg Prod.fst e9).symm (by rw [← hAe, e9]; exact hH) (by omega) (by omega) dX11_units_27
set_option maxHeartbeats 4000000 in
set_option maxRecDepth 100000 in
theorem mm_uses_ (l : Launch) (G : ix_G) (β : ix_B) (F : mm_F) (L : mm_L) (sz : Nat) (j k x : Int32) (n : Nat) (h100 : n ≤ 100) (hn : F 22 0 = nI n) : Met l yX11_uses (ws_ yX11_uses cX11_uses 4 (some .int)) ({ frames := 1, cells := 0, slots := 0, locals := 40 } : Room) (ix_P G β (mm_N G.2.1 β F L) sz [.ref (β 0 0), .int j, .int k, .int x]) (ix_Q (some (.int (mm_oUses (mm_0 F) L j k x).1)) (fun (H9 : Heap) => ix_H G.1 (ix_A β (mm_N G.2.1 β F L) sz) β (mm_N G.2.1 β (mm_oUses (mm_0 F) L j k x).2.1 (mm_oUses (mm_0 F) L j k x).2.2) H9) (ix_A β (mm_N G.2.1 β F L) sz)) 0 0 (ix_A β (mm_N G.2.1 β F L) sz) := by
  refine ix_writer (by decide +kernel) (Nat.le_of_ble_eq_true rfl) ?_
  intro p e s m below meth c A S hr hlocks hnm hC hsz hH hS hA0 hAz hAe ls hl
  have hx := S.1
  have hb := S.2.1
  have hts := S.2.2.2.2
  have S : CallFix p m c cX11_uses 4 s ([.ref (β 0 0), .int j, .int k, .int x] : List Value).toArray lw_all "InitiatorRowsModel" := S
  have hl : lv_has ls 4 [(0, .ref (β 0 0)), (1, .int j), (2, .int k), (3, .int x)] := hl
  refine lv_aload_n hx hb dX11_uses_0 rfl (lv_at hl 0 rfl) ?_
  refine lv_iconst (v := 0) hx hb dX11_uses_1 (by decide) ?_
  refine ix_put S hC hH hS (fs := mm_obj β F L) (rfl : mm_N G.2.1 β F L 0 0 = _) rfl rfl in_X11 tyX11 tyX11_ok nmX11 0 (by decide) q832 (fun _ h9 => h9) rfl (rfl) (rfl) (show 0 < 25 by decide) dX11_uses_2 (fun H_1 locs_2 hH hS hz => ?_)
  have hH : ix_H G.1 A β (mm_N G.2.1 β (mm_0 F) L) H_1 := hH.to (mm_putI 0 _ (by decide))
  have hn0 : (mm_0 F) 22 0 = nI n := hn
  generalize mm_0 F = F1 at hn0 hH ⊢
  refine lv_aload_n hx hb dX11_uses_5 rfl (lv_at hl 0 rfl) ?_
  refine lv_iload_n hx hb dX11_uses_6 rfl (lv_at hl 1 rfl) ?_
  refine ix_rd (W.runV (As := [.int j]) (rest := []) S (mm_isJ_ l G β F1 L H_1.size j) (cwV 1 hts (lw_V q947 q949 qs12 q34 q950) rfl rfl rfl (by decide +kernel) ⟨Nat.le_of_ble_eq_true rfl, Nat.le_of_ble_eq_true rfl⟩) (ix_preV hC hS hAz hH (ix_recv hC hH (rfl : mm_N G.2.1 β F1 L 0 0 = _) rfl) rfl) rfl rfl hl.1 rfl (lv_room (Nat.le_of_ble_eq_true rfl)) dX11_uses_7 ⟨by omega, by omega⟩) ?_
  refine W.eq (g2 := F0 m 10 ls [.int (ix_b (mm_isJ F1 j))]) rfl ?_
  refine lv_if_ne (tgt := 16) hx hb dX11_uses_10 (by decide) (fun c10 => ?_) (fun c10 => ?_)
  · have c10 : (mm_isJ F1 j) = true := ix_b_ne.mp c10
    have kj := mm_isJ_t hn0 h100 c10
    refine lv_iload_n hx hb dX11_uses_16 rfl (lv_at hl 2 rfl) ?_
    refine lv_if_lt (tgt := 36) hx hb dX11_uses_17 (by decide) (fun c17 => ?_) (fun c17 => ?_)
    · refine lv_bipush (v := (-4)) hx hb dX11_uses_36 (by decide) ?_
      have e9 : mm_oUses F1 L j k x = ((-4), F1, L) := by simp [mm_oUses, c10, c17]
      exact ix_wI S hr hlocks hS (congrArg Prod.fst e9).symm (by rw [← hAe, e9]; exact hH) (by omega) (by omega) dX11_uses_38
    · refine lv_iload_n hx hb dX11_uses_20 rfl (lv_at hl 2 rfl) ?_
      refine lv_iconst (v := 3) hx hb dX11_uses_21 (by decide) ?_
      refine lv_icmp_gt (tgt := 36) hx hb dX11_uses_22 (by decide) (fun c22 => ?_) (fun c22 => ?_)
      · refine lv_bipush (v := (-4)) hx hb dX11_uses_36 (by decide) ?_
        have e9 : mm_oUses F1 L j k x = ((-4), F1, L) := by simp [mm_oUses, c10, c17, c22]
        exact ix_wI S hr hlocks hS (congrArg Prod.fst e9).symm (by rw [← hAe, e9]; exact hH) (by omega) (by omega) dX11_uses_38
      · have kk := ix_t_le (M := 3) (n := 3) rfl (by omega) c17 c22
        refine lv_iload_n hx hb dX11_uses_25 rfl (lv_at hl 3 rfl) ?_
        refine lv_if_lt (tgt := 36) hx hb dX11_uses_26 (by decide) (fun c26 => ?_) (fun c26 => ?_)
        · refine lv_bipush (v := (-4)) hx hb dX11_uses_36 (by decide) ?_
          have e9 : mm_oUses F1 L j k x = ((-4), F1, L) := by simp [mm_oUses, c10, c17, c22, c26]
          exact ix_wI S hr hlocks hS (congrArg Prod.fst e9).symm (by rw [← hAe, e9]; exact hH) (by omega) (by omega) dX11_uses_38
        · refine lv_iload_n hx hb dX11_uses_29 rfl (lv_at hl 3 rfl) ?_
          refine lv_sipush (v := 1000) hx hb dX11_uses_30 (by decide) ?_
          refine lv_icmp_le (tgt := 39) hx hb dX11_uses_33 (by decide) (fun c33 => ?_) (fun c33 => ?_)
          · have c33 : ¬ (1000 < x) := Int32.not_lt.mpr c33
            refine lv_aload_n hx hb dX11_uses_39 rfl (lv_at hl 0 rfl) ?_
            refine ix_get S hC hH (fs := mm_obj β F1 L) (rfl : mm_N G.2.1 β F1 L 0 0 = _) rfl rfl in_X11 14 (by decide) q846 (fun _ h9 => h9) rfl dX11_uses_40 ?_
            refine lv_iload_n hx hb dX11_uses_43 rfl (lv_at hl 1 rfl) ?_
            refine lv_iconst (v := 1) hx hb dX11_uses_44 (by decide) ?_
            refine lv_isub hx hb dX11_uses_45 ?_
            refine ix_iald (n := 100) S hC hH (rfl : mm_N G.2.1 β F1 L 14 0 = _) rfl (j := ((ix_t j)) - 1) (ix_nsub (a := (ix_t j)) (b := 1) kj.1 (rfl : (1 : Int32) = nI 1) (by omega)) (by omega) (by omega) dX11_uses_46 ?_
            refine lv_if_eq (tgt := 53) hx hb dX11_uses_47 (by decide) (fun c47 => ?_) (fun c47 => ?_)
            · refine lv_aload_n hx hb dX11_uses_53 rfl (lv_at hl 0 rfl) ?_
              refine ix_get S hC hH (fs := mm_obj β F1 L) (rfl : mm_N G.2.1 β F1 L 0 0 = _) rfl rfl in_X11 15 (by decide) q847 (fun _ h9 => h9) rfl dX11_uses_54 ?_
              refine lv_iconst (v := 4) hx hb dX11_uses_57 (by decide) ?_
              refine lv_iload_n hx hb dX11_uses_58 rfl (lv_at hl 1 rfl) ?_
              refine lv_imul hx hb dX11_uses_59 ?_
              refine lv_iconst (v := 4) hx hb dX11_uses_60 (by decide) ?_
              refine lv_isub hx hb dX11_uses_61 ?_
              refine lv_iload_n hx hb dX11_uses_62 rfl (lv_at hl 2 rfl) ?_
              refine lv_iadd hx hb dX11_uses_63 ?_
              refine lv_iload_n hx hb dX11_uses_64 rfl (lv_at hl 3 rfl) ?_
              refine ix_iast (n := 400) S hC hH hS (rfl : mm_N G.2.1 β F1 L 15 0 = _) rfl (j := ((4 * ((ix_t j))) - 4) + ((ix_t k))) (ix_nadd (ix_nsub (a := 4 * ((ix_t j))) (b := 4) (ix_nmul (rfl : (4 : Int32) = nI 4) kj.1) (rfl : (4 : Int32) = nI 4) (by omega)) kk.1) (by omega) (by omega) dX11_uses_65 (fun H_3 locs_4 hH hS hz => ?_)
              have hH : ix_H G.1 A β (mm_N G.2.1 β (mm_wr F1 15 (((4 * ((ix_t j))) - 4) + ((ix_t k))) x) L) H_3 := hH.to (mm_upI 15 rfl)
              refine lv_iconst (v := 1) hx hb dX11_uses_66 (by decide) ?_
              have e9 : mm_oUses F1 L j k x = (1, mm_wr F1 15 (((4 * ((ix_t j))) - 4) + ((ix_t k))) x, L) := by simp [mm_oUses, c10, c17, c22, c26, c33, c47]
              exact ix_wI S hr hlocks hS (congrArg Prod.fst e9).symm (by rw [← hAe, e9]; exact hH) (by omega) (by omega) dX11_uses_67
            · refine lv_bipush (v := (-5)) hx hb dX11_uses_50 (by decide) ?_
              have e9 : mm_oUses F1 L j k x = ((-5), F1, L) := by simp [mm_oUses, c10, c17, c22, c26, c33, c47]
              exact ix_wI S hr hlocks hS (congrArg Prod.fst e9).symm (by rw [← hAe, e9]; exact hH) (by omega) (by omega) dX11_uses_52
          · have c33 : 1000 < x := Int32.not_le.mp c33
            refine lv_bipush (v := (-4)) hx hb dX11_uses_36 (by decide) ?_
            have e9 : mm_oUses F1 L j k x = ((-4), F1, L) := by simp [mm_oUses, c10, c17, c22, c26, c33]
            exact ix_wI S hr hlocks hS (congrArg Prod.fst e9).symm (by rw [← hAe, e9]; exact hH) (by omega) (by omega) dX11_uses_38
  · have c10 : (mm_isJ F1 j) = false := ix_b_eq.mp c10
    refine lv_bipush (v := (-2)) hx hb dX11_uses_13 (by decide) ?_
    have e9 : mm_oUses F1 L j k x = ((-2), F1, L) := by simp [mm_oUses, c10]
    exact ix_wI S hr hlocks hS (congrArg Prod.fst e9).symm (by rw [← hAe, e9]; exact hH) (by omega) (by omega) dX11_uses_15
set_option maxHeartbeats 4000000 in
set_option maxRecDepth 100000 in
theorem mm_alone_ (l : Launch) (G : ix_G) (β : ix_B) (F : mm_F) (L : mm_L) (sz : Nat) (j : Int32) (n : Nat) (h100 : n ≤ 100) (hn : F 22 0 = nI n) : Met l yX11_alone (ws_ yX11_alone cX11_alone 2 (some .int)) ({ frames := 1, cells := 0, slots := 0, locals := 40 } : Room) (ix_P G β (mm_N G.2.1 β F L) sz [.ref (β 0 0), .int j]) (ix_Q (some (.int (mm_oAlone (mm_0 F) L j).1)) (fun (H9 : Heap) => ix_H G.1 (ix_A β (mm_N G.2.1 β F L) sz) β (mm_N G.2.1 β (mm_oAlone (mm_0 F) L j).2.1 (mm_oAlone (mm_0 F) L j).2.2) H9) (ix_A β (mm_N G.2.1 β F L) sz)) 0 0 (ix_A β (mm_N G.2.1 β F L) sz) := by
  refine ix_writer (by decide +kernel) (Nat.le_of_ble_eq_true rfl) ?_
  intro p e s m below meth c A S hr hlocks hnm hC hsz hH hS hA0 hAz hAe ls hl
  have hx := S.1
  have hb := S.2.1
  have hts := S.2.2.2.2
  have S : CallFix p m c cX11_alone 2 s ([.ref (β 0 0), .int j] : List Value).toArray lw_all "InitiatorRowsModel" := S
  have hl : lv_has ls 2 [(0, .ref (β 0 0)), (1, .int j)] := hl
  refine lv_aload_n hx hb dX11_alone_0 rfl (lv_at hl 0 rfl) ?_
  refine lv_iconst (v := 0) hx hb dX11_alone_1 (by decide) ?_
  refine ix_put S hC hH hS (fs := mm_obj β F L) (rfl : mm_N G.2.1 β F L 0 0 = _) rfl rfl in_X11 tyX11 tyX11_ok nmX11 0 (by decide) q832 (fun _ h9 => h9) rfl (rfl) (rfl) (show 0 < 25 by decide) dX11_alone_2 (fun H_1 locs_2 hH hS hz => ?_)
  have hH : ix_H G.1 A β (mm_N G.2.1 β (mm_0 F) L) H_1 := hH.to (mm_putI 0 _ (by decide))
  have hn0 : (mm_0 F) 22 0 = nI n := hn
  generalize mm_0 F = F1 at hn0 hH ⊢
  refine lv_aload_n hx hb dX11_alone_5 rfl (lv_at hl 0 rfl) ?_
  refine lv_iload_n hx hb dX11_alone_6 rfl (lv_at hl 1 rfl) ?_
  refine ix_rd (W.runV (As := [.int j]) (rest := []) S (mm_isJ_ l G β F1 L H_1.size j) (cwV 1 hts (lw_V q947 q949 qs12 q34 q950) rfl rfl rfl (by decide +kernel) ⟨Nat.le_of_ble_eq_true rfl, Nat.le_of_ble_eq_true rfl⟩) (ix_preV hC hS hAz hH (ix_recv hC hH (rfl : mm_N G.2.1 β F1 L 0 0 = _) rfl) rfl) rfl rfl hl.1 rfl (lv_room (Nat.le_of_ble_eq_true rfl)) dX11_alone_7 ⟨by omega, by omega⟩) ?_
  refine W.eq (g2 := F0 m 10 ls [.int (ix_b (mm_isJ F1 j))]) rfl ?_
  refine lv_if_ne (tgt := 16) hx hb dX11_alone_10 (by decide) (fun c10 => ?_) (fun c10 => ?_)
  · have c10 : (mm_isJ F1 j) = true := ix_b_ne.mp c10
    have kj := mm_isJ_t hn0 h100 c10
    refine lv_aload_n hx hb dX11_alone_16 rfl (lv_at hl 0 rfl) ?_
    refine ix_get S hC hH (fs := mm_obj β F1 L) (rfl : mm_N G.2.1 β F1 L 0 0 = _) rfl rfl in_X11 14 (by decide) q846 (fun _ h9 => h9) rfl dX11_alone_17 ?_
    refine lv_iload_n hx hb dX11_alone_20 rfl (lv_at hl 1 rfl) ?_
    refine lv_iconst (v := 1) hx hb dX11_alone_21 (by decide) ?_
    refine lv_isub hx hb dX11_alone_22 ?_
    refine ix_iald (n := 100) S hC hH (rfl : mm_N G.2.1 β F1 L 14 0 = _) rfl (j := ((ix_t j)) - 1) (ix_nsub (a := (ix_t j)) (b := 1) kj.1 (rfl : (1 : Int32) = nI 1) (by omega)) (by omega) (by omega) dX11_alone_23 ?_
    refine lv_if_eq (tgt := 30) hx hb dX11_alone_24 (by decide) (fun c24 => ?_) (fun c24 => ?_)
    · refine lv_aload_n hx hb dX11_alone_30 rfl (lv_at hl 0 rfl) ?_
      refine ix_get S hC hH (fs := mm_obj β F1 L) (rfl : mm_N G.2.1 β F1 L 0 0 = _) rfl rfl in_X11 17 (by decide) q849 (fun _ h9 => h9) rfl dX11_alone_31 ?_
      refine lv_iload_n hx hb dX11_alone_34 rfl (lv_at hl 1 rfl) ?_
      refine lv_iconst (v := 1) hx hb dX11_alone_35 (by decide) ?_
      refine lv_isub hx hb dX11_alone_36 ?_
      refine lv_iconst (v := 1) hx hb dX11_alone_37 (by decide) ?_
      refine ix_zast (n := 100) S hC hH hS (rfl : mm_N G.2.1 β F1 L 17 0 = _) rfl (j := ((ix_t j)) - 1) (ix_nsub (a := (ix_t j)) (b := 1) kj.1 (rfl : (1 : Int32) = nI 1) (by omega)) (by omega) (by omega) (rfl) dX11_alone_38 (fun H_3 locs_4 hH hS hz => ?_)
      have hH : ix_H G.1 A β (mm_N G.2.1 β (mm_wr F1 17 (((ix_t j)) - 1) 1) L) H_3 := hH.to (mm_upZ 17 rfl)
      refine lv_iconst (v := 1) hx hb dX11_alone_39 (by decide) ?_
      have e9 : mm_oAlone F1 L j = (1, mm_wr F1 17 (((ix_t j)) - 1) 1, L) := by simp [mm_oAlone, c10, c24]
      exact ix_wI S hr hlocks hS (congrArg Prod.fst e9).symm (by rw [← hAe, e9]; exact hH) (by omega) (by omega) dX11_alone_40
    · refine lv_bipush (v := (-5)) hx hb dX11_alone_27 (by decide) ?_
      have e9 : mm_oAlone F1 L j = ((-5), F1, L) := by simp [mm_oAlone, c10, c24]
      exact ix_wI S hr hlocks hS (congrArg Prod.fst e9).symm (by rw [← hAe, e9]; exact hH) (by omega) (by omega) dX11_alone_29
  · have c10 : (mm_isJ F1 j) = false := ix_b_eq.mp c10
    refine lv_bipush (v := (-2)) hx hb dX11_alone_13 (by decide) ?_
    have e9 : mm_oAlone F1 L j = ((-2), F1, L) := by simp [mm_oAlone, c10]
    exact ix_wI S hr hlocks hS (congrArg Prod.fst e9).symm (by rw [← hAe, e9]; exact hH) (by omega) (by omega) dX11_alone_15
set_option maxHeartbeats 4000000 in
set_option maxRecDepth 100000 in
theorem mm_hold_ (l : Launch) (G : ix_G) (β : ix_B) (F : mm_F) (L : mm_L) (sz : Nat) (j : Int32) (on : Bool) (n : Nat) (h100 : n ≤ 100) (hn : F 22 0 = nI n) : Met l yX11_hold (ws_ yX11_hold cX11_hold 4 (some .int)) ({ frames := 1, cells := 0, slots := 0, locals := 40 } : Room) (ix_P G β (mm_N G.2.1 β F L) sz [.ref (β 0 0), .int j, .int (ix_b on)]) (ix_Q (some (.int (mm_oHold (mm_0 F) L j on).1)) (fun (H9 : Heap) => ix_H G.1 (ix_A β (mm_N G.2.1 β F L) sz) β (mm_N G.2.1 β (mm_oHold (mm_0 F) L j on).2.1 (mm_oHold (mm_0 F) L j on).2.2) H9) (ix_A β (mm_N G.2.1 β F L) sz)) 0 0 (ix_A β (mm_N G.2.1 β F L) sz) := by
  refine ix_writer (by decide +kernel) (Nat.le_of_ble_eq_true rfl) ?_
  intro p e s m below meth c A S hr hlocks hnm hC hsz hH hS hA0 hAz hAe ls hl
  have hx := S.1
  have hb := S.2.1
  have hts := S.2.2.2.2
  have S : CallFix p m c cX11_hold 4 s ([.ref (β 0 0), .int j, .int (ix_b on)] : List Value).toArray lw_all "InitiatorRowsModel" := S
  have hl : lv_has ls 4 [(0, .ref (β 0 0)), (1, .int j), (2, .int (ix_b on))] := hl
  refine lv_aload_n hx hb dX11_hold_0 rfl (lv_at hl 0 rfl) ?_
  refine lv_iconst (v := 0) hx hb dX11_hold_1 (by decide) ?_
  refine ix_put S hC hH hS (fs := mm_obj β F L) (rfl : mm_N G.2.1 β F L 0 0 = _) rfl rfl in_X11 tyX11 tyX11_ok nmX11 0 (by decide) q832 (fun _ h9 => h9) rfl (rfl) (rfl) (show 0 < 25 by decide) dX11_hold_2 (fun H_1 locs_2 hH hS hz => ?_)
  have hH : ix_H G.1 A β (mm_N G.2.1 β (mm_0 F) L) H_1 := hH.to (mm_putI 0 _ (by decide))
  have hn0 : (mm_0 F) 22 0 = nI n := hn
  generalize mm_0 F = F1 at hn0 hH ⊢
  refine lv_aload_n hx hb dX11_hold_5 rfl (lv_at hl 0 rfl) ?_
  refine lv_iload_n hx hb dX11_hold_6 rfl (lv_at hl 1 rfl) ?_
  refine ix_rd (W.runV (As := [.int j]) (rest := []) S (mm_isJ_ l G β F1 L H_1.size j) (cwV 1 hts (lw_V q947 q949 qs12 q34 q950) rfl rfl rfl (by decide +kernel) ⟨Nat.le_of_ble_eq_true rfl, Nat.le_of_ble_eq_true rfl⟩) (ix_preV hC hS hAz hH (ix_recv hC hH (rfl : mm_N G.2.1 β F1 L 0 0 = _) rfl) rfl) rfl rfl hl.1 rfl (lv_room (Nat.le_of_ble_eq_true rfl)) dX11_hold_7 ⟨by omega, by omega⟩) ?_
  refine W.eq (g2 := F0 m 10 ls [.int (ix_b (mm_isJ F1 j))]) rfl ?_
  refine lv_if_ne (tgt := 16) hx hb dX11_hold_10 (by decide) (fun c10 => ?_) (fun c10 => ?_)
  · have c10 : (mm_isJ F1 j) = true := ix_b_ne.mp c10
    have kj := mm_isJ_t hn0 h100 c10
    refine lv_aload_n hx hb dX11_hold_16 rfl (lv_at hl 0 rfl) ?_
    refine ix_get S hC hH (fs := mm_obj β F1 L) (rfl : mm_N G.2.1 β F1 L 0 0 = _) rfl rfl in_X11 14 (by decide) q846 (fun _ h9 => h9) rfl dX11_hold_17 ?_
    refine lv_iload_n hx hb dX11_hold_20 rfl (lv_at hl 1 rfl) ?_
    refine lv_iconst (v := 1) hx hb dX11_hold_21 (by decide) ?_
    refine lv_isub hx hb dX11_hold_22 ?_
    refine ix_iald (n := 100) S hC hH (rfl : mm_N G.2.1 β F1 L 14 0 = _) rfl (j := ((ix_t j)) - 1) (ix_nsub (a := (ix_t j)) (b := 1) kj.1 (rfl : (1 : Int32) = nI 1) (by omega)) (by omega) (by omega) dX11_hold_23 ?_
    refine lv_if_eq (tgt := 30) hx hb dX11_hold_24 (by decide) (fun c24 => ?_) (fun c24 => ?_)
    · refine lv_aload_n hx hb dX11_hold_30 rfl (lv_at hl 0 rfl) ?_
      refine ix_get S hC hH (fs := mm_obj β F1 L) (rfl : mm_N G.2.1 β F1 L 0 0 = _) rfl rfl in_X11 16 (by decide) q848 (fun _ h9 => h9) rfl dX11_hold_31 ?_
      refine lv_iload_n hx hb dX11_hold_34 rfl (lv_at hl 1 rfl) ?_
      refine lv_iconst (v := 1) hx hb dX11_hold_35 (by decide) ?_
      refine lv_isub hx hb dX11_hold_36 ?_
      refine ix_zald (n := 100) S hC hH (rfl : mm_N G.2.1 β F1 L 16 0 = _) rfl (j := ((ix_t j)) - 1) (ix_nsub (a := (ix_t j)) (b := 1) kj.1 (rfl : (1 : Int32) = nI 1) (by omega)) (by omega) (by omega) dX11_hold_37 ?_
      refine lv_istore_n (lv' := [(3, .int (F1 16 (((ix_t j)) - 1))), (0, .ref (β 0 0)), (1, .int j), (2, .int (ix_b on))]) hx hb dX11_hold_38 rfl hl (by decide) rfl (fun ls hl => ?_)
      refine lv_aload_n hx hb dX11_hold_39 rfl (lv_at hl 1 rfl) ?_
      refine ix_get S hC hH (fs := mm_obj β F1 L) (rfl : mm_N G.2.1 β F1 L 0 0 = _) rfl rfl in_X11 16 (by decide) q848 (fun _ h9 => h9) rfl dX11_hold_40 ?_
      refine lv_iload_n hx hb dX11_hold_43 rfl (lv_at hl 2 rfl) ?_
      refine lv_iconst (v := 1) hx hb dX11_hold_44 (by decide) ?_
      refine lv_isub hx hb dX11_hold_45 ?_
      refine lv_iload_n hx hb dX11_hold_46 rfl (lv_at hl 3 rfl) ?_
      refine ix_zast (n := 100) S hC hH hS (rfl : mm_N G.2.1 β F1 L 16 0 = _) rfl (j := ((ix_t j)) - 1) (ix_nsub (a := (ix_t j)) (b := 1) kj.1 (rfl : (1 : Int32) = nI 1) (by omega)) (by omega) (by omega) (ix_b_z _) dX11_hold_47 (fun H_3 locs_4 hH hS hz => ?_)
      have hH : ix_H G.1 A β (mm_N G.2.1 β (mm_wr F1 16 (((ix_t j)) - 1) (ix_b on)) L) H_3 := hH.to (mm_upZ 16 rfl)
      refine lv_iload_n hx hb dX11_hold_48 rfl (lv_at hl 0 rfl) ?_
      refine lv_iload_n hx hb dX11_hold_49 rfl (lv_at hl 3 rfl) ?_
      refine lv_icmp_ne (tgt := 57) hx hb dX11_hold_50 (by decide) (fun c50 => ?_) (fun c50 => ?_)
      · refine lv_iconst (v := 1) hx hb dX11_hold_57 (by decide) ?_
        have e9 : mm_oHold F1 L j on = (1, mm_wr F1 16 (((ix_t j)) - 1) (ix_b on), L) := by simp [mm_oHold, c10, c24, c50]
        exact ix_wI S hr hlocks hS (congrArg Prod.fst e9).symm (by rw [← hAe, e9]; exact hH) (by omega) (by omega) dX11_hold_58
      · refine lv_iconst (v := 0) hx hb dX11_hold_53 (by decide) ?_
        refine lv_goto (tgt := 58) hx hb dX11_hold_54 (by decide) ?_
        have e9 : mm_oHold F1 L j on = (0, mm_wr F1 16 (((ix_t j)) - 1) (ix_b on), L) := by simp [mm_oHold, c10, c24, c50]
        exact ix_wI S hr hlocks hS (congrArg Prod.fst e9).symm (by rw [← hAe, e9]; exact hH) (by omega) (by omega) dX11_hold_58
    · refine lv_bipush (v := (-5)) hx hb dX11_hold_27 (by decide) ?_
      have e9 : mm_oHold F1 L j on = ((-5), F1, L) := by simp [mm_oHold, c10, c24]
      exact ix_wI S hr hlocks hS (congrArg Prod.fst e9).symm (by rw [← hAe, e9]; exact hH) (by omega) (by omega) dX11_hold_29
  · have c10 : (mm_isJ F1 j) = false := ix_b_eq.mp c10
    refine lv_bipush (v := (-2)) hx hb dX11_hold_13 (by decide) ?_
    have e9 : mm_oHold F1 L j on = ((-2), F1, L) := by simp [mm_oHold, c10]
    exact ix_wI S hr hlocks hS (congrArg Prod.fst e9).symm (by rw [← hAe, e9]; exact hH) (by omega) (by omega) dX11_hold_15
set_option maxHeartbeats 4000000 in
set_option maxRecDepth 100000 in
theorem mm_drain_ (l : Launch) (G : ix_G) (β : ix_B) (F : mm_F) (L : mm_L) (sz : Nat) (i : Int32) (on : Bool) (ni : Nat) (h12 : ni ≤ 12) (hi : F 5 0 = nI ni) : Met l yX11_drain (ws_ yX11_drain cX11_drain 4 (some .int)) ({ frames := 1, cells := 0, slots := 0, locals := 40 } : Room) (ix_P G β (mm_N G.2.1 β F L) sz [.ref (β 0 0), .int i, .int (ix_b on)]) (ix_Q (some (.int (mm_oDrain (mm_0 F) L i on).1)) (fun (H9 : Heap) => ix_H G.1 (ix_A β (mm_N G.2.1 β F L) sz) β (mm_N G.2.1 β (mm_oDrain (mm_0 F) L i on).2.1 (mm_oDrain (mm_0 F) L i on).2.2) H9) (ix_A β (mm_N G.2.1 β F L) sz)) 0 0 (ix_A β (mm_N G.2.1 β F L) sz) := by
  refine ix_writer (by decide +kernel) (Nat.le_of_ble_eq_true rfl) ?_
  intro p e s m below meth c A S hr hlocks hnm hC hsz hH hS hA0 hAz hAe ls hl
  have hx := S.1
  have hb := S.2.1
  have hts := S.2.2.2.2
  have S : CallFix p m c cX11_drain 4 s ([.ref (β 0 0), .int i, .int (ix_b on)] : List Value).toArray lw_all "InitiatorRowsModel" := S
  have hl : lv_has ls 4 [(0, .ref (β 0 0)), (1, .int i), (2, .int (ix_b on))] := hl
  refine lv_aload_n hx hb dX11_drain_0 rfl (lv_at hl 0 rfl) ?_
  refine lv_iconst (v := 0) hx hb dX11_drain_1 (by decide) ?_
  refine ix_put S hC hH hS (fs := mm_obj β F L) (rfl : mm_N G.2.1 β F L 0 0 = _) rfl rfl in_X11 tyX11 tyX11_ok nmX11 0 (by decide) q832 (fun _ h9 => h9) rfl (rfl) (rfl) (show 0 < 25 by decide) dX11_drain_2 (fun H_1 locs_2 hH hS hz => ?_)
  have hH : ix_H G.1 A β (mm_N G.2.1 β (mm_0 F) L) H_1 := hH.to (mm_putI 0 _ (by decide))
  have hi0 : (mm_0 F) 5 0 = nI ni := hi
  generalize mm_0 F = F1 at hi0 hH ⊢
  refine lv_aload_n hx hb dX11_drain_5 rfl (lv_at hl 0 rfl) ?_
  refine lv_iload_n hx hb dX11_drain_6 rfl (lv_at hl 1 rfl) ?_
  refine ix_rd (W.runV (As := [.int i]) (rest := []) S (mm_isI_ l G β F1 L H_1.size i) (cwV 1 hts (lw_V q921 q923 qs11 q34 q924) rfl rfl rfl (by decide +kernel) ⟨Nat.le_of_ble_eq_true rfl, Nat.le_of_ble_eq_true rfl⟩) (ix_preV hC hS hAz hH (ix_recv hC hH (rfl : mm_N G.2.1 β F1 L 0 0 = _) rfl) rfl) rfl rfl hl.1 rfl (lv_room (Nat.le_of_ble_eq_true rfl)) dX11_drain_7 ⟨by omega, by omega⟩) ?_
  refine W.eq (g2 := F0 m 10 ls [.int (ix_b (mm_isI F1 i))]) rfl ?_
  refine lv_if_ne (tgt := 16) hx hb dX11_drain_10 (by decide) (fun c10 => ?_) (fun c10 => ?_)
  · have c10 : (mm_isI F1 i) = true := ix_b_ne.mp c10
    have ki := mm_isI_t hi0 h12 c10
    refine lv_aload_n hx hb dX11_drain_16 rfl (lv_at hl 0 rfl) ?_
    refine ix_get S hC hH (fs := mm_obj β F1 L) (rfl : mm_N G.2.1 β F1 L 0 0 = _) rfl rfl in_X11 4 (by decide) q836 (fun _ h9 => h9) rfl dX11_drain_17 ?_
    refine lv_iload_n hx hb dX11_drain_20 rfl (lv_at hl 1 rfl) ?_
    refine lv_iconst (v := 1) hx hb dX11_drain_21 (by decide) ?_
    refine lv_isub hx hb dX11_drain_22 ?_
    refine ix_zald (n := 12) S hC hH (rfl : mm_N G.2.1 β F1 L 4 0 = _) rfl (j := ((ix_t i)) - 1) (ix_nsub (a := (ix_t i)) (b := 1) ki.1 (rfl : (1 : Int32) = nI 1) (by omega)) (by omega) (by omega) dX11_drain_23 ?_
    refine lv_istore_n (lv' := [(3, .int (F1 4 (((ix_t i)) - 1))), (0, .ref (β 0 0)), (1, .int i), (2, .int (ix_b on))]) hx hb dX11_drain_24 rfl hl (by decide) rfl (fun ls hl => ?_)
    refine lv_aload_n hx hb dX11_drain_25 rfl (lv_at hl 1 rfl) ?_
    refine ix_get S hC hH (fs := mm_obj β F1 L) (rfl : mm_N G.2.1 β F1 L 0 0 = _) rfl rfl in_X11 4 (by decide) q836 (fun _ h9 => h9) rfl dX11_drain_26 ?_
    refine lv_iload_n hx hb dX11_drain_29 rfl (lv_at hl 2 rfl) ?_
    refine lv_iconst (v := 1) hx hb dX11_drain_30 (by decide) ?_
    refine lv_isub hx hb dX11_drain_31 ?_
    refine lv_iload_n hx hb dX11_drain_32 rfl (lv_at hl 3 rfl) ?_
    refine ix_zast (n := 12) S hC hH hS (rfl : mm_N G.2.1 β F1 L 4 0 = _) rfl (j := ((ix_t i)) - 1) (ix_nsub (a := (ix_t i)) (b := 1) ki.1 (rfl : (1 : Int32) = nI 1) (by omega)) (by omega) (by omega) (ix_b_z _) dX11_drain_33 (fun H_3 locs_4 hH hS hz => ?_)
    have hH : ix_H G.1 A β (mm_N G.2.1 β (mm_wr F1 4 (((ix_t i)) - 1) (ix_b on)) L) H_3 := hH.to (mm_upZ 4 rfl)
    refine lv_iload_n hx hb dX11_drain_34 rfl (lv_at hl 0 rfl) ?_
    refine lv_iload_n hx hb dX11_drain_35 rfl (lv_at hl 3 rfl) ?_
    refine lv_icmp_ne (tgt := 43) hx hb dX11_drain_36 (by decide) (fun c36 => ?_) (fun c36 => ?_)
    · refine lv_iconst (v := 1) hx hb dX11_drain_43 (by decide) ?_
      have e9 : mm_oDrain F1 L i on = (1, mm_wr F1 4 (((ix_t i)) - 1) (ix_b on), L) := by simp [mm_oDrain, c10, c36]
      exact ix_wI S hr hlocks hS (congrArg Prod.fst e9).symm (by rw [← hAe, e9]; exact hH) (by omega) (by omega) dX11_drain_44
    · refine lv_iconst (v := 0) hx hb dX11_drain_39 (by decide) ?_
      refine lv_goto (tgt := 44) hx hb dX11_drain_40 (by decide) ?_
      have e9 : mm_oDrain F1 L i on = (0, mm_wr F1 4 (((ix_t i)) - 1) (ix_b on), L) := by simp [mm_oDrain, c10, c36]
      exact ix_wI S hr hlocks hS (congrArg Prod.fst e9).symm (by rw [← hAe, e9]; exact hH) (by omega) (by omega) dX11_drain_44
  · have c10 : (mm_isI F1 i) = false := ix_b_eq.mp c10
    refine lv_bipush (v := (-2)) hx hb dX11_drain_13 (by decide) ?_
    have e9 : mm_oDrain F1 L i on = ((-2), F1, L) := by simp [mm_oDrain, c10]
    exact ix_wI S hr hlocks hS (congrArg Prod.fst e9).symm (by rw [← hAe, e9]; exact hH) (by omega) (by omega) dX11_drain_15
set_option maxHeartbeats 4000000 in
set_option maxRecDepth 100000 in
theorem mm_weight_ (l : Launch) (G : ix_G) (β : ix_B) (F : mm_F) (L : mm_L) (sz : Nat) (k x : Int32) : Met l yX11_weight (ws_ yX11_weight cX11_weight 3 (some .int)) ({ frames := 1, cells := 0, slots := 0, locals := 40 } : Room) (ix_P G β (mm_N G.2.1 β F L) sz [.ref (β 0 0), .int k, .int x]) (ix_Q (some (.int (mm_oWeight (mm_0 F) L k x).1)) (fun (H9 : Heap) => ix_H G.1 (ix_A β (mm_N G.2.1 β F L) sz) β (mm_N G.2.1 β (mm_oWeight (mm_0 F) L k x).2.1 (mm_oWeight (mm_0 F) L k x).2.2) H9) (ix_A β (mm_N G.2.1 β F L) sz)) 0 0 (ix_A β (mm_N G.2.1 β F L) sz) := by
  refine ix_writer (by decide +kernel) (Nat.le_of_ble_eq_true rfl) ?_
  intro p e s m below meth c A S hr hlocks hnm hC hsz hH hS hA0 hAz hAe ls hl
  have hx := S.1
  have hb := S.2.1
  have hts := S.2.2.2.2
  have S : CallFix p m c cX11_weight 3 s ([.ref (β 0 0), .int k, .int x] : List Value).toArray lw_all "InitiatorRowsModel" := S
  have hl : lv_has ls 3 [(0, .ref (β 0 0)), (1, .int k), (2, .int x)] := hl
  refine lv_aload_n hx hb dX11_weight_0 rfl (lv_at hl 0 rfl) ?_
  refine lv_iconst (v := 0) hx hb dX11_weight_1 (by decide) ?_
  refine ix_put S hC hH hS (fs := mm_obj β F L) (rfl : mm_N G.2.1 β F L 0 0 = _) rfl rfl in_X11 tyX11 tyX11_ok nmX11 0 (by decide) q832 (fun _ h9 => h9) rfl (rfl) (rfl) (show 0 < 25 by decide) dX11_weight_2 (fun H_1 locs_2 hH hS hz => ?_)
  have hH : ix_H G.1 A β (mm_N G.2.1 β (mm_0 F) L) H_1 := hH.to (mm_putI 0 _ (by decide))
  generalize mm_0 F = F1 at hH ⊢
  refine lv_iload_n hx hb dX11_weight_5 rfl (lv_at hl 1 rfl) ?_
  refine ix_rd (W.runS (As := [.int k]) (rest := []) S (mm_isC_ l G β F1 L H_1.size k) (va_cwS 1 hts (lw_S q925 q926 q34 q927) rfl rfl rfl (by decide +kernel) ⟨Nat.le_of_ble_eq_true rfl, Nat.le_of_ble_eq_true rfl⟩) (ix_pre hC hS hAz hH rfl) rfl rfl hl.1 rfl (lv_room (Nat.le_of_ble_eq_true rfl)) dX11_weight_6 ⟨by omega, by omega⟩) ?_
  refine W.eq (g2 := F0 m 9 ls [.int (ix_b (mm_isC k))]) rfl ?_
  refine lv_if_eq (tgt := 23) hx hb dX11_weight_9 (by decide) (fun c9 => ?_) (fun c9 => ?_)
  · have c9 : (mm_isC k) = false := ix_b_eq.mp c9
    refine lv_bipush (v := (-4)) hx hb dX11_weight_23 (by decide) ?_
    have e9 : mm_oWeight F1 L k x = ((-4), F1, L) := by simp [mm_oWeight, c9]
    exact ix_wI S hr hlocks hS (congrArg Prod.fst e9).symm (by rw [← hAe, e9]; exact hH) (by omega) (by omega) dX11_weight_25
  · have c9 : (mm_isC k) = true := ix_b_ne.mp c9
    have kk := mm_isC_t c9
    refine lv_iload_n hx hb dX11_weight_12 rfl (lv_at hl 2 rfl) ?_
    refine lv_if_lt (tgt := 23) hx hb dX11_weight_13 (by decide) (fun c13 => ?_) (fun c13 => ?_)
    · refine lv_bipush (v := (-4)) hx hb dX11_weight_23 (by decide) ?_
      have e9 : mm_oWeight F1 L k x = ((-4), F1, L) := by simp [mm_oWeight, c9, c13]
      exact ix_wI S hr hlocks hS (congrArg Prod.fst e9).symm (by rw [← hAe, e9]; exact hH) (by omega) (by omega) dX11_weight_25
    · refine lv_iload_n hx hb dX11_weight_16 rfl (lv_at hl 2 rfl) ?_
      refine lv_sipush (v := 1000) hx hb dX11_weight_17 (by decide) ?_
      refine lv_icmp_le (tgt := 26) hx hb dX11_weight_20 (by decide) (fun c20 => ?_) (fun c20 => ?_)
      · have c20 : ¬ (1000 < x) := Int32.not_lt.mpr c20
        refine lv_aload_n hx hb dX11_weight_26 rfl (lv_at hl 0 rfl) ?_
        refine ix_get S hC hH (fs := mm_obj β F1 L) (rfl : mm_N G.2.1 β F1 L 0 0 = _) rfl rfl in_X11 9 (by decide) q841 (fun _ h9 => h9) rfl dX11_weight_27 ?_
        refine lv_iload_n hx hb dX11_weight_30 rfl (lv_at hl 1 rfl) ?_
        refine lv_iload_n hx hb dX11_weight_31 rfl (lv_at hl 2 rfl) ?_
        refine ix_iast (n := 36) S hC hH hS (rfl : mm_N G.2.1 β F1 L 9 0 = _) rfl (j := (ix_t k)) kk.1 (by omega) (by omega) dX11_weight_32 (fun H_3 locs_4 hH hS hz => ?_)
        have hH : ix_H G.1 A β (mm_N G.2.1 β (mm_wr F1 9 ((ix_t k)) x) L) H_3 := hH.to (mm_upI 9 rfl)
        refine lv_iconst (v := 1) hx hb dX11_weight_33 (by decide) ?_
        have e9 : mm_oWeight F1 L k x = (1, mm_wr F1 9 ((ix_t k)) x, L) := by simp [mm_oWeight, c9, c13, c20]
        exact ix_wI S hr hlocks hS (congrArg Prod.fst e9).symm (by rw [← hAe, e9]; exact hH) (by omega) (by omega) dX11_weight_34
      · have c20 : 1000 < x := Int32.not_le.mp c20
        refine lv_bipush (v := (-4)) hx hb dX11_weight_23 (by decide) ?_
        have e9 : mm_oWeight F1 L k x = ((-4), F1, L) := by simp [mm_oWeight, c9, c13, c20]
        exact ix_wI S hr hlocks hS (congrArg Prod.fst e9).symm (by rw [← hAe, e9]; exact hH) (by omega) (by omega) dX11_weight_25
set_option maxHeartbeats 4000000 in
set_option maxRecDepth 100000 in
theorem mm_age_ (l : Launch) (G : ix_G) (β : ix_B) (F : mm_F) (L : mm_L) (sz : Nat) (t : Int64) (x : Int32) : Met l yX11_age (ws_ yX11_age cX11_age 4 (some .int)) ({ frames := 0, cells := 0, slots := 0, locals := 0 } : Room) (ix_P G β (mm_N G.2.1 β F L) sz [.ref (β 0 0), .long t, .int x]) (ix_Q (some (.int (mm_oAge (mm_0 F) L t x).1)) (fun (H9 : Heap) => ix_H G.1 (ix_A β (mm_N G.2.1 β F L) sz) β (mm_N G.2.1 β (mm_oAge (mm_0 F) L t x).2.1 (mm_oAge (mm_0 F) L t x).2.2) H9) (ix_A β (mm_N G.2.1 β F L) sz)) 0 0 (ix_A β (mm_N G.2.1 β F L) sz) := by
  refine ix_writer (by decide +kernel) (Nat.le_of_ble_eq_true rfl) ?_
  intro p e s m below meth c A S hr hlocks hnm hC hsz hH hS hA0 hAz hAe ls hl
  have hx := S.1
  have hb := S.2.1
  have hts := S.2.2.2.2
  have S : CallFix p m c cX11_age 4 s ([.ref (β 0 0), .long t, .int x] : List Value).toArray lw_all "InitiatorRowsModel" := S
  have hl : lv_has ls 4 [(0, .ref (β 0 0)), (1, .long t), (3, .int x)] := hl
  refine lv_aload_n hx hb dX11_age_0 rfl (lv_at hl 0 rfl) ?_
  refine lv_iconst (v := 0) hx hb dX11_age_1 (by decide) ?_
  refine ix_put S hC hH hS (fs := mm_obj β F L) (rfl : mm_N G.2.1 β F L 0 0 = _) rfl rfl in_X11 tyX11 tyX11_ok nmX11 0 (by decide) q832 (fun _ h9 => h9) rfl (rfl) (rfl) (show 0 < 25 by decide) dX11_age_2 (fun H_1 locs_2 hH hS hz => ?_)
  have hH : ix_H G.1 A β (mm_N G.2.1 β (mm_0 F) L) H_1 := hH.to (mm_putI 0 _ (by decide))
  generalize mm_0 F = F1 at hH ⊢
  refine lv_lload_n hx hb dX11_age_5 rfl (lv_at hl 1 rfl) ?_
  refine lv_lconst (v := 0) hx hb dX11_age_6 (by decide) ?_
  refine W.lcmp hx hb dX11_age_7 ?_
  refine lv_if_lt (tgt := 21) hx hb dX11_age_8 (by decide) (fun c8 => ?_) (fun c8 => ?_)
  · have c8 : t < 0 := (lg_cmp_lt _ _).mp c8
    refine lv_bipush (v := (-4)) hx hb dX11_age_21 (by decide) ?_
    have e9 : mm_oAge F1 L t x = ((-4), F1, L) := by simp [mm_oAge, c8]
    exact ix_wI S hr hlocks hS (congrArg Prod.fst e9).symm (by rw [← hAe, e9]; exact hH) (by omega) (by omega) dX11_age_23
  · have c8 : ¬ (t < 0) := (not_congr (lg_cmp_lt _ _)).mp c8
    refine lv_iload_n hx hb dX11_age_11 rfl (lv_at hl 2 rfl) ?_
    refine lv_if_lt (tgt := 21) hx hb dX11_age_12 (by decide) (fun c12 => ?_) (fun c12 => ?_)
    · refine lv_bipush (v := (-4)) hx hb dX11_age_21 (by decide) ?_
      have e9 : mm_oAge F1 L t x = ((-4), F1, L) := by simp [mm_oAge, c8, c12]
      exact ix_wI S hr hlocks hS (congrArg Prod.fst e9).symm (by rw [← hAe, e9]; exact hH) (by omega) (by omega) dX11_age_23
    · refine lv_iload_n hx hb dX11_age_15 rfl (lv_at hl 2 rfl) ?_
      refine lv_bipush (v := 15) hx hb dX11_age_16 (by decide) ?_
      refine lv_icmp_le (tgt := 24) hx hb dX11_age_18 (by decide) (fun c18 => ?_) (fun c18 => ?_)
      · have c18 : ¬ (15 < x) := Int32.not_lt.mpr c18
        refine lv_aload_n hx hb dX11_age_24 rfl (lv_at hl 0 rfl) ?_
        refine lv_lload_n hx hb dX11_age_25 rfl (lv_at hl 1 rfl) ?_
        refine ix_put S hC hH hS (fs := mm_obj β F1 L) (rfl : mm_N G.2.1 β F1 L 0 0 = _) rfl rfl in_X11 tyX11 tyX11_ok nmX11 23 (by decide) q855 (fun _ h9 => h9) rfl (rfl) (rfl) (show 23 < 25 by decide) dX11_age_26 (fun H_3 locs_4 hH hS hz => ?_)
        have hH : ix_H G.1 A β (mm_N G.2.1 β F1 (mm_stL L 23 t)) H_3 := hH.to (mm_putL 23 _ (by decide))
        refine lv_aload_n hx hb dX11_age_29 rfl (lv_at hl 0 rfl) ?_
        refine lv_iload_n hx hb dX11_age_30 rfl (lv_at hl 2 rfl) ?_
        refine ix_put S hC hH hS (fs := mm_obj β F1 (mm_stL L 23 t)) (rfl : mm_N G.2.1 β F1 (mm_stL L 23 t) 0 0 = _) rfl rfl in_X11 tyX11 tyX11_ok nmX11 24 (by decide) q856 (fun _ h9 => h9) rfl (rfl) (rfl) (show 24 < 25 by decide) dX11_age_31 (fun H_5 locs_6 hH hS hz => ?_)
        have hH : ix_H G.1 A β (mm_N G.2.1 β (mm_st F1 24 x) (mm_stL L 23 t)) H_5 := hH.to (mm_putI 24 _ (by decide))
        refine lv_iconst (v := 1) hx hb dX11_age_34 (by decide) ?_
        have e9 : mm_oAge F1 L t x = (1, mm_st F1 24 x, mm_stL L 23 t) := by simp [mm_oAge, c8, c12, c18]
        exact ix_wI S hr hlocks hS (congrArg Prod.fst e9).symm (by rw [← hAe, e9]; exact hH) (by omega) (by omega) dX11_age_35
      · have c18 : 15 < x := Int32.not_le.mp c18
        refine lv_bipush (v := (-4)) hx hb dX11_age_21 (by decide) ?_
        have e9 : mm_oAge F1 L t x = ((-4), F1, L) := by simp [mm_oAge, c8, c12, c18]
        exact ix_wI S hr hlocks hS (congrArg Prod.fst e9).symm (by rw [← hAe, e9]; exact hH) (by omega) (by omega) dX11_age_23
set_option maxHeartbeats 4000000 in
set_option maxRecDepth 100000 in
theorem mm_waited_ (l : Launch) (G : ix_G) (β : ix_B) (F : mm_F) (L : mm_L) (sz : Nat) (j : Int32) (n : Nat) (h100 : n ≤ 100) (hn : F 22 0 = nI n) : Met l yX11_waited (ws_ yX11_waited cX11_waited 2 (some .long)) ({ frames := 1, cells := 0, slots := 0, locals := 40 } : Room) (ix_P G β (mm_N G.2.1 β F L) sz [.ref (β 0 0), .int j]) (ix_Q (some (.long (mm_oWaited (mm_0 F) L j))) (fun (H9 : Heap) => ix_H G.1 (ix_A β (mm_N G.2.1 β F L) sz) β (mm_N G.2.1 β (mm_0 F) L) H9) (ix_A β (mm_N G.2.1 β F L) sz)) 0 0 (ix_A β (mm_N G.2.1 β F L) sz) := by
  refine ix_writer (by decide +kernel) (Nat.le_of_ble_eq_true rfl) ?_
  intro p e s m below meth c A S hr hlocks hnm hC hsz hH hS hA0 hAz hAe ls hl
  have hx := S.1
  have hb := S.2.1
  have hts := S.2.2.2.2
  have S : CallFix p m c cX11_waited 2 s ([.ref (β 0 0), .int j] : List Value).toArray lw_all "InitiatorRowsModel" := S
  have hl : lv_has ls 2 [(0, .ref (β 0 0)), (1, .int j)] := hl
  refine lv_aload_n hx hb dX11_waited_0 rfl (lv_at hl 0 rfl) ?_
  refine lv_iconst (v := 0) hx hb dX11_waited_1 (by decide) ?_
  refine ix_put S hC hH hS (fs := mm_obj β F L) (rfl : mm_N G.2.1 β F L 0 0 = _) rfl rfl in_X11 tyX11 tyX11_ok nmX11 0 (by decide) q832 (fun _ h9 => h9) rfl (rfl) (rfl) (show 0 < 25 by decide) dX11_waited_2 (fun H_1 locs_2 hH hS hz => ?_)
  have hH : ix_H G.1 A β (mm_N G.2.1 β (mm_0 F) L) H_1 := hH.to (mm_putI 0 _ (by decide))
  have hn0 : (mm_0 F) 22 0 = nI n := hn
  generalize mm_0 F = F1 at hn0 hH ⊢
  refine lv_aload_n hx hb dX11_waited_5 rfl (lv_at hl 0 rfl) ?_
  refine lv_iload_n hx hb dX11_waited_6 rfl (lv_at hl 1 rfl) ?_
  refine ix_rd (W.runV (As := [.int j]) (rest := []) S (mm_isJ_ l G β F1 L H_1.size j) (cwV 1 hts (lw_V q947 q949 qs12 q34 q950) rfl rfl rfl (by decide +kernel) ⟨Nat.le_of_ble_eq_true rfl, Nat.le_of_ble_eq_true rfl⟩) (ix_preV hC hS hAz hH (ix_recv hC hH (rfl : mm_N G.2.1 β F1 L 0 0 = _) rfl) rfl) rfl rfl hl.1 rfl (lv_room (Nat.le_of_ble_eq_true rfl)) dX11_waited_7 ⟨by omega, by omega⟩) ?_
  refine W.eq (g2 := F0 m 10 ls [.int (ix_b (mm_isJ F1 j))]) rfl ?_
  refine lv_if_ne (tgt := 17) hx hb dX11_waited_10 (by decide) (fun c10 => ?_) (fun c10 => ?_)
  · have c10 : (mm_isJ F1 j) = true := ix_b_ne.mp c10
    have kj := mm_isJ_t hn0 h100 c10
    refine lv_aload_n hx hb dX11_waited_17 rfl (lv_at hl 0 rfl) ?_
    refine ix_get S hC hH (fs := mm_obj β F1 L) (rfl : mm_N G.2.1 β F1 L 0 0 = _) rfl rfl in_X11 14 (by decide) q846 (fun _ h9 => h9) rfl dX11_waited_18 ?_
    refine lv_iload_n hx hb dX11_waited_21 rfl (lv_at hl 1 rfl) ?_
    refine lv_iconst (v := 1) hx hb dX11_waited_22 (by decide) ?_
    refine lv_isub hx hb dX11_waited_23 ?_
    refine ix_iald (n := 100) S hC hH (rfl : mm_N G.2.1 β F1 L 14 0 = _) rfl (j := ((ix_t j)) - 1) (ix_nsub (a := (ix_t j)) (b := 1) kj.1 (rfl : (1 : Int32) = nI 1) (by omega)) (by omega) (by omega) dX11_waited_24 ?_
    refine lv_if_ne (tgt := 35) hx hb dX11_waited_25 (by decide) (fun c25 => ?_) (fun c25 => ?_)
    · refine lv_aload_n hx hb dX11_waited_35 rfl (lv_at hl 0 rfl) ?_
      refine ix_get S hC hH (fs := mm_obj β F1 L) (rfl : mm_N G.2.1 β F1 L 0 0 = _) rfl rfl in_X11 21 (by decide) q853 (fun _ h9 => h9) rfl dX11_waited_36 ?_
      refine lv_iload_n hx hb dX11_waited_39 rfl (lv_at hl 1 rfl) ?_
      refine lv_iconst (v := 1) hx hb dX11_waited_40 (by decide) ?_
      refine lv_isub hx hb dX11_waited_41 ?_
      refine ix_lald (n := 100) S hC hH (rfl : mm_N G.2.1 β F1 L 21 0 = _) rfl (j := ((ix_t j)) - 1) (ix_nsub (a := (ix_t j)) (b := 1) kj.1 (rfl : (1 : Int32) = nI 1) (by omega)) (by omega) (by omega) dX11_waited_42 ?_
      refine lv_aload_n hx hb dX11_waited_43 rfl (lv_at hl 0 rfl) ?_
      refine ix_get S hC hH (fs := mm_obj β F1 L) (rfl : mm_N G.2.1 β F1 L 0 0 = _) rfl rfl in_X11 20 (by decide) q852 (fun _ h9 => h9) rfl dX11_waited_44 ?_
      refine lv_iload_n hx hb dX11_waited_47 rfl (lv_at hl 1 rfl) ?_
      refine lv_iconst (v := 1) hx hb dX11_waited_48 (by decide) ?_
      refine lv_isub hx hb dX11_waited_49 ?_
      refine ix_lald (n := 100) S hC hH (rfl : mm_N G.2.1 β F1 L 20 0 = _) rfl (j := ((ix_t j)) - 1) (ix_nsub (a := (ix_t j)) (b := 1) kj.1 (rfl : (1 : Int32) = nI 1) (by omega)) (by omega) (by omega) dX11_waited_50 ?_
      refine lv_lsub hx hb dX11_waited_51 ?_
      have e9 : (L 21 (((ix_t j)) - 1)) - (L 20 (((ix_t j)) - 1)) = mm_oWaited F1 L j := by simp [mm_oWaited, c10, c25]
      exact ix_wL S hr hlocks hS e9 (by rw [← hAe]; exact hH) (by omega) (by omega) dX11_waited_52
    · refine lv_aload_n hx hb dX11_waited_28 rfl (lv_at hl 0 rfl) ?_
      refine ix_get S hC hH (fs := mm_obj β F1 L) (rfl : mm_N G.2.1 β F1 L 0 0 = _) rfl rfl in_X11 1 (by decide) q833 (fun _ h9 => h9) rfl dX11_waited_29 ?_
      refine lv_goto (tgt := 43) hx hb dX11_waited_32 (by decide) ?_
      refine lv_aload_n hx hb dX11_waited_43 rfl (lv_at hl 0 rfl) ?_
      refine ix_get S hC hH (fs := mm_obj β F1 L) (rfl : mm_N G.2.1 β F1 L 0 0 = _) rfl rfl in_X11 20 (by decide) q852 (fun _ h9 => h9) rfl dX11_waited_44 ?_
      refine lv_iload_n hx hb dX11_waited_47 rfl (lv_at hl 1 rfl) ?_
      refine lv_iconst (v := 1) hx hb dX11_waited_48 (by decide) ?_
      refine lv_isub hx hb dX11_waited_49 ?_
      refine ix_lald (n := 100) S hC hH (rfl : mm_N G.2.1 β F1 L 20 0 = _) rfl (j := ((ix_t j)) - 1) (ix_nsub (a := (ix_t j)) (b := 1) kj.1 (rfl : (1 : Int32) = nI 1) (by omega)) (by omega) (by omega) dX11_waited_50 ?_
      refine lv_lsub hx hb dX11_waited_51 ?_
      have e9 : (L 1 0) - (L 20 (((ix_t j)) - 1)) = mm_oWaited F1 L j := by simp [mm_oWaited, c10, c25]
      exact ix_wL S hr hlocks hS e9 (by rw [← hAe]; exact hH) (by omega) (by omega) dX11_waited_52
  · have c10 : (mm_isJ F1 j) = false := ix_b_eq.mp c10
    refine lv_ldc2 hx hb S.2.2.2.1 (hts _ q1017) dX11_waited_13 ?_
    have e9 : -1 = mm_oWaited F1 L j := by simp [mm_oWaited, c10]
    exact ix_wL S hr hlocks hS e9 (by rw [← hAe]; exact hH) (by omega) (by omega) dX11_waited_16
set_option maxHeartbeats 4000000 in
set_option maxRecDepth 100000 in
theorem mm_state_ (l : Launch) (G : ix_G) (β : ix_B) (F : mm_F) (L : mm_L) (sz : Nat) (j : Int32) (n : Nat) (h100 : n ≤ 100) (hn : F 22 0 = nI n) : Met l yX11_state (ws_ yX11_state cX11_state 2 (some .int)) ({ frames := 1, cells := 0, slots := 0, locals := 40 } : Room) (ix_P G β (mm_N G.2.1 β F L) sz [.ref (β 0 0), .int j]) (ix_Q (some (.int (mm_oState (mm_0 F) j))) (fun (H9 : Heap) => ix_H G.1 (ix_A β (mm_N G.2.1 β F L) sz) β (mm_N G.2.1 β (mm_0 F) L) H9) (ix_A β (mm_N G.2.1 β F L) sz)) 0 0 (ix_A β (mm_N G.2.1 β F L) sz) := by
  refine ix_writer (by decide +kernel) (Nat.le_of_ble_eq_true rfl) ?_
  intro p e s m below meth c A S hr hlocks hnm hC hsz hH hS hA0 hAz hAe ls hl
  have hx := S.1
  have hb := S.2.1
  have hts := S.2.2.2.2
  have S : CallFix p m c cX11_state 2 s ([.ref (β 0 0), .int j] : List Value).toArray lw_all "InitiatorRowsModel" := S
  have hl : lv_has ls 2 [(0, .ref (β 0 0)), (1, .int j)] := hl
  refine lv_aload_n hx hb dX11_state_0 rfl (lv_at hl 0 rfl) ?_
  refine lv_iconst (v := 0) hx hb dX11_state_1 (by decide) ?_
  refine ix_put S hC hH hS (fs := mm_obj β F L) (rfl : mm_N G.2.1 β F L 0 0 = _) rfl rfl in_X11 tyX11 tyX11_ok nmX11 0 (by decide) q832 (fun _ h9 => h9) rfl (rfl) (rfl) (show 0 < 25 by decide) dX11_state_2 (fun H_1 locs_2 hH hS hz => ?_)
  have hH : ix_H G.1 A β (mm_N G.2.1 β (mm_0 F) L) H_1 := hH.to (mm_putI 0 _ (by decide))
  have hn0 : (mm_0 F) 22 0 = nI n := hn
  generalize mm_0 F = F1 at hn0 hH ⊢
  refine lv_aload_n hx hb dX11_state_5 rfl (lv_at hl 0 rfl) ?_
  refine lv_iload_n hx hb dX11_state_6 rfl (lv_at hl 1 rfl) ?_
  refine ix_rd (W.runV (As := [.int j]) (rest := []) S (mm_isJ_ l G β F1 L H_1.size j) (cwV 1 hts (lw_V q947 q949 qs12 q34 q950) rfl rfl rfl (by decide +kernel) ⟨Nat.le_of_ble_eq_true rfl, Nat.le_of_ble_eq_true rfl⟩) (ix_preV hC hS hAz hH (ix_recv hC hH (rfl : mm_N G.2.1 β F1 L 0 0 = _) rfl) rfl) rfl rfl hl.1 rfl (lv_room (Nat.le_of_ble_eq_true rfl)) dX11_state_7 ⟨by omega, by omega⟩) ?_
  refine W.eq (g2 := F0 m 10 ls [.int (ix_b (mm_isJ F1 j))]) rfl ?_
  refine lv_if_ne (tgt := 15) hx hb dX11_state_10 (by decide) (fun c10 => ?_) (fun c10 => ?_)
  · have c10 : (mm_isJ F1 j) = true := ix_b_ne.mp c10
    have kj := mm_isJ_t hn0 h100 c10
    refine lv_aload_n hx hb dX11_state_15 rfl (lv_at hl 0 rfl) ?_
    refine ix_get S hC hH (fs := mm_obj β F1 L) (rfl : mm_N G.2.1 β F1 L 0 0 = _) rfl rfl in_X11 14 (by decide) q846 (fun _ h9 => h9) rfl dX11_state_16 ?_
    refine lv_iload_n hx hb dX11_state_19 rfl (lv_at hl 1 rfl) ?_
    refine lv_iconst (v := 1) hx hb dX11_state_20 (by decide) ?_
    refine lv_isub hx hb dX11_state_21 ?_
    refine ix_iald (n := 100) S hC hH (rfl : mm_N G.2.1 β F1 L 14 0 = _) rfl (j := ((ix_t j)) - 1) (ix_nsub (a := (ix_t j)) (b := 1) kj.1 (rfl : (1 : Int32) = nI 1) (by omega)) (by omega) (by omega) dX11_state_22 ?_
    refine lv_if_ne (tgt := 41) hx hb dX11_state_23 (by decide) (fun c23 => ?_) (fun c23 => ?_)
    · refine lv_aload_n hx hb dX11_state_41 rfl (lv_at hl 0 rfl) ?_
      refine ix_get S hC hH (fs := mm_obj β F1 L) (rfl : mm_N G.2.1 β F1 L 0 0 = _) rfl rfl in_X11 14 (by decide) q846 (fun _ h9 => h9) rfl dX11_state_42 ?_
      refine lv_iload_n hx hb dX11_state_45 rfl (lv_at hl 1 rfl) ?_
      refine lv_iconst (v := 1) hx hb dX11_state_46 (by decide) ?_
      refine lv_isub hx hb dX11_state_47 ?_
      refine ix_iald (n := 100) S hC hH (rfl : mm_N G.2.1 β F1 L 14 0 = _) rfl (j := ((ix_t j)) - 1) (ix_nsub (a := (ix_t j)) (b := 1) kj.1 (rfl : (1 : Int32) = nI 1) (by omega)) (by omega) (by omega) dX11_state_48 ?_
      have e9 : F1 14 (((ix_t j)) - 1) = mm_oState F1 j := by simp [mm_oState, c10, c23]
      exact ix_wI S hr hlocks hS e9 (by rw [← hAe]; exact hH) (by omega) (by omega) dX11_state_49
    · refine lv_aload_n hx hb dX11_state_26 rfl (lv_at hl 0 rfl) ?_
      refine ix_get S hC hH (fs := mm_obj β F1 L) (rfl : mm_N G.2.1 β F1 L 0 0 = _) rfl rfl in_X11 16 (by decide) q848 (fun _ h9 => h9) rfl dX11_state_27 ?_
      refine lv_iload_n hx hb dX11_state_30 rfl (lv_at hl 1 rfl) ?_
      refine lv_iconst (v := 1) hx hb dX11_state_31 (by decide) ?_
      refine lv_isub hx hb dX11_state_32 ?_
      refine ix_zald (n := 100) S hC hH (rfl : mm_N G.2.1 β F1 L 16 0 = _) rfl (j := ((ix_t j)) - 1) (ix_nsub (a := (ix_t j)) (b := 1) kj.1 (rfl : (1 : Int32) = nI 1) (by omega)) (by omega) (by omega) dX11_state_33 ?_
      refine lv_if_eq (tgt := 41) hx hb dX11_state_34 (by decide) (fun c34 => ?_) (fun c34 => ?_)
      · refine lv_aload_n hx hb dX11_state_41 rfl (lv_at hl 0 rfl) ?_
        refine ix_get S hC hH (fs := mm_obj β F1 L) (rfl : mm_N G.2.1 β F1 L 0 0 = _) rfl rfl in_X11 14 (by decide) q846 (fun _ h9 => h9) rfl dX11_state_42 ?_
        refine lv_iload_n hx hb dX11_state_45 rfl (lv_at hl 1 rfl) ?_
        refine lv_iconst (v := 1) hx hb dX11_state_46 (by decide) ?_
        refine lv_isub hx hb dX11_state_47 ?_
        refine ix_iald (n := 100) S hC hH (rfl : mm_N G.2.1 β F1 L 14 0 = _) rfl (j := ((ix_t j)) - 1) (ix_nsub (a := (ix_t j)) (b := 1) kj.1 (rfl : (1 : Int32) = nI 1) (by omega)) (by omega) (by omega) dX11_state_48 ?_
        have e9 : F1 14 (((ix_t j)) - 1) = mm_oState F1 j := by simp [mm_oState, c10, c23, c34]
        exact ix_wI S hr hlocks hS e9 (by rw [← hAe]; exact hH) (by omega) (by omega) dX11_state_49
      · refine lv_iconst (v := 1) hx hb dX11_state_37 (by decide) ?_
        refine lv_goto (tgt := 49) hx hb dX11_state_38 (by decide) ?_
        have e9 : 1 = mm_oState F1 j := by simp [mm_oState, c10, c23, c34]
        exact ix_wI S hr hlocks hS e9 (by rw [← hAe]; exact hH) (by omega) (by omega) dX11_state_49
  · have c10 : (mm_isJ F1 j) = false := ix_b_eq.mp c10
    refine lv_iconst (v := (-1)) hx hb dX11_state_13 (by decide) ?_
    have e9 : (-1) = mm_oState F1 j := by simp [mm_oState, c10]
    exact ix_wI S hr hlocks hS e9 (by rw [← hAe]; exact hH) (by omega) (by omega) dX11_state_14
set_option maxHeartbeats 4000000 in
set_option maxRecDepth 100000 in
theorem mm_job_ (l : Launch) (G : ix_G) (β : ix_B) (F : mm_F) (L : mm_L) (sz : Nat) (k x y : Int32) (t : Int64) (n : Nat) (h100 : n ≤ 100) (hn : F 22 0 = nI n) : Met l yX11_job (ws_ yX11_job cX11_job 6 (some .int)) ({ frames := 1, cells := 0, slots := 0, locals := 40 } : Room) (ix_P G β (mm_N G.2.1 β F L) sz [.ref (β 0 0), .int k, .int x, .int y, .long t]) (ix_Q (some (.int (mm_oJob (mm_0 F) L n k x y t).1)) (fun (H9 : Heap) => ix_H G.1 (ix_A β (mm_N G.2.1 β F L) sz) β (mm_N G.2.1 β (mm_oJob (mm_0 F) L n k x y t).2.1 (mm_oJob (mm_0 F) L n k x y t).2.2) H9) (ix_A β (mm_N G.2.1 β F L) sz)) 0 0 (ix_A β (mm_N G.2.1 β F L) sz) := by
  refine ix_writer (by decide +kernel) (Nat.le_of_ble_eq_true rfl) ?_
  intro p e s m below meth c A S hr hlocks hnm hC hsz hH hS hA0 hAz hAe ls hl
  have hx := S.1
  have hb := S.2.1
  have hts := S.2.2.2.2
  have S : CallFix p m c cX11_job 6 s ([.ref (β 0 0), .int k, .int x, .int y, .long t] : List Value).toArray lw_all "InitiatorRowsModel" := S
  have hl : lv_has ls 6 [(0, .ref (β 0 0)), (1, .int k), (2, .int x), (3, .int y), (4, .long t)] := hl
  refine lv_aload_n hx hb dX11_job_0 rfl (lv_at hl 0 rfl) ?_
  refine lv_iconst (v := 0) hx hb dX11_job_1 (by decide) ?_
  refine ix_put S hC hH hS (fs := mm_obj β F L) (rfl : mm_N G.2.1 β F L 0 0 = _) rfl rfl in_X11 tyX11 tyX11_ok nmX11 0 (by decide) q832 (fun _ h9 => h9) rfl (rfl) (rfl) (show 0 < 25 by decide) dX11_job_2 (fun H_1 locs_2 hH hS hz => ?_)
  have hH : ix_H G.1 A β (mm_N G.2.1 β (mm_0 F) L) H_1 := hH.to (mm_putI 0 _ (by decide))
  have hn0 : (mm_0 F) 22 0 = nI n := hn
  generalize mm_0 F = F1 at hn0 hH ⊢
  refine lv_iload_n hx hb dX11_job_5 rfl (lv_at hl 1 rfl) ?_
  refine ix_rd (W.runS (As := [.int k]) (rest := []) S (mm_isC_ l G β F1 L H_1.size k) (va_cwS 1 hts (lw_S q925 q926 q34 q927) rfl rfl rfl (by decide +kernel) ⟨Nat.le_of_ble_eq_true rfl, Nat.le_of_ble_eq_true rfl⟩) (ix_pre hC hS hAz hH rfl) rfl rfl hl.1 rfl (lv_room (Nat.le_of_ble_eq_true rfl)) dX11_job_6 ⟨by omega, by omega⟩) ?_
  refine W.eq (g2 := F0 m 9 ls [.int (ix_b (mm_isC k))]) rfl ?_
  refine lv_if_eq (tgt := 42) hx hb dX11_job_9 (by decide) (fun c9 => ?_) (fun c9 => ?_)
  · have c9 : (mm_isC k) = false := ix_b_eq.mp c9
    refine lv_bipush (v := (-4)) hx hb dX11_job_42 (by decide) ?_
    have e9 : mm_oJob F1 L n k x y t = ((-4), F1, L) := by simp [mm_oJob, c9]
    exact ix_wI S hr hlocks hS (congrArg Prod.fst e9).symm (by rw [← hAe, e9]; exact hH) (by omega) (by omega) dX11_job_44
  · have c9 : (mm_isC k) = true := ix_b_ne.mp c9
    have kk := mm_isC_t c9
    refine lv_iload_n hx hb dX11_job_12 rfl (lv_at hl 2 rfl) ?_
    refine lv_if_lt (tgt := 42) hx hb dX11_job_13 (by decide) (fun c13 => ?_) (fun c13 => ?_)
    · refine lv_bipush (v := (-4)) hx hb dX11_job_42 (by decide) ?_
      have e9 : mm_oJob F1 L n k x y t = ((-4), F1, L) := by simp [mm_oJob, c9, c13]
      exact ix_wI S hr hlocks hS (congrArg Prod.fst e9).symm (by rw [← hAe, e9]; exact hH) (by omega) (by omega) dX11_job_44
    · refine lv_iload_n hx hb dX11_job_16 rfl (lv_at hl 2 rfl) ?_
      refine lv_bipush (v := 15) hx hb dX11_job_17 (by decide) ?_
      refine lv_icmp_gt (tgt := 42) hx hb dX11_job_19 (by decide) (fun c19 => ?_) (fun c19 => ?_)
      · refine lv_bipush (v := (-4)) hx hb dX11_job_42 (by decide) ?_
        have e9 : mm_oJob F1 L n k x y t = ((-4), F1, L) := by simp [mm_oJob, c9, c13, c19]
        exact ix_wI S hr hlocks hS (congrArg Prod.fst e9).symm (by rw [← hAe, e9]; exact hH) (by omega) (by omega) dX11_job_44
      · refine lv_iload_n hx hb dX11_job_22 rfl (lv_at hl 3 rfl) ?_
        refine lv_if_lt (tgt := 42) hx hb dX11_job_23 (by decide) (fun c23 => ?_) (fun c23 => ?_)
        · refine lv_bipush (v := (-4)) hx hb dX11_job_42 (by decide) ?_
          have e9 : mm_oJob F1 L n k x y t = ((-4), F1, L) := by simp [mm_oJob, c9, c13, c19, c23]
          exact ix_wI S hr hlocks hS (congrArg Prod.fst e9).symm (by rw [← hAe, e9]; exact hH) (by omega) (by omega) dX11_job_44
        · refine lv_iload_n hx hb dX11_job_26 rfl (lv_at hl 3 rfl) ?_
          refine lv_bipush (v := 99) hx hb dX11_job_27 (by decide) ?_
          refine lv_icmp_gt (tgt := 42) hx hb dX11_job_29 (by decide) (fun c29 => ?_) (fun c29 => ?_)
          · refine lv_bipush (v := (-4)) hx hb dX11_job_42 (by decide) ?_
            have e9 : mm_oJob F1 L n k x y t = ((-4), F1, L) := by simp [mm_oJob, c9, c13, c19, c23, c29]
            exact ix_wI S hr hlocks hS (congrArg Prod.fst e9).symm (by rw [← hAe, e9]; exact hH) (by omega) (by omega) dX11_job_44
          · refine lv_lload hx hb dX11_job_32 (lv_at hl 4 rfl) ?_
            refine lv_aload_n hx hb dX11_job_34 rfl (lv_at hl 0 rfl) ?_
            refine ix_get S hC hH (fs := mm_obj β F1 L) (rfl : mm_N G.2.1 β F1 L 0 0 = _) rfl rfl in_X11 1 (by decide) q833 (fun _ h9 => h9) rfl dX11_job_35 ?_
            refine W.lcmp hx hb dX11_job_38 ?_
            refine lv_if_ge (tgt := 45) hx hb dX11_job_39 (by decide) (fun c39 => ?_) (fun c39 => ?_)
            · have c39 : ¬ (t < L 1 0) := Int64.not_lt.mpr ((lg_cmp_ge _ _).mp c39)
              refine lv_aload_n hx hb dX11_job_45 rfl (lv_at hl 0 rfl) ?_
              refine ix_get S hC hH (fs := mm_obj β F1 L) (rfl : mm_N G.2.1 β F1 L 0 0 = _) rfl rfl in_X11 22 (by decide) q854 (fun _ h9 => h9) rfl dX11_job_46 ?_
              refine lv_bipush (v := 100) hx hb dX11_job_49 (by decide) ?_
              refine lv_icmp_ne (tgt := 56) hx hb dX11_job_51 (by decide) (fun c51 => ?_) (fun c51 => ?_)
              · have c51 : ¬ (n = 100) := (not_congr (ix_neq (a := n) (b := 100) hn0 (rfl : (100 : Int32) = nI 100) (by omega) (by omega))).mp c51
                have hn100 : n < 100 := by omega
                have hnn : ¬ n = 100 := by omega
                refine lv_aload_n hx hb dX11_job_56 rfl (lv_at hl 0 rfl) ?_
                refine lv_lload hx hb dX11_job_57 (lv_at hl 4 rfl) ?_
                refine ix_put S hC hH hS (fs := mm_obj β F1 L) (rfl : mm_N G.2.1 β F1 L 0 0 = _) rfl rfl in_X11 tyX11 tyX11_ok nmX11 1 (by decide) q833 (fun _ h9 => h9) rfl (rfl) (rfl) (show 1 < 25 by decide) dX11_job_59 (fun H_3 locs_4 hH hS hz => ?_)
                have hH : ix_H G.1 A β (mm_N G.2.1 β F1 (mm_stL L 1 t)) H_3 := hH.to (mm_putL 1 _ (by decide))
                refine lv_aload_n hx hb dX11_job_62 rfl (lv_at hl 0 rfl) ?_
                refine ix_get S hC hH (fs := mm_obj β F1 (mm_stL L 1 t)) (rfl : mm_N G.2.1 β F1 (mm_stL L 1 t) 0 0 = _) rfl rfl in_X11 11 (by decide) q843 (fun _ h9 => h9) rfl dX11_job_63 ?_
                refine lv_aload_n hx hb dX11_job_66 rfl (lv_at hl 0 rfl) ?_
                refine ix_get S hC hH (fs := mm_obj β F1 (mm_stL L 1 t)) (rfl : mm_N G.2.1 β F1 (mm_stL L 1 t) 0 0 = _) rfl rfl in_X11 22 (by decide) q854 (fun _ h9 => h9) rfl dX11_job_67 ?_
                refine lv_iload_n hx hb dX11_job_70 rfl (lv_at hl 1 rfl) ?_
                refine ix_iast (n := 100) S hC hH hS (rfl : mm_N G.2.1 β F1 (mm_stL L 1 t) 11 0 = _) rfl (j := n) hn0 (by omega) (by omega) dX11_job_71 (fun H_5 locs_6 hH hS hz => ?_)
                have hH : ix_H G.1 A β (mm_N G.2.1 β (mm_wr F1 11 n k) (mm_stL L 1 t)) H_5 := hH.to (mm_upI 11 rfl)
                refine lv_aload_n hx hb dX11_job_72 rfl (lv_at hl 0 rfl) ?_
                refine ix_get S hC hH (fs := mm_obj β (mm_wr F1 11 n k) (mm_stL L 1 t)) (rfl : mm_N G.2.1 β (mm_wr F1 11 n k) (mm_stL L 1 t) 0 0 = _) rfl rfl in_X11 12 (by decide) q844 (fun _ h9 => h9) rfl dX11_job_73 ?_
                refine lv_aload_n hx hb dX11_job_76 rfl (lv_at hl 0 rfl) ?_
                refine ix_get S hC hH (fs := mm_obj β (mm_wr F1 11 n k) (mm_stL L 1 t)) (rfl : mm_N G.2.1 β (mm_wr F1 11 n k) (mm_stL L 1 t) 0 0 = _) rfl rfl in_X11 22 (by decide) q854 (fun _ h9 => h9) rfl dX11_job_77 ?_
                refine lv_iload_n hx hb dX11_job_80 rfl (lv_at hl 2 rfl) ?_
                refine ix_iast (n := 100) S hC hH hS (rfl : mm_N G.2.1 β (mm_wr F1 11 n k) (mm_stL L 1 t) 12 0 = _) rfl (j := n) hn0 (by omega) (by omega) dX11_job_81 (fun H_7 locs_8 hH hS hz => ?_)
                have hH : ix_H G.1 A β (mm_N G.2.1 β (mm_wr (mm_wr F1 11 n k) 12 n x) (mm_stL L 1 t)) H_7 := hH.to (mm_upI 12 rfl)
                refine lv_aload_n hx hb dX11_job_82 rfl (lv_at hl 0 rfl) ?_
                refine ix_get S hC hH (fs := mm_obj β (mm_wr (mm_wr F1 11 n k) 12 n x) (mm_stL L 1 t)) (rfl : mm_N G.2.1 β (mm_wr (mm_wr F1 11 n k) 12 n x) (mm_stL L 1 t) 0 0 = _) rfl rfl in_X11 13 (by decide) q845 (fun _ h9 => h9) rfl dX11_job_83 ?_
                refine lv_aload_n hx hb dX11_job_86 rfl (lv_at hl 0 rfl) ?_
                refine ix_get S hC hH (fs := mm_obj β (mm_wr (mm_wr F1 11 n k) 12 n x) (mm_stL L 1 t)) (rfl : mm_N G.2.1 β (mm_wr (mm_wr F1 11 n k) 12 n x) (mm_stL L 1 t) 0 0 = _) rfl rfl in_X11 22 (by decide) q854 (fun _ h9 => h9) rfl dX11_job_87 ?_
                refine lv_iload_n hx hb dX11_job_90 rfl (lv_at hl 3 rfl) ?_
                refine ix_iast (n := 100) S hC hH hS (rfl : mm_N G.2.1 β (mm_wr (mm_wr F1 11 n k) 12 n x) (mm_stL L 1 t) 13 0 = _) rfl (j := n) hn0 (by omega) (by omega) dX11_job_91 (fun H_9 locs_10 hH hS hz => ?_)
                have hH : ix_H G.1 A β (mm_N G.2.1 β (mm_wr (mm_wr (mm_wr F1 11 n k) 12 n x) 13 n y) (mm_stL L 1 t)) H_9 := hH.to (mm_upI 13 rfl)
                refine lv_aload_n hx hb dX11_job_92 rfl (lv_at hl 0 rfl) ?_
                refine ix_get S hC hH (fs := mm_obj β (mm_wr (mm_wr (mm_wr F1 11 n k) 12 n x) 13 n y) (mm_stL L 1 t)) (rfl : mm_N G.2.1 β (mm_wr (mm_wr (mm_wr F1 11 n k) 12 n x) 13 n y) (mm_stL L 1 t) 0 0 = _) rfl rfl in_X11 20 (by decide) q852 (fun _ h9 => h9) rfl dX11_job_93 ?_
                refine lv_aload_n hx hb dX11_job_96 rfl (lv_at hl 0 rfl) ?_
                refine ix_get S hC hH (fs := mm_obj β (mm_wr (mm_wr (mm_wr F1 11 n k) 12 n x) 13 n y) (mm_stL L 1 t)) (rfl : mm_N G.2.1 β (mm_wr (mm_wr (mm_wr F1 11 n k) 12 n x) 13 n y) (mm_stL L 1 t) 0 0 = _) rfl rfl in_X11 22 (by decide) q854 (fun _ h9 => h9) rfl dX11_job_97 ?_
                refine lv_lload hx hb dX11_job_100 (lv_at hl 4 rfl) ?_
                refine ix_last (n := 100) S hC hH hS (rfl : mm_N G.2.1 β (mm_wr (mm_wr (mm_wr F1 11 n k) 12 n x) 13 n y) (mm_stL L 1 t) 20 0 = _) rfl (j := n) hn0 (by omega) (by omega) dX11_job_102 (fun H_11 locs_12 hH hS hz => ?_)
                have hH : ix_H G.1 A β (mm_N G.2.1 β (mm_wr (mm_wr (mm_wr F1 11 n k) 12 n x) 13 n y) (mm_wrL (mm_stL L 1 t) 20 n t)) H_11 := hH.to (mm_upL 20 rfl)
                refine lv_aload_n hx hb dX11_job_103 rfl (lv_at hl 0 rfl) ?_
                refine lv_dup hx hb dX11_job_104 rfl ?_
                refine ix_get S hC hH (fs := mm_obj β (mm_wr (mm_wr (mm_wr F1 11 n k) 12 n x) 13 n y) (mm_wrL (mm_stL L 1 t) 20 n t)) (rfl : mm_N G.2.1 β (mm_wr (mm_wr (mm_wr F1 11 n k) 12 n x) 13 n y) (mm_wrL (mm_stL L 1 t) 20 n t) 0 0 = _) rfl rfl in_X11 22 (by decide) q854 (fun _ h9 => h9) rfl dX11_job_105 ?_
                refine lv_iconst (v := 1) hx hb dX11_job_108 (by decide) ?_
                refine lv_iadd hx hb dX11_job_109 ?_
                refine ix_put S hC hH hS (fs := mm_obj β (mm_wr (mm_wr (mm_wr F1 11 n k) 12 n x) 13 n y) (mm_wrL (mm_stL L 1 t) 20 n t)) (rfl : mm_N G.2.1 β (mm_wr (mm_wr (mm_wr F1 11 n k) 12 n x) 13 n y) (mm_wrL (mm_stL L 1 t) 20 n t) 0 0 = _) rfl rfl in_X11 tyX11 tyX11_ok nmX11 22 (by decide) q854 (fun _ h9 => h9) rfl (rfl) (rfl) (show 22 < 25 by decide) dX11_job_110 (fun H_13 locs_14 hH hS hz => ?_)
                have hH : ix_H G.1 A β (mm_N G.2.1 β (mm_st (mm_wr (mm_wr (mm_wr F1 11 n k) 12 n x) 13 n y) 22 ((F1 22 0) + 1)) (mm_wrL (mm_stL L 1 t) 20 n t)) H_13 := hH.to (mm_putI 22 _ (by decide))
                refine lv_aload_n hx hb dX11_job_113 rfl (lv_at hl 0 rfl) ?_
                refine ix_get S hC hH (fs := mm_obj β (mm_st (mm_wr (mm_wr (mm_wr F1 11 n k) 12 n x) 13 n y) 22 ((F1 22 0) + 1)) (mm_wrL (mm_stL L 1 t) 20 n t)) (rfl : mm_N G.2.1 β (mm_st (mm_wr (mm_wr (mm_wr F1 11 n k) 12 n x) 13 n y) 22 ((F1 22 0) + 1)) (mm_wrL (mm_stL L 1 t) 20 n t) 0 0 = _) rfl rfl in_X11 22 (by decide) q854 (fun _ h9 => h9) rfl dX11_job_114 ?_
                have e9 : mm_oJob F1 L n k x y t = ((F1 22 0) + 1, mm_st (mm_wr (mm_wr (mm_wr F1 11 n k) 12 n x) 13 n y) 22 ((F1 22 0) + 1), mm_wrL (mm_stL L 1 t) 20 n t) := by simp [mm_oJob, c9, c13, c19, c23, c29, c39, c51]
                exact ix_wI S hr hlocks hS (congrArg Prod.fst e9).symm (by rw [← hAe, e9]; exact hH) (by omega) (by omega) dX11_job_117
              · have c51 : n = 100 := (ix_neq (a := n) (b := 100) hn0 (rfl : (100 : Int32) = nI 100) (by omega) (by omega)).mp c51
                refine lv_iconst (v := (-1)) hx hb dX11_job_54 (by decide) ?_
                have e9 : mm_oJob F1 L n k x y t = ((-1), F1, L) := by simp [mm_oJob, c9, c13, c19, c23, c29, c39, c51]
                exact ix_wI S hr hlocks hS (congrArg Prod.fst e9).symm (by rw [← hAe, e9]; exact hH) (by omega) (by omega) dX11_job_55
            · have c39 : t < L 1 0 := Int64.not_le.mp ((not_congr (lg_cmp_ge _ _)).mp c39)
              refine lv_bipush (v := (-4)) hx hb dX11_job_42 (by decide) ?_
              have e9 : mm_oJob F1 L n k x y t = ((-4), F1, L) := by simp [mm_oJob, c9, c13, c19, c23, c29, c39]
              exact ix_wI S hr hlocks hS (congrArg Prod.fst e9).symm (by rw [← hAe, e9]; exact hH) (by omega) (by omega) dX11_job_44
