/-! THE REFERENCE: needs, next -/
theorem mm_1819 {F : mm_F} {k : Nat} {v : Int32} {f : Nat → Int32} : va_up (mm_wr F 18 k v) 19 f = mm_wr (va_up F 19 f) 18 k v := by
  funext a b
  by_cases h1 : a = 19
  · subst h1; simp [va_up]
  · by_cases h2 : a = 18
    · subst h2; simp [va_up]
    · simp [va_up, h1, h2]
set_option maxHeartbeats 4000000 in
set_option maxRecDepth 100000 in
theorem mm_needs_ (l : Launch) (G : ix_G) (β : ix_B) (F : mm_F) (L : mm_L) (sz : Nat) (x y : Int32) (n : Nat) (h100 : n ≤ 100) (hn : F 22 0 = nI n) : Met l yX11_needs (ws_ yX11_needs cX11_needs 3 (some .int)) ({ frames := 1, cells := 0, slots := 0, locals := 40 } : Room) (ix_P G β (mm_N G.2.1 β F L) sz [.ref (β 0 0), .int x, .int y]) (ix_Q (some (.int (mm_oNeeds (mm_0 F) L x y).1)) (fun (H9 : Heap) => ∃ f, ix_H G.1 (ix_A β (mm_N G.2.1 β F L) sz) β (mm_N G.2.1 β (va_up (mm_oNeeds (mm_0 F) L x y).2.1 19 f) (mm_oNeeds (mm_0 F) L x y).2.2) H9) (ix_A β (mm_N G.2.1 β F L) sz)) 0 0 (ix_A β (mm_N G.2.1 β F L) sz) := by
  refine ix_writer (by decide +kernel) (Nat.le_of_ble_eq_true rfl) ?_
  intro p e s m below meth c A S hr hlocks hnm hC hsz hH hS hA0 hAz hAe ls hl
  have hx := S.1
  have hb := S.2.1
  have hts := S.2.2.2.2
  have S : CallFix p m c cX11_needs 3 s ([.ref (β 0 0), .int x, .int y] : List Value).toArray lw_all "InitiatorRowsModel" := S
  have hl : lv_has ls 3 [(0, .ref (β 0 0)), (1, .int x), (2, .int y)] := hl
  refine lv_aload_n hx hb dX11_needs_0 rfl (lv_at hl 0 rfl) ?_
  refine lv_iconst (v := 0) hx hb dX11_needs_1 (by decide) ?_
  refine ix_put S hC hH hS (fs := mm_obj β F L) (rfl : mm_N G.2.1 β F L 0 0 = _) rfl rfl in_X11 tyX11 tyX11_ok nmX11 0 (by decide) q832 (fun _ h9 => h9) rfl (rfl) (rfl) (show 0 < 25 by decide) dX11_needs_2 (fun H_1 locs_2 hH hS hz => ?_)
  have hH : ix_H G.1 A β (mm_N G.2.1 β (mm_0 F) L) H_1 := hH.to (mm_putI 0 _ (by decide))
  have hn0 : (mm_0 F) 22 0 = nI n := hn
  generalize mm_0 F = F1 at hn0 hH ⊢
  refine lv_aload_n hx hb dX11_needs_5 rfl (lv_at hl 0 rfl) ?_
  refine lv_iload_n hx hb dX11_needs_6 rfl (lv_at hl 1 rfl) ?_
  refine ix_rd (W.runV (As := [.int x]) (rest := []) S (mm_isJ_ l G β F1 L H_1.size x) (cwV 1 hts (lw_V q947 q949 qs12 q34 q950) rfl rfl rfl (by decide +kernel) ⟨Nat.le_of_ble_eq_true rfl, Nat.le_of_ble_eq_true rfl⟩) (ix_preV hC hS hAz hH (ix_recv hC hH (rfl : mm_N G.2.1 β F1 L 0 0 = _) rfl) rfl) rfl rfl hl.1 rfl (lv_room (Nat.le_of_ble_eq_true rfl)) dX11_needs_7 ⟨by omega, by omega⟩) ?_
  refine W.eq (g2 := F0 m 10 ls [.int (ix_b (mm_isJ F1 x))]) rfl ?_
  refine lv_if_eq (tgt := 21) hx hb dX11_needs_10 (by decide) (fun c10 => ?_) (fun c10 => ?_)
  · have c10 : (mm_isJ F1 x) = false := ix_b_eq.mp c10
    refine lv_bipush (v := (-2)) hx hb dX11_needs_21 (by decide) ?_
    have e9 : mm_oNeeds F1 L x y = ((-2), F1, L) := by simp [mm_oNeeds, c10]
    exact ix_wI S hr hlocks hS (congrArg Prod.fst e9).symm (⟨F1 19, by rw [← hAe, e9, mm_up_id]; exact hH⟩) (by omega) (by omega) dX11_needs_23
  · have c10 : (mm_isJ F1 x) = true := ix_b_ne.mp c10
    have kx := mm_isJ_t hn0 h100 c10
    refine lv_aload_n hx hb dX11_needs_13 rfl (lv_at hl 0 rfl) ?_
    refine lv_iload_n hx hb dX11_needs_14 rfl (lv_at hl 2 rfl) ?_
    refine ix_rd (W.runV (As := [.int y]) (rest := []) S (mm_isJ_ l G β F1 L H_1.size y) (cwV 1 hts (lw_V q947 q949 qs12 q34 q950) rfl rfl rfl (by decide +kernel) ⟨Nat.le_of_ble_eq_true rfl, Nat.le_of_ble_eq_true rfl⟩) (ix_preV hC hS hAz hH (ix_recv hC hH (rfl : mm_N G.2.1 β F1 L 0 0 = _) rfl) rfl) rfl rfl hl.1 rfl (lv_room (Nat.le_of_ble_eq_true rfl)) dX11_needs_15 ⟨by omega, by omega⟩) ?_
    refine W.eq (g2 := F0 m 18 ls [.int (ix_b (mm_isJ F1 y))]) rfl ?_
    refine lv_if_ne (tgt := 24) hx hb dX11_needs_18 (by decide) (fun c18 => ?_) (fun c18 => ?_)
    · have c18 : (mm_isJ F1 y) = true := ix_b_ne.mp c18
      have ky := mm_isJ_t hn0 h100 c18
      refine lv_aload_n hx hb dX11_needs_24 rfl (lv_at hl 0 rfl) ?_
      refine ix_get S hC hH (fs := mm_obj β F1 L) (rfl : mm_N G.2.1 β F1 L 0 0 = _) rfl rfl in_X11 14 (by decide) q846 (fun _ h9 => h9) rfl dX11_needs_25 ?_
      refine lv_iload_n hx hb dX11_needs_28 rfl (lv_at hl 1 rfl) ?_
      refine lv_iconst (v := 1) hx hb dX11_needs_29 (by decide) ?_
      refine lv_isub hx hb dX11_needs_30 ?_
      refine ix_iald (n := 100) S hC hH (rfl : mm_N G.2.1 β F1 L 14 0 = _) rfl (j := ((ix_t x)) - 1) (ix_nsub (a := (ix_t x)) (b := 1) kx.1 (rfl : (1 : Int32) = nI 1) (by omega)) (by omega) (by omega) dX11_needs_31 ?_
      refine lv_if_eq (tgt := 38) hx hb dX11_needs_32 (by decide) (fun c32 => ?_) (fun c32 => ?_)
      · refine lv_aload_n hx hb dX11_needs_38 rfl (lv_at hl 0 rfl) ?_
        refine lv_iload_n hx hb dX11_needs_39 rfl (lv_at hl 2 rfl) ?_
        refine lv_iconst (v := 1) hx hb dX11_needs_40 (by decide) ?_
        refine lv_isub hx hb dX11_needs_41 ?_
        refine lv_iload_n hx hb dX11_needs_42 rfl (lv_at hl 1 rfl) ?_
        refine lv_iconst (v := 1) hx hb dX11_needs_43 (by decide) ?_
        refine lv_isub hx hb dX11_needs_44 ?_
        have hsub := ix_sub hH hS hA0
        refine ix_wr3 (va_runV (As := [.int (y - 1), .int (x - 1)]) (rest := []) S (mm_reach_ l G β F1 L H_1.size (((ix_t y)) - 1) (((ix_t x)) - 1) (by omega) (by omega)) (cwV 2 hts (lw_V q951 q953 qs13 q34 q954) rfl rfl rfl (by decide +kernel) ⟨Nat.le_of_ble_eq_true rfl, Nat.le_of_ble_eq_true rfl⟩) (ix_preV hC hS hAz hH (ix_recv hC hH (rfl : mm_N G.2.1 β F1 L 0 0 = _) rfl) (by rw [(ix_nsub (a := (ix_t y)) (b := 1) ky.1 (rfl : (1 : Int32) = nI 1) (by omega)), (ix_nsub (a := (ix_t x)) (b := 1) kx.1 (rfl : (1 : Int32) = nI 1) (by omega))])) rfl rfl hl.1 rfl (lv_room (Nat.le_of_ble_eq_true rfl)) dX11_needs_45 ⟨by omega, by omega⟩) hS (hsub) (hsub) (fun H_3 locs_4 hB hz hk hS => ?_)
        obtain ⟨f9, hH⟩ := hB
        have hH := hH.weaken hsub
        refine W.eq (g2 := F0 m 48 ls [.int (ix_b (ix_d (mm_reach F1 (((ix_t y)) - 1) (((ix_t x)) - 1))))]) rfl ?_
        refine lv_if_eq (tgt := 53) hx hb dX11_needs_48 (by decide) (fun c48 => ?_) (fun c48 => ?_)
        · have c48 : (ix_d (mm_reach F1 (((ix_t y)) - 1) (((ix_t x)) - 1))) = false := ix_b_eq.mp c48
          refine lv_aload_n hx hb dX11_needs_53 rfl (lv_at hl 0 rfl) ?_
          refine ix_get S hC hH (fs := mm_obj β (va_up F1 19 f9) L) (rfl : mm_N G.2.1 β (va_up F1 19 f9) L 0 0 = _) rfl rfl in_X11 18 (by decide) q850 (fun _ h9 => h9) rfl dX11_needs_54 ?_
          refine lv_bipush (v := 100) hx hb dX11_needs_57 (by decide) ?_
          refine lv_iload_n hx hb dX11_needs_59 rfl (lv_at hl 1 rfl) ?_
          refine lv_iconst (v := 1) hx hb dX11_needs_60 (by decide) ?_
          refine lv_isub hx hb dX11_needs_61 ?_
          refine lv_imul hx hb dX11_needs_62 ?_
          refine lv_iload_n hx hb dX11_needs_63 rfl (lv_at hl 2 rfl) ?_
          refine lv_iadd hx hb dX11_needs_64 ?_
          refine lv_iconst (v := 1) hx hb dX11_needs_65 (by decide) ?_
          refine lv_isub hx hb dX11_needs_66 ?_
          refine lv_iconst (v := 1) hx hb dX11_needs_67 (by decide) ?_
          refine ix_zast (n := 10000) S hC hH hS (rfl : mm_N G.2.1 β (va_up F1 19 f9) L 18 0 = _) rfl (j := ((100 * (((ix_t x)) - 1)) + ((ix_t y))) - 1) (ix_nsub (a := (100 * (((ix_t x)) - 1)) + ((ix_t y))) (b := 1) (ix_nadd (ix_nmul (rfl : (100 : Int32) = nI 100) (ix_nsub (a := (ix_t x)) (b := 1) kx.1 (rfl : (1 : Int32) = nI 1) (by omega))) ky.1) (rfl : (1 : Int32) = nI 1) (by omega)) (by omega) (by omega) (rfl) dX11_needs_68 (fun H_5 locs_6 hH hS hz => ?_)
          have hH : ix_H G.1 A β (mm_N G.2.1 β (mm_wr (va_up F1 19 f9) 18 (((100 * (((ix_t x)) - 1)) + ((ix_t y))) - 1) 1) L) H_5 := hH.to (mm_upZ 18 rfl)
          refine lv_iconst (v := 1) hx hb dX11_needs_69 (by decide) ?_
          have e9 : mm_oNeeds F1 L x y = (1, mm_wr F1 18 (((100 * (((ix_t x)) - 1)) + ((ix_t y))) - 1) 1, L) := by simp [mm_oNeeds, c10, c18, c32, c48]
          exact ix_wI S hr hlocks hS (congrArg Prod.fst e9).symm (⟨f9, by rw [← hAe, e9, mm_1819]; exact hH⟩) (by omega) (by omega) dX11_needs_70
        · have c48 : (ix_d (mm_reach F1 (((ix_t y)) - 1) (((ix_t x)) - 1))) = true := ix_b_ne.mp c48
          refine lv_iconst (v := 0) hx hb dX11_needs_51 (by decide) ?_
          have e9 : mm_oNeeds F1 L x y = (0, F1, L) := by simp [mm_oNeeds, c10, c18, c32, c48]
          exact ix_wI S hr hlocks hS (congrArg Prod.fst e9).symm (⟨f9, by rw [← hAe, e9]; exact hH⟩) (by omega) (by omega) dX11_needs_52
      · refine lv_bipush (v := (-5)) hx hb dX11_needs_35 (by decide) ?_
        have e9 : mm_oNeeds F1 L x y = ((-5), F1, L) := by simp [mm_oNeeds, c10, c18, c32]
        exact ix_wI S hr hlocks hS (congrArg Prod.fst e9).symm (⟨F1 19, by rw [← hAe, e9, mm_up_id]; exact hH⟩) (by omega) (by omega) dX11_needs_37
    · have c18 : (mm_isJ F1 y) = false := ix_b_eq.mp c18
      refine lv_bipush (v := (-2)) hx hb dX11_needs_21 (by decide) ?_
      have e9 : mm_oNeeds F1 L x y = ((-2), F1, L) := by simp [mm_oNeeds, c10, c18]
      exact ix_wI S hr hlocks hS (congrArg Prod.fst e9).symm (⟨F1 19, by rw [← hAe, e9, mm_up_id]; exact hH⟩) (by omega) (by omega) dX11_needs_23
set_option maxHeartbeats 4000000 in
set_option maxRecDepth 100000 in
theorem mm_next_ (l : Launch) (G : ix_G) (β : ix_B) (F : mm_F) (L : mm_L) (sz : Nat) (i : Int32) (t : Int64) (n ni : Nat) (h100 : n ≤ 100) (h12 : ni ≤ 12) (hn : F 22 0 = nI n) (hi : F 5 0 = nI ni) (hcl : mm_cl F n) : Met l yX11_next (ws_ yX11_next cX11_next 8 (some .int)) ({ frames := 3, cells := 0, slots := 0, locals := 120 } : Room) (ix_P G β (mm_N G.2.1 β F L) sz [.ref (β 0 0), .int i, .long t]) (ix_Q (some (.int (mm_oNext (mm_0 F) L n i t).1)) (fun (H9 : Heap) => ix_H G.1 (ix_A β (mm_N G.2.1 β F L) sz) β (mm_N G.2.1 β (mm_oNext (mm_0 F) L n i t).2.1 (mm_oNext (mm_0 F) L n i t).2.2) H9) (ix_A β (mm_N G.2.1 β F L) sz)) 0 0 (ix_A β (mm_N G.2.1 β F L) sz) := by
  refine ix_writer (by decide +kernel) (Nat.le_of_ble_eq_true rfl) ?_
  intro p e s m below meth c A S hr hlocks hnm hC hsz hH hS hA0 hAz hAe ls hl
  have hx := S.1
  have hb := S.2.1
  have hts := S.2.2.2.2
  have S : CallFix p m c cX11_next 8 s ([.ref (β 0 0), .int i, .long t] : List Value).toArray lw_all "InitiatorRowsModel" := S
  have hl : lv_has ls 8 [(0, .ref (β 0 0)), (1, .int i), (2, .long t)] := hl
  refine lv_aload_n hx hb dX11_next_0 rfl (lv_at hl 0 rfl) ?_
  refine lv_iconst (v := 0) hx hb dX11_next_1 (by decide) ?_
  refine ix_put S hC hH hS (fs := mm_obj β F L) (rfl : mm_N G.2.1 β F L 0 0 = _) rfl rfl in_X11 tyX11 tyX11_ok nmX11 0 (by decide) q832 (fun _ h9 => h9) rfl (rfl) (rfl) (show 0 < 25 by decide) dX11_next_2 (fun H_1 locs_2 hH hS hz => ?_)
  have hH : ix_H G.1 A β (mm_N G.2.1 β (mm_0 F) L) H_1 := hH.to (mm_putI 0 _ (by decide))
  have hn0 : (mm_0 F) 22 0 = nI n := hn
  have hi0 : (mm_0 F) 5 0 = nI ni := hi
  have hcl0 : mm_cl (mm_0 F) n := hcl
  generalize mm_0 F = F1 at hn0 hi0 hcl0 hH ⊢
  refine lv_aload_n hx hb dX11_next_5 rfl (lv_at hl 0 rfl) ?_
  refine lv_iload_n hx hb dX11_next_6 rfl (lv_at hl 1 rfl) ?_
  refine ix_rd (W.runV (As := [.int i]) (rest := []) S (mm_isI_ l G β F1 L H_1.size i) (cwV 1 hts (lw_V q921 q923 qs11 q34 q924) rfl rfl rfl (by decide +kernel) ⟨Nat.le_of_ble_eq_true rfl, Nat.le_of_ble_eq_true rfl⟩) (ix_preV hC hS hAz hH (ix_recv hC hH (rfl : mm_N G.2.1 β F1 L 0 0 = _) rfl) rfl) rfl rfl hl.1 rfl (lv_room (Nat.le_of_ble_eq_true rfl)) dX11_next_7 ⟨by omega, by omega⟩) ?_
  refine W.eq (g2 := F0 m 10 ls [.int (ix_b (mm_isI F1 i))]) rfl ?_
  refine lv_if_ne (tgt := 16) hx hb dX11_next_10 (by decide) (fun c10 => ?_) (fun c10 => ?_)
  · have c10 : (mm_isI F1 i) = true := ix_b_ne.mp c10
    have ki := mm_isI_t hi0 h12 c10
    refine lv_lload_n hx hb dX11_next_16 rfl (lv_at hl 2 rfl) ?_
    refine lv_aload_n hx hb dX11_next_17 rfl (lv_at hl 0 rfl) ?_
    refine ix_get S hC hH (fs := mm_obj β F1 L) (rfl : mm_N G.2.1 β F1 L 0 0 = _) rfl rfl in_X11 1 (by decide) q833 (fun _ h9 => h9) rfl dX11_next_18 ?_
    refine W.lcmp hx hb dX11_next_21 ?_
    refine lv_if_ge (tgt := 28) hx hb dX11_next_22 (by decide) (fun c22 => ?_) (fun c22 => ?_)
    · have c22 : ¬ (t < L 1 0) := Int64.not_lt.mpr ((lg_cmp_ge _ _).mp c22)
      refine lv_iload_n hx hb dX11_next_28 rfl (lv_at hl 1 rfl) ?_
      refine lv_iconst (v := 1) hx hb dX11_next_29 (by decide) ?_
      refine lv_isub hx hb dX11_next_30 ?_
      refine ix_reI (y := nI (ix_t i - 1)) (ix_nsub ki.1 rfl (by omega)) ?_
      refine lv_istore (lv' := [(4, .int (nI (ix_t i - 1))), (0, .ref (β 0 0)), (1, .int i), (2, .long t)]) hx hb dX11_next_31 hl (by decide) rfl (fun ls hl => ?_)
      refine lv_aload_n hx hb dX11_next_33 rfl (lv_at hl 1 rfl) ?_
      refine ix_get S hC hH (fs := mm_obj β F1 L) (rfl : mm_N G.2.1 β F1 L 0 0 = _) rfl rfl in_X11 4 (by decide) q836 (fun _ h9 => h9) rfl dX11_next_34 ?_
      refine lv_iload hx hb dX11_next_37 (lv_at hl 0 rfl) ?_
      refine ix_zald (n := 12) S hC hH (rfl : mm_N G.2.1 β F1 L 4 0 = _) rfl (j := (ix_t i - 1)) rfl (by omega) (by omega) dX11_next_39 ?_
      refine lv_if_ne (tgt := 54) hx hb dX11_next_40 (by decide) (fun c40 => ?_) (fun c40 => ?_)
      · refine lv_bipush (v := (-5)) hx hb dX11_next_54 (by decide) ?_
        have e9 : mm_oNext F1 L n i t = ((-5), F1, L) := by simp [mm_oNext, c10, c22, c40]
        exact ix_wI S hr hlocks hS (congrArg Prod.fst e9).symm (by rw [← hAe, e9]; exact hH) (by omega) (by omega) dX11_next_56
      · refine lv_aload_n hx hb dX11_next_43 rfl (lv_at hl 1 rfl) ?_
        refine ix_get S hC hH (fs := mm_obj β F1 L) (rfl : mm_N G.2.1 β F1 L 0 0 = _) rfl rfl in_X11 3 (by decide) q835 (fun _ h9 => h9) rfl dX11_next_44 ?_
        refine lv_iload hx hb dX11_next_47 (lv_at hl 0 rfl) ?_
        refine ix_iald (n := 12) S hC hH (rfl : mm_N G.2.1 β F1 L 3 0 = _) rfl (j := (ix_t i - 1)) rfl (by omega) (by omega) dX11_next_49 ?_
        refine lv_iconst (v := (-1)) hx hb dX11_next_50 (by decide) ?_
        refine lv_icmp_eq (tgt := 57) hx hb dX11_next_51 (by decide) (fun c51 => ?_) (fun c51 => ?_)
        · refine lv_aload_n hx hb dX11_next_57 rfl (lv_at hl 1 rfl) ?_
          refine lv_lload_n hx hb dX11_next_58 rfl (lv_at hl 3 rfl) ?_
          refine ix_put S hC hH hS (fs := mm_obj β F1 L) (rfl : mm_N G.2.1 β F1 L 0 0 = _) rfl rfl in_X11 tyX11 tyX11_ok nmX11 1 (by decide) q833 (fun _ h9 => h9) rfl (rfl) (rfl) (show 1 < 25 by decide) dX11_next_59 (fun H_3 locs_4 hH hS hz => ?_)
          have hH : ix_H G.1 A β (mm_N G.2.1 β F1 (mm_stL L 1 t)) H_3 := hH.to (mm_putL 1 _ (by decide))
          obtain ⟨L2, hL2⟩ : ∃ L2, L2 = mm_stL L 1 t := ⟨_, rfl⟩
          rw [← hL2] at hH
          refine lv_iconst (v := (-1)) hx hb dX11_next_62 (by decide) ?_
          refine lv_istore (lv' := [(5, .int ((-1))), (4, .int (nI (ix_t i - 1))), (0, .ref (β 0 0)), (1, .int i), (2, .long t)]) hx hb dX11_next_63 hl (by decide) rfl (fun ls hl => ?_)
          refine lv_iconst (v := 0) hx hb dX11_next_65 (by decide) ?_
          refine lv_istore (lv' := [(6, .int 0), (5, .int ((-1))), (4, .int (nI (ix_t i - 1))), (0, .ref (β 0 0)), (1, .int i), (2, .long t)]) hx hb dX11_next_66 hl (by decide) rfl (fun ls hl => ?_)
          have lp68 : ∀ (fu68 : Nat) (pp : Nat) (fo : Option Nat), 8 + 1 ≤ pp + fu68 → (pp ≤ 8) → (fo = ix_fst (mm_fo F1 L2 n (ix_t i - 1)) pp) → ∀ ls, lv_has ls 8 [(0, .ref (β 0 0)), (1, .int i), (2, .long t), (4, .int (nI ((ix_t i - 1)))), (5, .int (ix_o fo)), (6, .int (nI pp))] → W p l e ({ frames := 3, cells := 0, slots := 0, locals := 120 } : Room) s m ([.ref (β 0 0), .int i, .long t] : List Value).toArray below meth c H_3 locs_4 0 0 (MQ below (ix_Q (some (.int (mm_oNext F1 L n i t).1)) (fun (H9 : Heap) => ix_H G.1 (ix_A β (mm_N G.2.1 β F L) sz) β (mm_N G.2.1 β (mm_oNext F1 L n i t).2.1 (mm_oNext F1 L n i t).2.2) H9) A) ([.ref (β 0 0), .int i, .long t] : List Value).toArray s 0 0 A) (F0 m 68 ls []) := by
            intro fu68
            induction fu68 with
            | zero =>
              intro pp fo hfu hpp hfo ls hl
              exact absurd hfu (by omega)
            | succ fu68 ih68 =>
              intro pp fo hfu hpp hfo ls hl
              refine lv_iload hx hb dX11_next_68 (lv_at hl 5 rfl) ?_
              refine lv_bipush (v := 8) hx hb dX11_next_70 (by decide) ?_
              refine lv_icmp_ge (tgt := 158) hx hb dX11_next_72 (by decide) (fun c72 => ?_) (fun c72 => ?_)
              · have c72 : 8 ≤ pp := (ix_nle (a := 8) (b := pp) (rfl : (8 : Int32) = nI 8) rfl (by omega) (by omega)).mp c72
                have hfin : ix_fst (mm_fo F1 L2 n (ix_t i - 1)) 8 = fo := by rw [hfo, show pp = 8 by omega]
                refine lv_iload hx hb dX11_next_158 (lv_at hl 4 rfl) ?_
                refine lv_iconst (v := (-1)) hx hb dX11_next_160 (by decide) ?_
                refine lv_icmp_ne (tgt := 166) hx hb dX11_next_161 (by decide) (fun c161 => ?_) (fun c161 => ?_)
                · obtain ⟨g, hg⟩ := ix_o_ne c161
                  have hgl : g < n := by obtain ⟨p9, -, hp⟩ := ix_fst_of (hfin.trans hg); exact (ix_best_lt hp).1
                  refine lv_aload_n hx hb dX11_next_166 rfl (lv_at hl 0 rfl) ?_
                  refine ix_get S hC hH (fs := mm_obj β F1 L2) (rfl : mm_N G.2.1 β F1 L2 0 0 = _) rfl rfl in_X11 3 (by decide) q835 (fun _ h9 => h9) rfl dX11_next_167 ?_
                  refine lv_iload hx hb dX11_next_170 (lv_at hl 3 rfl) ?_
                  refine lv_iload hx hb dX11_next_172 (lv_at hl 4 rfl) ?_
                  refine ix_iast (n := 12) S hC hH hS (rfl : mm_N G.2.1 β F1 L2 3 0 = _) rfl (j := (ix_t i - 1)) rfl (by omega) (by omega) dX11_next_174 (fun H_5 locs_6 hH hS hz => ?_)
                  have hH : ix_H G.1 A β (mm_N G.2.1 β (mm_wr F1 3 ((ix_t i - 1)) (ix_o fo)) L2) H_5 := hH.to (mm_upI 3 rfl)
                  refine lv_aload_n hx hb dX11_next_175 rfl (lv_at hl 0 rfl) ?_
                  refine ix_get S hC hH (fs := mm_obj β (mm_wr F1 3 ((ix_t i - 1)) (ix_o fo)) L2) (rfl : mm_N G.2.1 β (mm_wr F1 3 ((ix_t i - 1)) (ix_o fo)) L2 0 0 = _) rfl rfl in_X11 14 (by decide) q846 (fun _ h9 => h9) rfl dX11_next_176 ?_
                  refine lv_iload hx hb dX11_next_179 (lv_at hl 4 rfl) ?_
                  refine lv_iconst (v := 2) hx hb dX11_next_181 (by decide) ?_
                  refine ix_iast (n := 100) S hC hH hS (rfl : mm_N G.2.1 β (mm_wr F1 3 ((ix_t i - 1)) (ix_o fo)) L2 14 0 = _) rfl (j := g) (by rw [hg]; rfl : ix_o fo = nI g) (by omega) (by omega) dX11_next_182 (fun H_7 locs_8 hH hS hz => ?_)
                  have hH : ix_H G.1 A β (mm_N G.2.1 β (mm_wr (mm_wr F1 3 ((ix_t i - 1)) (ix_o fo)) 14 g 2) L2) H_7 := hH.to (mm_upI 14 rfl)
                  refine lv_aload_n hx hb dX11_next_183 rfl (lv_at hl 0 rfl) ?_
                  refine ix_get S hC hH (fs := mm_obj β (mm_wr (mm_wr F1 3 ((ix_t i - 1)) (ix_o fo)) 14 g 2) L2) (rfl : mm_N G.2.1 β (mm_wr (mm_wr F1 3 ((ix_t i - 1)) (ix_o fo)) 14 g 2) L2 0 0 = _) rfl rfl in_X11 21 (by decide) q853 (fun _ h9 => h9) rfl dX11_next_184 ?_
                  refine lv_iload hx hb dX11_next_187 (lv_at hl 4 rfl) ?_
                  refine lv_aload_n hx hb dX11_next_189 rfl (lv_at hl 0 rfl) ?_
                  refine ix_get S hC hH (fs := mm_obj β (mm_wr (mm_wr F1 3 ((ix_t i - 1)) (ix_o fo)) 14 g 2) L2) (rfl : mm_N G.2.1 β (mm_wr (mm_wr F1 3 ((ix_t i - 1)) (ix_o fo)) 14 g 2) L2 0 0 = _) rfl rfl in_X11 1 (by decide) q833 (fun _ h9 => h9) rfl dX11_next_190 ?_
                  refine ix_reL (y := t) (by rw [hL2]; rfl) ?_
                  refine ix_last (n := 100) S hC hH hS (rfl : mm_N G.2.1 β (mm_wr (mm_wr F1 3 ((ix_t i - 1)) (ix_o fo)) 14 g 2) L2 21 0 = _) rfl (j := g) (by rw [hg]; rfl : ix_o fo = nI g) (by omega) (by omega) dX11_next_193 (fun H_9 locs_10 hH hS hz => ?_)
                  have hH : ix_H G.1 A β (mm_N G.2.1 β (mm_wr (mm_wr F1 3 ((ix_t i - 1)) (ix_o fo)) 14 g 2) (mm_wrL L2 21 g t)) H_9 := hH.to (mm_upL 21 rfl)
                  refine lv_iload hx hb dX11_next_194 (lv_at hl 4 rfl) ?_
                  refine lv_iconst (v := 1) hx hb dX11_next_196 (by decide) ?_
                  refine lv_iadd hx hb dX11_next_197 ?_
                  refine ix_reI (y := nI g + 1) (by rw [hg]; rfl) ?_
                  have e9 : mm_oNext F1 L n i t = (nI g + 1, mm_wr (mm_wr F1 3 ((ix_t i - 1)) (ix_o fo)) 14 g 2, mm_wrL L2 21 g t) := (by simp only [mm_oNext, c10, c22, c40, c51, ← hL2, hfin, hg]; simp [ix_o])
                  exact ix_wI S hr hlocks hS (congrArg Prod.fst e9).symm (by rw [← hAe, e9]; exact hH) (by omega) (by omega) dX11_next_198
                · have hfn : fo = none := ix_o_eq (fun j hj => by obtain ⟨p9, -, hp⟩ := ix_fst_of (hfin.trans hj); have := (ix_best_lt hp).1; omega) c161
                  refine lv_iconst (v := 0) hx hb dX11_next_164 (by decide) ?_
                  have e9 : mm_oNext F1 L n i t = (0, F1, L2) := (by simp only [mm_oNext, c10, c22, c40, c51, ← hL2, hfin, hfn]; simp)
                  exact ix_wI S hr hlocks hS (congrArg Prod.fst e9).symm (by rw [← hAe, e9]; exact hH) (by omega) (by omega) dX11_next_165
              · have c72 : ¬ (8 ≤ pp) := (not_congr (ix_nle (a := 8) (b := pp) (rfl : (8 : Int32) = nI 8) rfl (by omega) (by omega))).mp c72
                refine lv_iload hx hb dX11_next_75 (lv_at hl 4 rfl) ?_
                refine lv_iconst (v := (-1)) hx hb dX11_next_77 (by decide) ?_
                refine lv_icmp_ne (tgt := 158) hx hb dX11_next_78 (by decide) (fun c78 => ?_) (fun c78 => ?_)
                · obtain ⟨x9, hx9⟩ := ix_o_ne c78
                  have hfin : ix_fst (mm_fo F1 L2 n (ix_t i - 1)) 8 = fo := by rw [hx9]; exact ix_fst_more (by omega) (hfo ▸ hx9)
                  refine lv_iload hx hb dX11_next_158 (lv_at hl 4 rfl) ?_
                  refine lv_iconst (v := (-1)) hx hb dX11_next_160 (by decide) ?_
                  refine lv_icmp_ne (tgt := 166) hx hb dX11_next_161 (by decide) (fun c161 => ?_) (fun c161 => ?_)
                  · obtain ⟨g, hg⟩ := ix_o_ne c161
                    have hgl : g < n := by obtain ⟨p9, -, hp⟩ := ix_fst_of (hfin.trans hg); exact (ix_best_lt hp).1
                    refine lv_aload_n hx hb dX11_next_166 rfl (lv_at hl 0 rfl) ?_
                    refine ix_get S hC hH (fs := mm_obj β F1 L2) (rfl : mm_N G.2.1 β F1 L2 0 0 = _) rfl rfl in_X11 3 (by decide) q835 (fun _ h9 => h9) rfl dX11_next_167 ?_
                    refine lv_iload hx hb dX11_next_170 (lv_at hl 3 rfl) ?_
                    refine lv_iload hx hb dX11_next_172 (lv_at hl 4 rfl) ?_
                    refine ix_iast (n := 12) S hC hH hS (rfl : mm_N G.2.1 β F1 L2 3 0 = _) rfl (j := (ix_t i - 1)) rfl (by omega) (by omega) dX11_next_174 (fun H_11 locs_12 hH hS hz => ?_)
                    have hH : ix_H G.1 A β (mm_N G.2.1 β (mm_wr F1 3 ((ix_t i - 1)) (ix_o fo)) L2) H_11 := hH.to (mm_upI 3 rfl)
                    refine lv_aload_n hx hb dX11_next_175 rfl (lv_at hl 0 rfl) ?_
                    refine ix_get S hC hH (fs := mm_obj β (mm_wr F1 3 ((ix_t i - 1)) (ix_o fo)) L2) (rfl : mm_N G.2.1 β (mm_wr F1 3 ((ix_t i - 1)) (ix_o fo)) L2 0 0 = _) rfl rfl in_X11 14 (by decide) q846 (fun _ h9 => h9) rfl dX11_next_176 ?_
                    refine lv_iload hx hb dX11_next_179 (lv_at hl 4 rfl) ?_
                    refine lv_iconst (v := 2) hx hb dX11_next_181 (by decide) ?_
                    refine ix_iast (n := 100) S hC hH hS (rfl : mm_N G.2.1 β (mm_wr F1 3 ((ix_t i - 1)) (ix_o fo)) L2 14 0 = _) rfl (j := g) (by rw [hg]; rfl : ix_o fo = nI g) (by omega) (by omega) dX11_next_182 (fun H_13 locs_14 hH hS hz => ?_)
                    have hH : ix_H G.1 A β (mm_N G.2.1 β (mm_wr (mm_wr F1 3 ((ix_t i - 1)) (ix_o fo)) 14 g 2) L2) H_13 := hH.to (mm_upI 14 rfl)
                    refine lv_aload_n hx hb dX11_next_183 rfl (lv_at hl 0 rfl) ?_
                    refine ix_get S hC hH (fs := mm_obj β (mm_wr (mm_wr F1 3 ((ix_t i - 1)) (ix_o fo)) 14 g 2) L2) (rfl : mm_N G.2.1 β (mm_wr (mm_wr F1 3 ((ix_t i - 1)) (ix_o fo)) 14 g 2) L2 0 0 = _) rfl rfl in_X11 21 (by decide) q853 (fun _ h9 => h9) rfl dX11_next_184 ?_
                    refine lv_iload hx hb dX11_next_187 (lv_at hl 4 rfl) ?_
                    refine lv_aload_n hx hb dX11_next_189 rfl (lv_at hl 0 rfl) ?_
                    refine ix_get S hC hH (fs := mm_obj β (mm_wr (mm_wr F1 3 ((ix_t i - 1)) (ix_o fo)) 14 g 2) L2) (rfl : mm_N G.2.1 β (mm_wr (mm_wr F1 3 ((ix_t i - 1)) (ix_o fo)) 14 g 2) L2 0 0 = _) rfl rfl in_X11 1 (by decide) q833 (fun _ h9 => h9) rfl dX11_next_190 ?_
                    refine ix_reL (y := t) (by rw [hL2]; rfl) ?_
                    refine ix_last (n := 100) S hC hH hS (rfl : mm_N G.2.1 β (mm_wr (mm_wr F1 3 ((ix_t i - 1)) (ix_o fo)) 14 g 2) L2 21 0 = _) rfl (j := g) (by rw [hg]; rfl : ix_o fo = nI g) (by omega) (by omega) dX11_next_193 (fun H_15 locs_16 hH hS hz => ?_)
                    have hH : ix_H G.1 A β (mm_N G.2.1 β (mm_wr (mm_wr F1 3 ((ix_t i - 1)) (ix_o fo)) 14 g 2) (mm_wrL L2 21 g t)) H_15 := hH.to (mm_upL 21 rfl)
                    refine lv_iload hx hb dX11_next_194 (lv_at hl 4 rfl) ?_
                    refine lv_iconst (v := 1) hx hb dX11_next_196 (by decide) ?_
                    refine lv_iadd hx hb dX11_next_197 ?_
                    refine ix_reI (y := nI g + 1) (by rw [hg]; rfl) ?_
                    have e9 : mm_oNext F1 L n i t = (nI g + 1, mm_wr (mm_wr F1 3 ((ix_t i - 1)) (ix_o fo)) 14 g 2, mm_wrL L2 21 g t) := (by simp only [mm_oNext, c10, c22, c40, c51, ← hL2, hfin, hg]; simp [ix_o])
                    exact ix_wI S hr hlocks hS (congrArg Prod.fst e9).symm (by rw [← hAe, e9]; exact hH) (by omega) (by omega) dX11_next_198
                  · have hfn : fo = none := ix_o_eq (fun j hj => by obtain ⟨p9, -, hp⟩ := ix_fst_of (hfin.trans hj); have := (ix_best_lt hp).1; omega) c161
                    refine lv_iconst (v := 0) hx hb dX11_next_164 (by decide) ?_
                    have e9 : mm_oNext F1 L n i t = (0, F1, L2) := (by simp only [mm_oNext, c10, c22, c40, c51, ← hL2, hfin, hfn]; simp)
                    exact ix_wI S hr hlocks hS (congrArg Prod.fst e9).symm (by rw [← hAe, e9]; exact hH) (by omega) (by omega) dX11_next_165
                · have hfn : fo = none := ix_o_eq (fun j hj => by obtain ⟨p9, -, hp⟩ := ix_fst_of (hfo ▸ hj); have := (ix_best_lt hp).1; omega) c78
                  refine lv_iconst (v := 0) hx hb dX11_next_81 (by decide) ?_
                  refine lv_istore (lv' := [(7, .int 0), (0, .ref (β 0 0)), (1, .int i), (2, .long t), (4, .int (nI ((ix_t i - 1)))), (5, .int (ix_o fo)), (6, .int (nI pp))]) hx hb dX11_next_82 hl (by decide) rfl (fun ls hl => ?_)
                  have lp84 : ∀ (fu84 : Nat) (jj : Nat) (fi : Option Nat), n + 1 ≤ jj + fu84 → (jj ≤ n) → (fi = ix_best (fun j => decide (F1 11 j = F1 2 (8 * (ix_t i - 1) + pp)) && mm_may F1 L2 n j) (mm_ah F1 L2) jj) → ∀ ls, lv_has ls 8 [(0, .ref (β 0 0)), (1, .int i), (2, .long t), (4, .int (nI ((ix_t i - 1)))), (5, .int (ix_o fi)), (6, .int (nI pp)), (7, .int (nI jj))] → W p l e ({ frames := 3, cells := 0, slots := 0, locals := 120 } : Room) s m ([.ref (β 0 0), .int i, .long t] : List Value).toArray below meth c H_3 locs_4 0 0 (MQ below (ix_Q (some (.int (mm_oNext F1 L n i t).1)) (fun (H9 : Heap) => ix_H G.1 (ix_A β (mm_N G.2.1 β F L) sz) β (mm_N G.2.1 β (mm_oNext F1 L n i t).2.1 (mm_oNext F1 L n i t).2.2) H9) A) ([.ref (β 0 0), .int i, .long t] : List Value).toArray s 0 0 A) (F0 m 84 ls []) := by
                    intro fu84
                    induction fu84 with
                    | zero =>
                      intro jj fi hfu hjj hfi ls hl
                      exact absurd hfu (by omega)
                    | succ fu84 ih84 =>
                      intro jj fi hfu hjj hfi ls hl
                      refine lv_iload hx hb dX11_next_84 (lv_at hl 6 rfl) ?_
                      refine lv_aload_n hx hb dX11_next_86 rfl (lv_at hl 0 rfl) ?_
                      refine ix_get S hC hH (fs := mm_obj β F1 L2) (rfl : mm_N G.2.1 β F1 L2 0 0 = _) rfl rfl in_X11 22 (by decide) q854 (fun _ h9 => h9) rfl dX11_next_87 ?_
                      refine lv_icmp_ge (tgt := 152) hx hb dX11_next_90 (by decide) (fun c90 => ?_) (fun c90 => ?_)
                      · have c90 : n ≤ jj := (ix_nle (a := n) (b := jj) hn0 rfl (by omega) (by omega)).mp c90
                        have hjn : jj = n := by omega
                        have hfi8 : fi = mm_fo F1 L2 n (ix_t i - 1) pp := by rw [hfi, hjn]; rfl
                        refine lv_iinc (v := nI (pp + 1)) (lv' := [(6, .int (nI (pp + 1))), (0, .ref (β 0 0)), (1, .int i), (2, .long t), (4, .int (nI ((ix_t i - 1)))), (5, .int (ix_o fi)), (7, .int (nI jj))]) hx hb dX11_next_152 hl (k := 5) rfl ((ix_nadd rfl (rfl : (1 : Int32) = nI 1))) (by decide) rfl (fun ls hl => ?_)
                        refine lv_goto (tgt := 68) hx hb dX11_next_155 (by decide) ?_
                        exact ih68 (pp + 1) fi (by omega) (by omega) (by rw [ix_fst, ← hfo, hfn]; exact hfi8) _ (lv_sub hl [1, 2, 3, 4, 5, 0] rfl)
                      · have c90 : ¬ (n ≤ jj) := (not_congr (ix_nle (a := n) (b := jj) hn0 rfl (by omega) (by omega))).mp c90
                        have jn93 : ∀ (fi2 : Option Nat), (fi2 = ix_best (fun j => decide (F1 11 j = F1 2 (8 * (ix_t i - 1) + pp)) && mm_may F1 L2 n j) (mm_ah F1 L2) (jj + 1)) → ∀ ls, lv_has ls 8 [(0, .ref (β 0 0)), (1, .int i), (2, .long t), (4, .int (nI ((ix_t i - 1)))), (5, .int (ix_o fi2)), (6, .int (nI pp)), (7, .int (nI jj))] → W p l e ({ frames := 3, cells := 0, slots := 0, locals := 120 } : Room) s m ([.ref (β 0 0), .int i, .long t] : List Value).toArray below meth c H_3 locs_4 0 0 (MQ below (ix_Q (some (.int (mm_oNext F1 L n i t).1)) (fun (H9 : Heap) => ix_H G.1 (ix_A β (mm_N G.2.1 β F L) sz) β (mm_N G.2.1 β (mm_oNext F1 L n i t).2.1 (mm_oNext F1 L n i t).2.2) H9) A) ([.ref (β 0 0), .int i, .long t] : List Value).toArray s 0 0 A) (F0 m 146 ls []) := by
                          intro fi2 hfi2 ls hl
                          refine lv_iinc (v := nI (jj + 1)) (lv' := [(7, .int (nI (jj + 1))), (0, .ref (β 0 0)), (1, .int i), (2, .long t), (4, .int (nI ((ix_t i - 1)))), (5, .int (ix_o fi2)), (6, .int (nI pp))]) hx hb dX11_next_146 hl (k := 6) rfl ((ix_nadd rfl (rfl : (1 : Int32) = nI 1))) (by decide) rfl (fun ls hl => ?_)
                          refine lv_goto (tgt := 84) hx hb dX11_next_149 (by decide) ?_
                          exact ih84 (jj + 1) fi2 (by omega) (by omega) hfi2 _ (lv_sub hl [1, 2, 3, 4, 5, 6, 0] rfl)
                        refine lv_aload_n hx hb dX11_next_93 rfl (lv_at hl 0 rfl) ?_
                        refine ix_get S hC hH (fs := mm_obj β F1 L2) (rfl : mm_N G.2.1 β F1 L2 0 0 = _) rfl rfl in_X11 11 (by decide) q843 (fun _ h9 => h9) rfl dX11_next_94 ?_
                        refine lv_iload hx hb dX11_next_97 (lv_at hl 6 rfl) ?_
                        refine ix_iald (n := 100) S hC hH (rfl : mm_N G.2.1 β F1 L2 11 0 = _) rfl (j := jj) rfl (by omega) (by omega) dX11_next_99 ?_
                        refine lv_aload_n hx hb dX11_next_100 rfl (lv_at hl 0 rfl) ?_
                        refine ix_get S hC hH (fs := mm_obj β F1 L2) (rfl : mm_N G.2.1 β F1 L2 0 0 = _) rfl rfl in_X11 2 (by decide) q834 (fun _ h9 => h9) rfl dX11_next_101 ?_
                        refine lv_bipush (v := 8) hx hb dX11_next_104 (by decide) ?_
                        refine lv_iload hx hb dX11_next_106 (lv_at hl 3 rfl) ?_
                        refine lv_imul hx hb dX11_next_108 ?_
                        refine lv_iload hx hb dX11_next_109 (lv_at hl 5 rfl) ?_
                        refine lv_iadd hx hb dX11_next_111 ?_
                        refine ix_iald (n := 96) S hC hH (rfl : mm_N G.2.1 β F1 L2 2 0 = _) rfl (j := (8 * ((ix_t i - 1))) + pp) (ix_nadd (ix_nmul (rfl : (8 : Int32) = nI 8) rfl) rfl) (by omega) (by omega) dX11_next_112 ?_
                        refine lv_icmp_ne (tgt := 146) hx hb dX11_next_113 (by decide) (fun c113 => ?_) (fun c113 => ?_)
                        · exact jn93 fi (by rw [ix_best_no (by simp [c113])]; exact hfi) _ (lv_sub hl [0, 1, 2, 3, 4, 5, 6] rfl)
                        · refine lv_aload_n hx hb dX11_next_116 rfl (lv_at hl 0 rfl) ?_
                          refine lv_iload hx hb dX11_next_117 (lv_at hl 6 rfl) ?_
                          refine ix_rd (W.runV (As := [.int (nI jj)]) (rest := []) S (mm_may_ l G β F1 L2 H_3.size n jj hn0 h100 (by omega) hcl0) (cwV 1 hts (lw_V q975 q977 qs14 q34 q978) rfl rfl rfl (by decide +kernel) ⟨Nat.le_of_ble_eq_true rfl, Nat.le_of_ble_eq_true rfl⟩) (ix_preV hC hS hAz hH (ix_recv hC hH (rfl : mm_N G.2.1 β F1 L2 0 0 = _) rfl) rfl) rfl rfl hl.1 rfl (lv_room (Nat.le_of_ble_eq_true rfl)) dX11_next_119 ⟨by omega, by omega⟩) ?_
                          refine W.eq (g2 := F0 m 122 ls [.int (ix_b (mm_may F1 L2 n jj))]) rfl ?_
                          refine lv_if_eq (tgt := 146) hx hb dX11_next_122 (by decide) (fun c122 => ?_) (fun c122 => ?_)
                          · have c122 : (mm_may F1 L2 n jj) = false := ix_b_eq.mp c122
                            exact jn93 fi (by rw [ix_best_no (by simp [c113, c122])]; exact hfi) _ (lv_sub hl [0, 1, 2, 3, 4, 5, 6] rfl)
                          · have c122 : (mm_may F1 L2 n jj) = true := ix_b_ne.mp c122
                            refine lv_iload hx hb dX11_next_125 (lv_at hl 4 rfl) ?_
                            refine lv_iconst (v := (-1)) hx hb dX11_next_127 (by decide) ?_
                            refine lv_icmp_eq (tgt := 142) hx hb dX11_next_128 (by decide) (fun c128 => ?_) (fun c128 => ?_)
                            · have hnone : fi = none := ix_o_eq (fun j hj => by have := (ix_best_lt (hfi ▸ hj)).1; omega) c128
                              refine lv_iload hx hb dX11_next_142 (lv_at hl 6 rfl) ?_
                              refine lv_istore (lv' := [(5, .int (nI jj)), (0, .ref (β 0 0)), (1, .int i), (2, .long t), (4, .int (nI ((ix_t i - 1)))), (6, .int (nI pp)), (7, .int (nI jj))]) hx hb dX11_next_144 hl (by decide) rfl (fun ls hl => ?_)
                              exact jn93 (some jj) (ix_best_1 (hfi ▸ hnone) (by simp [c113, c122])).symm _ (lv_sub hl [1, 2, 3, 4, 0, 5, 6] rfl)
                            · obtain ⟨g, hg⟩ := ix_o_ne c128
                              have hgl := (ix_best_lt (hfi ▸ hg)).1
                              refine lv_aload_n hx hb dX11_next_131 rfl (lv_at hl 0 rfl) ?_
                              refine lv_iload hx hb dX11_next_132 (lv_at hl 6 rfl) ?_
                              refine lv_iload hx hb dX11_next_134 (lv_at hl 4 rfl) ?_
                              refine ix_rd (W.runV (As := [.int (nI jj), .int (ix_o fi)]) (rest := []) S (mm_ah_ l G β F1 L2 H_3.size jj g (by omega) (by omega)) (cwV 2 hts (lw_V q988 q990 qs17 q34 q991) rfl rfl rfl (by decide +kernel) ⟨Nat.le_of_ble_eq_true rfl, Nat.le_of_ble_eq_true rfl⟩) (ix_preV hC hS hAz hH (ix_recv hC hH (rfl : mm_N G.2.1 β F1 L2 0 0 = _) rfl) (by rw [(by rw [hg]; rfl : ix_o fi = nI g)])) rfl rfl hl.1 rfl (lv_room (Nat.le_of_ble_eq_true rfl)) dX11_next_136 ⟨by omega, by omega⟩) ?_
                              refine W.eq (g2 := F0 m 139 ls [.int (ix_b (mm_ah F1 L2 jj g))]) rfl ?_
                              refine lv_if_eq (tgt := 146) hx hb dX11_next_139 (by decide) (fun c139 => ?_) (fun c139 => ?_)
                              · have c139 : (mm_ah F1 L2 jj g) = false := ix_b_eq.mp c139
                                exact jn93 fi (by rw [ix_best_3 (hfi ▸ hg) c139]; exact hg) _ (lv_sub hl [0, 1, 2, 3, 4, 5, 6] rfl)
                              · have c139 : (mm_ah F1 L2 jj g) = true := ix_b_ne.mp c139
                                refine lv_iload hx hb dX11_next_142 (lv_at hl 6 rfl) ?_
                                refine lv_istore (lv' := [(5, .int (nI jj)), (0, .ref (β 0 0)), (1, .int i), (2, .long t), (4, .int (nI ((ix_t i - 1)))), (6, .int (nI pp)), (7, .int (nI jj))]) hx hb dX11_next_144 hl (by decide) rfl (fun ls hl => ?_)
                                exact jn93 (some jj) (ix_best_2 (hfi ▸ hg) (by simp [c113, c122]) c139).symm _ (lv_sub hl [1, 2, 3, 4, 0, 5, 6] rfl)
                  exact lp84 (n + 1) 0 fo (by omega) (by omega) hfn _ (lv_sub hl [1, 2, 3, 4, 5, 6, 0] rfl)
          exact lp68 (8 + 1) 0 none (by omega) (by omega) rfl _ (lv_sub hl [3, 4, 5, 2, 1, 0] rfl)
        · refine lv_bipush (v := (-5)) hx hb dX11_next_54 (by decide) ?_
          have e9 : mm_oNext F1 L n i t = ((-5), F1, L) := by simp [mm_oNext, c10, c22, c40, c51]
          exact ix_wI S hr hlocks hS (congrArg Prod.fst e9).symm (by rw [← hAe, e9]; exact hH) (by omega) (by omega) dX11_next_56
    · have c22 : t < L 1 0 := Int64.not_le.mp ((not_congr (lg_cmp_ge _ _)).mp c22)
      refine lv_bipush (v := (-4)) hx hb dX11_next_25 (by decide) ?_
      have e9 : mm_oNext F1 L n i t = ((-4), F1, L) := by simp [mm_oNext, c10, c22]
      exact ix_wI S hr hlocks hS (congrArg Prod.fst e9).symm (by rw [← hAe, e9]; exact hH) (by omega) (by omega) dX11_next_27
  · have c10 : (mm_isI F1 i) = false := ix_b_eq.mp c10
    refine lv_bipush (v := (-2)) hx hb dX11_next_13 (by decide) ?_
    have e9 : mm_oNext F1 L n i t = ((-2), F1, L) := by simp [mm_oNext, c10]
    exact ix_wI S hr hlocks hS (congrArg Prod.fst e9).symm (by rw [← hAe, e9]; exact hH) (by omega) (by omega) dX11_next_15
