/-! THE REFERENCE: its methods that only read -/
set_option maxHeartbeats 4000000 in
set_option maxRecDepth 100000 in
theorem mm_isI_ (l : Launch) (G : ix_G) (β : ix_B) (F : mm_F) (L : mm_L) (sz : Nat) (x : Int32) : Met l yX11_isInitiator (ws_ yX11_isInitiator cX11_isInitiator 2 (some .boolean)) ({ frames := 0, cells := 0, slots := 0, locals := 0 } : Room) (ix_P G β (mm_N G.2.1 β F L) sz [.ref (β 0 0), .int x]) (ix_R (some (.int (ix_b (mm_isI F x))))) 0 0 (fun _ => False) := by
  refine ix_reader (by decide +kernel) (Nat.le_of_ble_eq_true rfl) ?_
  intro p e s m below meth c S hr hlocks hC hH hS ls hl
  have hAz : ∀ q, ix_z G q → ix_z G q := fun _ h => h
  have hx := S.1
  have hb := S.2.1
  have hts := S.2.2.2.2
  have S : CallFix p m c cX11_isInitiator 2 s ([.ref (β 0 0), .int x] : List Value).toArray lw_all "InitiatorRowsModel" := S
  have hl : lv_has ls 2 [(0, .ref (β 0 0)), (1, .int x)] := hl
  refine lv_iload_n hx hb dX11_isInitiator_0 rfl (lv_at hl 1 rfl) ?_
  refine lv_iconst (v := 1) hx hb dX11_isInitiator_1 (by decide) ?_
  refine lv_icmp_lt (tgt := 17) hx hb dX11_isInitiator_2 (by decide) (fun c2 => ?_) (fun c2 => ?_)
  · refine lv_iconst (v := 0) hx hb dX11_isInitiator_17 (by decide) ?_
    exact ix_rZ S hr hlocks (by simp [ix_b, mm_isI, c2]) dX11_isInitiator_18
  · refine lv_iload_n hx hb dX11_isInitiator_5 rfl (lv_at hl 1 rfl) ?_
    refine lv_aload_n hx hb dX11_isInitiator_6 rfl (lv_at hl 0 rfl) ?_
    refine ix_get S hC hH (fs := mm_obj β F L) (rfl : mm_N G.2.1 β F L 0 0 = _) rfl rfl in_X11 5 (by decide) q837 (fun _ h9 => h9) rfl dX11_isInitiator_7 ?_
    refine lv_icmp_gt (tgt := 17) hx hb dX11_isInitiator_10 (by decide) (fun c10 => ?_) (fun c10 => ?_)
    · refine lv_iconst (v := 0) hx hb dX11_isInitiator_17 (by decide) ?_
      exact ix_rZ S hr hlocks (by simp [ix_b, mm_isI, c2, c10]) dX11_isInitiator_18
    · refine lv_iconst (v := 1) hx hb dX11_isInitiator_13 (by decide) ?_
      refine lv_goto (tgt := 18) hx hb dX11_isInitiator_14 (by decide) ?_
      exact ix_rZ S hr hlocks (by simp [ix_b, mm_isI, c2, c10]) dX11_isInitiator_18
set_option maxHeartbeats 4000000 in
set_option maxRecDepth 100000 in
theorem mm_isJ_ (l : Launch) (G : ix_G) (β : ix_B) (F : mm_F) (L : mm_L) (sz : Nat) (x : Int32) : Met l yX11_isJob (ws_ yX11_isJob cX11_isJob 2 (some .boolean)) ({ frames := 0, cells := 0, slots := 0, locals := 0 } : Room) (ix_P G β (mm_N G.2.1 β F L) sz [.ref (β 0 0), .int x]) (ix_R (some (.int (ix_b (mm_isJ F x))))) 0 0 (fun _ => False) := by
  refine ix_reader (by decide +kernel) (Nat.le_of_ble_eq_true rfl) ?_
  intro p e s m below meth c S hr hlocks hC hH hS ls hl
  have hAz : ∀ q, ix_z G q → ix_z G q := fun _ h => h
  have hx := S.1
  have hb := S.2.1
  have hts := S.2.2.2.2
  have S : CallFix p m c cX11_isJob 2 s ([.ref (β 0 0), .int x] : List Value).toArray lw_all "InitiatorRowsModel" := S
  have hl : lv_has ls 2 [(0, .ref (β 0 0)), (1, .int x)] := hl
  refine lv_iload_n hx hb dX11_isJob_0 rfl (lv_at hl 1 rfl) ?_
  refine lv_iconst (v := 1) hx hb dX11_isJob_1 (by decide) ?_
  refine lv_icmp_lt (tgt := 17) hx hb dX11_isJob_2 (by decide) (fun c2 => ?_) (fun c2 => ?_)
  · refine lv_iconst (v := 0) hx hb dX11_isJob_17 (by decide) ?_
    exact ix_rZ S hr hlocks (by simp [ix_b, mm_isJ, c2]) dX11_isJob_18
  · refine lv_iload_n hx hb dX11_isJob_5 rfl (lv_at hl 1 rfl) ?_
    refine lv_aload_n hx hb dX11_isJob_6 rfl (lv_at hl 0 rfl) ?_
    refine ix_get S hC hH (fs := mm_obj β F L) (rfl : mm_N G.2.1 β F L 0 0 = _) rfl rfl in_X11 22 (by decide) q854 (fun _ h9 => h9) rfl dX11_isJob_7 ?_
    refine lv_icmp_gt (tgt := 17) hx hb dX11_isJob_10 (by decide) (fun c10 => ?_) (fun c10 => ?_)
    · refine lv_iconst (v := 0) hx hb dX11_isJob_17 (by decide) ?_
      exact ix_rZ S hr hlocks (by simp [ix_b, mm_isJ, c2, c10]) dX11_isJob_18
    · refine lv_iconst (v := 1) hx hb dX11_isJob_13 (by decide) ?_
      refine lv_goto (tgt := 18) hx hb dX11_isJob_14 (by decide) ?_
      exact ix_rZ S hr hlocks (by simp [ix_b, mm_isJ, c2, c10]) dX11_isJob_18
set_option maxHeartbeats 4000000 in
set_option maxRecDepth 100000 in
theorem mm_isC_ (l : Launch) (G : ix_G) (β : ix_B) (F : mm_F) (L : mm_L) (sz : Nat) (x : Int32) : Met l yX11_isClass (ws_ yX11_isClass cX11_isClass 1 (some .boolean)) ({ frames := 0, cells := 0, slots := 0, locals := 0 } : Room) (ix_P G β (mm_N G.2.1 β F L) sz [.int x]) (ix_R (some (.int (ix_b (mm_isC x))))) 0 0 (fun _ => False) := by
  refine ix_reader (by decide +kernel) (Nat.le_of_ble_eq_true rfl) ?_
  intro p e s m below meth c S hr hlocks hC hH hS ls hl
  have hAz : ∀ q, ix_z G q → ix_z G q := fun _ h => h
  have hx := S.1
  have hb := S.2.1
  have hts := S.2.2.2.2
  have S : CallFix p m c cX11_isClass 1 s ([.int x] : List Value).toArray lw_all "InitiatorRowsModel" := S
  have hl : lv_has ls 1 [(0, .int x)] := hl
  refine lv_iload_n hx hb dX11_isClass_0 rfl (lv_at hl 0 rfl) ?_
  refine lv_if_lt (tgt := 14) hx hb dX11_isClass_1 (by decide) (fun c1 => ?_) (fun c1 => ?_)
  · refine lv_iconst (v := 0) hx hb dX11_isClass_14 (by decide) ?_
    exact ix_rZ S hr hlocks (by simp [ix_b, mm_isC, c1]) dX11_isClass_15
  · refine lv_iload_n hx hb dX11_isClass_4 rfl (lv_at hl 0 rfl) ?_
    refine lv_bipush (v := 36) hx hb dX11_isClass_5 (by decide) ?_
    refine lv_icmp_ge (tgt := 14) hx hb dX11_isClass_7 (by decide) (fun c7 => ?_) (fun c7 => ?_)
    · have c7 : ¬ (x < 36) := Int32.not_lt.mpr c7
      refine lv_iconst (v := 0) hx hb dX11_isClass_14 (by decide) ?_
      exact ix_rZ S hr hlocks (by simp [ix_b, mm_isC, c1, c7]) dX11_isClass_15
    · have c7 : x < 36 := Int32.not_le.mp c7
      refine lv_iconst (v := 1) hx hb dX11_isClass_10 (by decide) ?_
      refine lv_goto (tgt := 15) hx hb dX11_isClass_11 (by decide) ?_
      exact ix_rZ S hr hlocks (by simp [ix_b, mm_isC, c1, c7]) dX11_isClass_15
set_option maxHeartbeats 4000000 in
set_option maxRecDepth 100000 in
theorem mm_isM_ (l : Launch) (G : ix_G) (β : ix_B) (F : mm_F) (L : mm_L) (sz : Nat) (x : Int32) : Met l yX11_isMinute (ws_ yX11_isMinute cX11_isMinute 1 (some .boolean)) ({ frames := 0, cells := 0, slots := 0, locals := 0 } : Room) (ix_P G β (mm_N G.2.1 β F L) sz [.int x]) (ix_R (some (.int (ix_b (mm_isM x))))) 0 0 (fun _ => False) := by
  refine ix_reader (by decide +kernel) (Nat.le_of_ble_eq_true rfl) ?_
  intro p e s m below meth c S hr hlocks hC hH hS ls hl
  have hAz : ∀ q, ix_z G q → ix_z G q := fun _ h => h
  have hx := S.1
  have hb := S.2.1
  have hts := S.2.2.2.2
  have S : CallFix p m c cX11_isMinute 1 s ([.int x] : List Value).toArray lw_all "InitiatorRowsModel" := S
  have hl : lv_has ls 1 [(0, .int x)] := hl
  refine lv_iload_n hx hb dX11_isMinute_0 rfl (lv_at hl 0 rfl) ?_
  refine lv_if_lt (tgt := 15) hx hb dX11_isMinute_1 (by decide) (fun c1 => ?_) (fun c1 => ?_)
  · refine lv_iconst (v := 0) hx hb dX11_isMinute_15 (by decide) ?_
    exact ix_rZ S hr hlocks (by simp [ix_b, mm_isM, c1]) dX11_isMinute_16
  · refine lv_iload_n hx hb dX11_isMinute_4 rfl (lv_at hl 0 rfl) ?_
    refine lv_sipush (v := 1440) hx hb dX11_isMinute_5 (by decide) ?_
    refine lv_icmp_ge (tgt := 15) hx hb dX11_isMinute_8 (by decide) (fun c8 => ?_) (fun c8 => ?_)
    · have c8 : ¬ (x < 1440) := Int32.not_lt.mpr c8
      refine lv_iconst (v := 0) hx hb dX11_isMinute_15 (by decide) ?_
      exact ix_rZ S hr hlocks (by simp [ix_b, mm_isM, c1, c8]) dX11_isMinute_16
    · have c8 : x < 1440 := Int32.not_le.mp c8
      refine lv_iconst (v := 1) hx hb dX11_isMinute_11 (by decide) ?_
      refine lv_goto (tgt := 16) hx hb dX11_isMinute_12 (by decide) ?_
      exact ix_rZ S hr hlocks (by simp [ix_b, mm_isM, c1, c8]) dX11_isMinute_16
set_option maxHeartbeats 4000000 in
set_option maxRecDepth 100000 in
theorem mm_used_ (l : Launch) (G : ix_G) (β : ix_B) (F : mm_F) (L : mm_L) (sz : Nat) (n kd : Nat) (hn : F 22 0 = nI n) (h100 : n ≤ 100) (hkd : kd < 4) : Met l yX11_used (ws_ yX11_used cX11_used 4 (some .int)) ({ frames := 0, cells := 0, slots := 0, locals := 0 } : Room) (ix_P G β (mm_N G.2.1 β F L) sz [.ref (β 0 0), .int (nI kd)]) (ix_R (some (.int (mm_used F n kd)))) 0 0 (fun _ => False) := by
  refine ix_reader (by decide +kernel) (Nat.le_of_ble_eq_true rfl) ?_
  intro p e s m below meth c S hr hlocks hC hH hS ls hl
  have hAz : ∀ q, ix_z G q → ix_z G q := fun _ h => h
  have hx := S.1
  have hb := S.2.1
  have hts := S.2.2.2.2
  have S : CallFix p m c cX11_used 4 s ([.ref (β 0 0), .int (nI kd)] : List Value).toArray lw_all "InitiatorRowsModel" := S
  have hl : lv_has ls 4 [(0, .ref (β 0 0)), (1, .int (nI kd))] := hl
  refine lv_iconst (v := 0) hx hb dX11_used_0 (by decide) ?_
  refine lv_istore_n (lv' := [(2, .int 0), (0, .ref (β 0 0)), (1, .int (nI kd))]) hx hb dX11_used_1 rfl hl (by decide) rfl (fun ls hl => ?_)
  refine lv_iconst (v := 0) hx hb dX11_used_2 (by decide) ?_
  refine lv_istore_n (lv' := [(3, .int 0), (2, .int 0), (0, .ref (β 0 0)), (1, .int (nI kd))]) hx hb dX11_used_3 rfl hl (by decide) rfl (fun ls hl => ?_)
  have lp4 : ∀ (fu4 : Nat) (k : Nat) (acc : Int32), n + 1 ≤ k + fu4 → (k ≤ n) → (acc = ix_sum (fun k => if F 14 k = 2 then F 15 (4 * k + kd) else 0) k) → ∀ ls, lv_has ls 4 [(0, .ref (β 0 0)), (1, .int (nI kd)), (2, .int acc), (3, .int (nI k))] → W p l e ({ frames := 0, cells := 0, slots := 0, locals := 0 } : Room) s m ([.ref (β 0 0), .int (nI kd)] : List Value).toArray below meth c s.heap ([]) 0 0 (MQ below (ix_R (some (.int (mm_used F n kd)))) ([.ref (β 0 0), .int (nI kd)] : List Value).toArray s 0 0 (fun _ => False)) (F0 m 4 ls []) := by
    intro fu4
    induction fu4 with
    | zero =>
      intro k acc hfu hk ha ls hl
      exact absurd hfu (by omega)
    | succ fu4 ih4 =>
      intro k acc hfu hk ha ls hl
      refine lv_iload_n hx hb dX11_used_4 rfl (lv_at hl 3 rfl) ?_
      refine lv_aload_n hx hb dX11_used_5 rfl (lv_at hl 0 rfl) ?_
      refine ix_get S hC hH (fs := mm_obj β F L) (rfl : mm_N G.2.1 β F L 0 0 = _) rfl rfl in_X11 22 (by decide) q854 (fun _ h9 => h9) rfl dX11_used_6 ?_
      refine lv_icmp_ge (tgt := 45) hx hb dX11_used_9 (by decide) (fun c9 => ?_) (fun c9 => ?_)
      · have c9 : n ≤ k := (ix_nle (a := n) (b := k) hn rfl (by omega) (by omega)).mp c9
        refine lv_iload_n hx hb dX11_used_45 rfl (lv_at hl 2 rfl) ?_
        exact ix_rI S hr hlocks (by rw [ha, show k = n by omega]; rfl) dX11_used_46
      · have c9 : ¬ (n ≤ k) := (not_congr (ix_nle (a := n) (b := k) hn rfl (by omega) (by omega))).mp c9
        have jn12 : ∀ (v : Int32), (v = if F 14 k = 2 then F 15 (4 * k + kd) else 0) → ∀ ls, lv_has ls 4 [(0, .ref (β 0 0)), (1, .int (nI kd)), (2, .int acc), (3, .int (nI k))] → W p l e ({ frames := 0, cells := 0, slots := 0, locals := 0 } : Room) s m ([.ref (β 0 0), .int (nI kd)] : List Value).toArray below meth c s.heap ([]) 0 0 (MQ below (ix_R (some (.int (mm_used F n kd)))) ([.ref (β 0 0), .int (nI kd)] : List Value).toArray s 0 0 (fun _ => False)) (F0 m 37 ls [.int v, .int acc]) := by
          intro v hv ls hl
          refine lv_iadd hx hb dX11_used_37 ?_
          refine lv_istore_n (lv' := [(2, .int (acc + v)), (0, .ref (β 0 0)), (1, .int (nI kd)), (3, .int (nI k))]) hx hb dX11_used_38 rfl hl (by decide) rfl (fun ls hl => ?_)
          have hstep : acc + v = ix_sum (fun k => if F 14 k = 2 then F 15 (4 * k + kd) else 0) (k + 1) := by rw [ha, hv]; rfl
          refine lv_iinc (v := nI (k + 1)) (lv' := [(3, .int (nI (k + 1))), (2, .int (acc + v)), (0, .ref (β 0 0)), (1, .int (nI kd))]) hx hb dX11_used_39 hl (k := 3) rfl ((ix_nadd rfl (rfl : (1 : Int32) = nI 1))) (by decide) rfl (fun ls hl => ?_)
          refine lv_goto (tgt := 4) hx hb dX11_used_42 (by decide) ?_
          exact ih4 (k + 1) (acc + v) (by omega) (by omega) hstep _ (lv_sub hl [2, 3, 1, 0] rfl)
        refine lv_iload_n hx hb dX11_used_12 rfl (lv_at hl 2 rfl) ?_
        refine lv_aload_n hx hb dX11_used_13 rfl (lv_at hl 0 rfl) ?_
        refine ix_get S hC hH (fs := mm_obj β F L) (rfl : mm_N G.2.1 β F L 0 0 = _) rfl rfl in_X11 14 (by decide) q846 (fun _ h9 => h9) rfl dX11_used_14 ?_
        refine lv_iload_n hx hb dX11_used_17 rfl (lv_at hl 3 rfl) ?_
        refine ix_iald (n := 100) S hC hH (rfl : mm_N G.2.1 β F L 14 0 = _) rfl (j := k) rfl (by omega) (by omega) dX11_used_18 ?_
        refine lv_iconst (v := 2) hx hb dX11_used_19 (by decide) ?_
        refine lv_icmp_ne (tgt := 36) hx hb dX11_used_20 (by decide) (fun c20 => ?_) (fun c20 => ?_)
        · refine lv_iconst (v := 0) hx hb dX11_used_36 (by decide) ?_
          exact jn12 0 (by simp [c20]) _ (lv_sub hl [0, 1, 2, 3] rfl)
        · refine lv_aload_n hx hb dX11_used_23 rfl (lv_at hl 0 rfl) ?_
          refine ix_get S hC hH (fs := mm_obj β F L) (rfl : mm_N G.2.1 β F L 0 0 = _) rfl rfl in_X11 15 (by decide) q847 (fun _ h9 => h9) rfl dX11_used_24 ?_
          refine lv_iconst (v := 4) hx hb dX11_used_27 (by decide) ?_
          refine lv_iload_n hx hb dX11_used_28 rfl (lv_at hl 3 rfl) ?_
          refine lv_imul hx hb dX11_used_29 ?_
          refine lv_iload_n hx hb dX11_used_30 rfl (lv_at hl 1 rfl) ?_
          refine lv_iadd hx hb dX11_used_31 ?_
          refine ix_iald (n := 400) S hC hH (rfl : mm_N G.2.1 β F L 15 0 = _) rfl (j := (4 * k) + kd) (ix_nadd (ix_nmul (rfl : (4 : Int32) = nI 4) rfl) rfl) (by omega) (by omega) dX11_used_32 ?_
          refine lv_goto (tgt := 37) hx hb dX11_used_33 (by decide) ?_
          exact jn12 (F 15 ((4 * k) + kd)) (by simp [c20]) _ (lv_sub hl [0, 1, 2, 3] rfl)
  exact lp4 (n + 1) 0 0 (by omega) (by omega) rfl _ (lv_sub hl [2, 3, 1, 0] rfl)
set_option maxHeartbeats 4000000 in
set_option maxRecDepth 100000 in
theorem mm_open_ (l : Launch) (G : ix_G) (β : ix_B) (F : mm_F) (L : mm_L) (sz : Nat) (cl : Nat) (hcl : cl < 36) : Met l yX11_isOpen (ws_ yX11_isOpen cX11_isOpen 3 (some .boolean)) ({ frames := 0, cells := 0, slots := 0, locals := 0 } : Room) (ix_P G β (mm_N G.2.1 β F L) sz [.ref (β 0 0), .int (nI cl)]) (ix_R (some (.int (ix_b (mm_open F L cl))))) 0 0 (fun _ => False) := by
  refine ix_reader (by decide +kernel) (Nat.le_of_ble_eq_true rfl) ?_
  intro p e s m below meth c S hr hlocks hC hH hS ls hl
  have hAz : ∀ q, ix_z G q → ix_z G q := fun _ h => h
  have hx := S.1
  have hb := S.2.1
  have hts := S.2.2.2.2
  have S : CallFix p m c cX11_isOpen 3 s ([.ref (β 0 0), .int (nI cl)] : List Value).toArray lw_all "InitiatorRowsModel" := S
  have hl : lv_has ls 3 [(0, .ref (β 0 0)), (1, .int (nI cl))] := hl
  refine lv_aload_n hx hb dX11_isOpen_0 rfl (lv_at hl 0 rfl) ?_
  refine ix_get S hC hH (fs := mm_obj β F L) (rfl : mm_N G.2.1 β F L 0 0 = _) rfl rfl in_X11 1 (by decide) q833 (fun _ h9 => h9) rfl dX11_isOpen_1 ?_
  refine lv_ldc2 hx hb S.2.2.2.1 (hts _ q983) dX11_isOpen_4 ?_
  refine lv_lrem hx hb dX11_isOpen_7 (by decide) ?_
  refine lv_l2i (v := ((L 1 0) - (L 1 0) / 1440 * 1440).toInt32) hx hb dX11_isOpen_8 rfl ?_
  refine ix_reI (y := mm_min L) (rfl) ?_
  refine lv_istore_n (lv' := [(2, .int (mm_min L)), (0, .ref (β 0 0)), (1, .int (nI cl))]) hx hb dX11_isOpen_9 rfl hl (by decide) rfl (fun ls hl => ?_)
  refine lv_aload_n hx hb dX11_isOpen_10 rfl (lv_at hl 1 rfl) ?_
  refine ix_get S hC hH (fs := mm_obj β F L) (rfl : mm_N G.2.1 β F L 0 0 = _) rfl rfl in_X11 7 (by decide) q839 (fun _ h9 => h9) rfl dX11_isOpen_11 ?_
  refine lv_iload_n hx hb dX11_isOpen_14 rfl (lv_at hl 2 rfl) ?_
  refine ix_iald (n := 36) S hC hH (rfl : mm_N G.2.1 β F L 7 0 = _) rfl (j := cl) rfl (by omega) (by omega) dX11_isOpen_15 ?_
  refine lv_aload_n hx hb dX11_isOpen_16 rfl (lv_at hl 1 rfl) ?_
  refine ix_get S hC hH (fs := mm_obj β F L) (rfl : mm_N G.2.1 β F L 0 0 = _) rfl rfl in_X11 8 (by decide) q840 (fun _ h9 => h9) rfl dX11_isOpen_17 ?_
  refine lv_iload_n hx hb dX11_isOpen_20 rfl (lv_at hl 2 rfl) ?_
  refine ix_iald (n := 36) S hC hH (rfl : mm_N G.2.1 β F L 8 0 = _) rfl (j := cl) rfl (by omega) (by omega) dX11_isOpen_21 ?_
  refine lv_icmp_ne (tgt := 27) hx hb dX11_isOpen_22 (by decide) (fun c22 => ?_) (fun c22 => ?_)
  · refine lv_aload_n hx hb dX11_isOpen_27 rfl (lv_at hl 1 rfl) ?_
    refine ix_get S hC hH (fs := mm_obj β F L) (rfl : mm_N G.2.1 β F L 0 0 = _) rfl rfl in_X11 7 (by decide) q839 (fun _ h9 => h9) rfl dX11_isOpen_28 ?_
    refine lv_iload_n hx hb dX11_isOpen_31 rfl (lv_at hl 2 rfl) ?_
    refine ix_iald (n := 36) S hC hH (rfl : mm_N G.2.1 β F L 7 0 = _) rfl (j := cl) rfl (by omega) (by omega) dX11_isOpen_32 ?_
    refine lv_aload_n hx hb dX11_isOpen_33 rfl (lv_at hl 1 rfl) ?_
    refine ix_get S hC hH (fs := mm_obj β F L) (rfl : mm_N G.2.1 β F L 0 0 = _) rfl rfl in_X11 8 (by decide) q840 (fun _ h9 => h9) rfl dX11_isOpen_34 ?_
    refine lv_iload_n hx hb dX11_isOpen_37 rfl (lv_at hl 2 rfl) ?_
    refine ix_iald (n := 36) S hC hH (rfl : mm_N G.2.1 β F L 8 0 = _) rfl (j := cl) rfl (by omega) (by omega) dX11_isOpen_38 ?_
    refine lv_icmp_ge (tgt := 70) hx hb dX11_isOpen_39 (by decide) (fun c39 => ?_) (fun c39 => ?_)
    · have c39 : ¬ (F 7 cl < F 8 cl) := Int32.not_lt.mpr c39
      refine lv_iload_n hx hb dX11_isOpen_70 rfl (lv_at hl 0 rfl) ?_
      refine lv_aload_n hx hb dX11_isOpen_71 rfl (lv_at hl 1 rfl) ?_
      refine ix_get S hC hH (fs := mm_obj β F L) (rfl : mm_N G.2.1 β F L 0 0 = _) rfl rfl in_X11 7 (by decide) q839 (fun _ h9 => h9) rfl dX11_isOpen_72 ?_
      refine lv_iload_n hx hb dX11_isOpen_75 rfl (lv_at hl 2 rfl) ?_
      refine ix_iald (n := 36) S hC hH (rfl : mm_N G.2.1 β F L 7 0 = _) rfl (j := cl) rfl (by omega) (by omega) dX11_isOpen_76 ?_
      refine lv_icmp_ge (tgt := 90) hx hb dX11_isOpen_77 (by decide) (fun c77 => ?_) (fun c77 => ?_)
      · have c77 : ¬ (mm_min L < F 7 cl) := Int32.not_lt.mpr c77
        refine lv_iconst (v := 1) hx hb dX11_isOpen_90 (by decide) ?_
        refine lv_goto (tgt := 95) hx hb dX11_isOpen_91 (by decide) ?_
        exact ix_rZ S hr hlocks (by simp [ix_b, mm_open, c22, c39, c77]) dX11_isOpen_95
      · have c77 : mm_min L < F 7 cl := Int32.not_le.mp c77
        refine lv_iload_n hx hb dX11_isOpen_80 rfl (lv_at hl 0 rfl) ?_
        refine lv_aload_n hx hb dX11_isOpen_81 rfl (lv_at hl 1 rfl) ?_
        refine ix_get S hC hH (fs := mm_obj β F L) (rfl : mm_N G.2.1 β F L 0 0 = _) rfl rfl in_X11 8 (by decide) q840 (fun _ h9 => h9) rfl dX11_isOpen_82 ?_
        refine lv_iload_n hx hb dX11_isOpen_85 rfl (lv_at hl 2 rfl) ?_
        refine ix_iald (n := 36) S hC hH (rfl : mm_N G.2.1 β F L 8 0 = _) rfl (j := cl) rfl (by omega) (by omega) dX11_isOpen_86 ?_
        refine lv_icmp_ge (tgt := 94) hx hb dX11_isOpen_87 (by decide) (fun c87 => ?_) (fun c87 => ?_)
        · have c87 : ¬ (mm_min L < F 8 cl) := Int32.not_lt.mpr c87
          refine lv_iconst (v := 0) hx hb dX11_isOpen_94 (by decide) ?_
          exact ix_rZ S hr hlocks (by simp [ix_b, mm_open, c22, c39, c77, c87]) dX11_isOpen_95
        · have c87 : mm_min L < F 8 cl := Int32.not_le.mp c87
          refine lv_iconst (v := 1) hx hb dX11_isOpen_90 (by decide) ?_
          refine lv_goto (tgt := 95) hx hb dX11_isOpen_91 (by decide) ?_
          exact ix_rZ S hr hlocks (by simp [ix_b, mm_open, c22, c39, c77, c87]) dX11_isOpen_95
    · have c39 : F 7 cl < F 8 cl := Int32.not_le.mp c39
      refine lv_iload_n hx hb dX11_isOpen_42 rfl (lv_at hl 0 rfl) ?_
      refine lv_aload_n hx hb dX11_isOpen_43 rfl (lv_at hl 1 rfl) ?_
      refine ix_get S hC hH (fs := mm_obj β F L) (rfl : mm_N G.2.1 β F L 0 0 = _) rfl rfl in_X11 7 (by decide) q839 (fun _ h9 => h9) rfl dX11_isOpen_44 ?_
      refine lv_iload_n hx hb dX11_isOpen_47 rfl (lv_at hl 2 rfl) ?_
      refine ix_iald (n := 36) S hC hH (rfl : mm_N G.2.1 β F L 7 0 = _) rfl (j := cl) rfl (by omega) (by omega) dX11_isOpen_48 ?_
      refine lv_icmp_lt (tgt := 66) hx hb dX11_isOpen_49 (by decide) (fun c49 => ?_) (fun c49 => ?_)
      · refine lv_iconst (v := 0) hx hb dX11_isOpen_66 (by decide) ?_
        refine lv_goto (tgt := 95) hx hb dX11_isOpen_67 (by decide) ?_
        exact ix_rZ S hr hlocks (by simp [ix_b, mm_open, c22, c39, c49]) dX11_isOpen_95
      · refine lv_iload_n hx hb dX11_isOpen_52 rfl (lv_at hl 0 rfl) ?_
        refine lv_aload_n hx hb dX11_isOpen_53 rfl (lv_at hl 1 rfl) ?_
        refine ix_get S hC hH (fs := mm_obj β F L) (rfl : mm_N G.2.1 β F L 0 0 = _) rfl rfl in_X11 8 (by decide) q840 (fun _ h9 => h9) rfl dX11_isOpen_54 ?_
        refine lv_iload_n hx hb dX11_isOpen_57 rfl (lv_at hl 2 rfl) ?_
        refine ix_iald (n := 36) S hC hH (rfl : mm_N G.2.1 β F L 8 0 = _) rfl (j := cl) rfl (by omega) (by omega) dX11_isOpen_58 ?_
        refine lv_icmp_ge (tgt := 66) hx hb dX11_isOpen_59 (by decide) (fun c59 => ?_) (fun c59 => ?_)
        · have c59 : ¬ (mm_min L < F 8 cl) := Int32.not_lt.mpr c59
          refine lv_iconst (v := 0) hx hb dX11_isOpen_66 (by decide) ?_
          refine lv_goto (tgt := 95) hx hb dX11_isOpen_67 (by decide) ?_
          exact ix_rZ S hr hlocks (by simp [ix_b, mm_open, c22, c39, c49, c59]) dX11_isOpen_95
        · have c59 : mm_min L < F 8 cl := Int32.not_le.mp c59
          refine lv_iconst (v := 1) hx hb dX11_isOpen_62 (by decide) ?_
          refine lv_goto (tgt := 95) hx hb dX11_isOpen_63 (by decide) ?_
          exact ix_rZ S hr hlocks (by simp [ix_b, mm_open, c22, c39, c49, c59]) dX11_isOpen_95
  · refine lv_iconst (v := 1) hx hb dX11_isOpen_25 (by decide) ?_
    exact ix_rZ S hr hlocks (by simp [ix_b, mm_open, c22]) dX11_isOpen_26
set_option maxHeartbeats 4000000 in
set_option maxRecDepth 100000 in
theorem mm_pr_ (l : Launch) (G : ix_G) (β : ix_B) (F : mm_F) (L : mm_L) (sz : Nat) (j : Nat) (hj : j < 100) : Met l yX11_priority (ws_ yX11_priority cX11_priority 10 (some .long)) ({ frames := 0, cells := 0, slots := 0, locals := 0 } : Room) (ix_P G β (mm_N G.2.1 β F L) sz [.ref (β 0 0), .int (nI j)]) (ix_R (some (.long (mm_pr F L j)))) 0 0 (fun _ => False) := by
  refine ix_reader (by decide +kernel) (Nat.le_of_ble_eq_true rfl) ?_
  intro p e s m below meth c S hr hlocks hC hH hS ls hl
  have hAz : ∀ q, ix_z G q → ix_z G q := fun _ h => h
  have hx := S.1
  have hb := S.2.1
  have hts := S.2.2.2.2
  have S : CallFix p m c cX11_priority 10 s ([.ref (β 0 0), .int (nI j)] : List Value).toArray lw_all "InitiatorRowsModel" := S
  have hl : lv_has ls 10 [(0, .ref (β 0 0)), (1, .int (nI j))] := hl
  refine lv_aload_n hx hb dX11_priority_0 rfl (lv_at hl 0 rfl) ?_
  refine ix_get S hC hH (fs := mm_obj β F L) (rfl : mm_N G.2.1 β F L 0 0 = _) rfl rfl in_X11 12 (by decide) q844 (fun _ h9 => h9) rfl dX11_priority_1 ?_
  refine lv_iload_n hx hb dX11_priority_4 rfl (lv_at hl 1 rfl) ?_
  refine ix_iald (n := 100) S hC hH (rfl : mm_N G.2.1 β F L 12 0 = _) rfl (j := j) rfl (by omega) (by omega) dX11_priority_5 ?_
  refine lv_i2l (v := (F 12 j).toInt64) hx hb dX11_priority_6 rfl ?_
  refine lv_lstore_n (lv' := [(2, .long ((F 12 j).toInt64)), (0, .ref (β 0 0)), (1, .int (nI j))]) hx hb dX11_priority_7 rfl hl (by decide) rfl (fun ls hl => ?_)
  refine lv_aload_n hx hb dX11_priority_8 rfl (lv_at hl 1 rfl) ?_
  refine ix_get S hC hH (fs := mm_obj β F L) (rfl : mm_N G.2.1 β F L 0 0 = _) rfl rfl in_X11 23 (by decide) q855 (fun _ h9 => h9) rfl dX11_priority_9 ?_
  refine lv_lconst (v := 0) hx hb dX11_priority_12 (by decide) ?_
  refine W.lcmp hx hb dX11_priority_13 ?_
  refine lv_if_ne (tgt := 19) hx hb dX11_priority_14 (by decide) (fun c14 => ?_) (fun c14 => ?_)
  · have c14 : ¬ (L 23 0 = 0) := (not_congr (lg_cmp_eq _ _)).mp c14
    refine lv_aload_n hx hb dX11_priority_19 rfl (lv_at hl 1 rfl) ?_
    refine ix_get S hC hH (fs := mm_obj β F L) (rfl : mm_N G.2.1 β F L 0 0 = _) rfl rfl in_X11 1 (by decide) q833 (fun _ h9 => h9) rfl dX11_priority_20 ?_
    refine lv_aload_n hx hb dX11_priority_23 rfl (lv_at hl 1 rfl) ?_
    refine ix_get S hC hH (fs := mm_obj β F L) (rfl : mm_N G.2.1 β F L 0 0 = _) rfl rfl in_X11 20 (by decide) q852 (fun _ h9 => h9) rfl dX11_priority_24 ?_
    refine lv_iload_n hx hb dX11_priority_27 rfl (lv_at hl 2 rfl) ?_
    refine ix_lald (n := 100) S hC hH (rfl : mm_N G.2.1 β F L 20 0 = _) rfl (j := j) rfl (by omega) (by omega) dX11_priority_28 ?_
    refine lv_lsub hx hb dX11_priority_29 ?_
    refine lv_aload_n hx hb dX11_priority_30 rfl (lv_at hl 1 rfl) ?_
    refine ix_get S hC hH (fs := mm_obj β F L) (rfl : mm_N G.2.1 β F L 0 0 = _) rfl rfl in_X11 23 (by decide) q855 (fun _ h9 => h9) rfl dX11_priority_31 ?_
    refine lv_ldiv hx hb dX11_priority_34 (c14) ?_
    refine ix_reL (y := mm_gr L j) (rfl) ?_
    refine lv_lstore (lv' := [(4, .long (mm_gr L j)), (2, .long ((F 12 j).toInt64)), (0, .ref (β 0 0)), (1, .int (nI j))]) hx hb dX11_priority_35 hl (by decide) rfl (fun ls hl => ?_)
    have jn37 : ∀ (g : Int64), (g = mm_u15 (mm_gr L j)) → ∀ ls, lv_has ls 10 [(4, .long (mm_gr L j)), (2, .long ((F 12 j).toInt64)), (0, .ref (β 0 0)), (1, .int (nI j))] → W p l e ({ frames := 0, cells := 0, slots := 0, locals := 0 } : Room) s m ([.ref (β 0 0), .int (nI j)] : List Value).toArray below meth c s.heap ([]) 0 0 (MQ below (ix_R (some (.long (mm_pr F L j)))) ([.ref (β 0 0), .int (nI j)] : List Value).toArray s 0 0 (fun _ => False)) (F0 m 54 ls [.long g]) := by
      intro g hg ls hl
      refine lv_lstore (lv' := [(6, .long g), (4, .long (mm_gr L j)), (2, .long ((F 12 j).toInt64)), (0, .ref (β 0 0)), (1, .int (nI j))]) hx hb dX11_priority_54 hl (by decide) rfl (fun ls hl => ?_)
      have jn56 : ∀ (v : Int64), (v = mm_cap (F 24 0).toInt64 ((F 12 j).toInt64 + mm_u15 (mm_gr L j))) → ∀ ls, lv_has ls 10 [(6, .long g), (4, .long (mm_gr L j)), (2, .long ((F 12 j).toInt64)), (0, .ref (β 0 0)), (1, .int (nI j))] → W p l e ({ frames := 0, cells := 0, slots := 0, locals := 0 } : Room) s m ([.ref (β 0 0), .int (nI j)] : List Value).toArray below meth c s.heap ([]) 0 0 (MQ below (ix_R (some (.long (mm_pr F L j)))) ([.ref (β 0 0), .int (nI j)] : List Value).toArray s 0 0 (fun _ => False)) (F0 m 81 ls [.long v]) := by
        intro v hv ls hl
        refine lv_lstore (lv' := [(8, .long v), (6, .long g), (4, .long (mm_gr L j)), (2, .long ((F 12 j).toInt64)), (0, .ref (β 0 0)), (1, .int (nI j))]) hx hb dX11_priority_81 hl (by decide) rfl (fun ls hl => ?_)
        refine lv_lload hx hb dX11_priority_83 (lv_at hl 0 rfl) ?_
        refine lv_lload_n hx hb dX11_priority_85 rfl (lv_at hl 3 rfl) ?_
        refine W.lcmp hx hb dX11_priority_86 ?_
        refine lv_if_ge (tgt := 94) hx hb dX11_priority_87 (by decide) (fun c87 => ?_) (fun c87 => ?_)
        · have c87 : ¬ (v < (F 12 j).toInt64) := Int64.not_lt.mpr ((lg_cmp_ge _ _).mp c87)
          refine lv_lload hx hb dX11_priority_94 (lv_at hl 0 rfl) ?_
          exact ix_rL S hr hlocks (by rw [mm_pr, if_neg c14, ← hv]; first | rw [if_pos c87] | rw [if_neg c87]) dX11_priority_96
        · have c87 : v < (F 12 j).toInt64 := Int64.not_le.mp ((not_congr (lg_cmp_ge _ _)).mp c87)
          refine lv_lload_n hx hb dX11_priority_90 rfl (lv_at hl 3 rfl) ?_
          refine lv_goto (tgt := 96) hx hb dX11_priority_91 (by decide) ?_
          exact ix_rL S hr hlocks (by rw [mm_pr, if_neg c14, ← hv]; first | rw [if_pos c87] | rw [if_neg c87]) dX11_priority_96
      refine lv_lload_n hx hb dX11_priority_56 rfl (lv_at hl 2 rfl) ?_
      refine lv_lload hx hb dX11_priority_57 (lv_at hl 0 rfl) ?_
      refine lv_ladd hx hb dX11_priority_59 ?_
      refine lv_aload_n hx hb dX11_priority_60 rfl (lv_at hl 3 rfl) ?_
      refine ix_get S hC hH (fs := mm_obj β F L) (rfl : mm_N G.2.1 β F L 0 0 = _) rfl rfl in_X11 24 (by decide) q856 (fun _ h9 => h9) rfl dX11_priority_61 ?_
      refine lv_i2l (v := (F 24 0).toInt64) hx hb dX11_priority_64 rfl ?_
      refine W.lcmp hx hb dX11_priority_65 ?_
      refine lv_if_le (tgt := 77) hx hb dX11_priority_66 (by decide) (fun c66 => ?_) (fun c66 => ?_)
      · have c66 : ¬ ((F 24 0).toInt64 < ((F 12 j).toInt64) + g) := Int64.not_lt.mpr ((lg_cmp_le _ _).mp c66)
        refine lv_lload_n hx hb dX11_priority_77 rfl (lv_at hl 2 rfl) ?_
        refine lv_lload hx hb dX11_priority_78 (lv_at hl 0 rfl) ?_
        refine lv_ladd hx hb dX11_priority_80 ?_
        exact jn56 (((F 12 j).toInt64) + g) (by rw [← hg, mm_cap]; first | rw [if_pos c66] | rw [if_neg c66]) _ (lv_sub hl [0, 1, 2, 3, 4] rfl)
      · have c66 : (F 24 0).toInt64 < ((F 12 j).toInt64) + g := Int64.not_le.mp ((not_congr (lg_cmp_le _ _)).mp c66)
        refine lv_aload_n hx hb dX11_priority_69 rfl (lv_at hl 3 rfl) ?_
        refine ix_get S hC hH (fs := mm_obj β F L) (rfl : mm_N G.2.1 β F L 0 0 = _) rfl rfl in_X11 24 (by decide) q856 (fun _ h9 => h9) rfl dX11_priority_70 ?_
        refine lv_i2l (v := (F 24 0).toInt64) hx hb dX11_priority_73 rfl ?_
        refine lv_goto (tgt := 81) hx hb dX11_priority_74 (by decide) ?_
        exact jn56 ((F 24 0).toInt64) (by rw [← hg, mm_cap]; first | rw [if_pos c66] | rw [if_neg c66]) _ (lv_sub hl [0, 1, 2, 3, 4] rfl)
    refine lv_lload hx hb dX11_priority_37 (lv_at hl 0 rfl) ?_
    refine lv_ldc2 hx hb S.2.2.2.1 (hts _ q996) dX11_priority_39 ?_
    refine W.lcmp hx hb dX11_priority_42 ?_
    refine lv_if_le (tgt := 52) hx hb dX11_priority_43 (by decide) (fun c43 => ?_) (fun c43 => ?_)
    · have c43 : ¬ (15 < mm_gr L j) := Int64.not_lt.mpr ((lg_cmp_le _ _).mp c43)
      refine lv_lload hx hb dX11_priority_52 (lv_at hl 0 rfl) ?_
      exact jn37 (mm_gr L j) (by rw [mm_u15]; first | rw [if_pos c43] | rw [if_neg c43]) _ (lv_sub hl [0, 1, 2, 3] rfl)
    · have c43 : 15 < mm_gr L j := Int64.not_le.mp ((not_congr (lg_cmp_le _ _)).mp c43)
      refine lv_ldc2 hx hb S.2.2.2.1 (hts _ q996) dX11_priority_46 ?_
      refine lv_goto (tgt := 54) hx hb dX11_priority_49 (by decide) ?_
      exact jn37 15 (by rw [mm_u15]; first | rw [if_pos c43] | rw [if_neg c43]) _ (lv_sub hl [0, 1, 2, 3] rfl)
  · have c14 : L 23 0 = 0 := (lg_cmp_eq _ _).mp c14
    refine lv_lload_n hx hb dX11_priority_17 rfl (lv_at hl 0 rfl) ?_
    exact ix_rL S hr hlocks (by rw [mm_pr, if_pos c14]) dX11_priority_18
set_option maxHeartbeats 4000000 in
set_option maxRecDepth 100000 in
theorem mm_ah_ (l : Launch) (G : ix_G) (β : ix_B) (F : mm_F) (L : mm_L) (sz : Nat) (a b : Nat) (ha : a < 100) (hb100 : b < 100) : Met l yX11_isAhead (ws_ yX11_isAhead cX11_isAhead 7 (some .boolean)) ({ frames := 1, cells := 0, slots := 0, locals := 40 } : Room) (ix_P G β (mm_N G.2.1 β F L) sz [.ref (β 0 0), .int (nI a), .int (nI b)]) (ix_R (some (.int (ix_b (mm_ah F L a b))))) 0 0 (fun _ => False) := by
  refine ix_reader (by decide +kernel) (Nat.le_of_ble_eq_true rfl) ?_
  intro p e s m below meth c S hr hlocks hC hH hS ls hl
  have hAz : ∀ q, ix_z G q → ix_z G q := fun _ h => h
  have hx := S.1
  have hb := S.2.1
  have hts := S.2.2.2.2
  have S : CallFix p m c cX11_isAhead 7 s ([.ref (β 0 0), .int (nI a), .int (nI b)] : List Value).toArray lw_all "InitiatorRowsModel" := S
  have hl : lv_has ls 7 [(0, .ref (β 0 0)), (1, .int (nI a)), (2, .int (nI b))] := hl
  refine lv_aload_n hx hb dX11_isAhead_0 rfl (lv_at hl 0 rfl) ?_
  refine lv_iload_n hx hb dX11_isAhead_1 rfl (lv_at hl 1 rfl) ?_
  refine ix_rd (W.runV (As := [.int (nI a)]) (rest := []) S (mm_pr_ l G β F L s.heap.size a (by omega)) (cwV 1 hts (lw_V q992 q994 qs18 q34 q995) rfl rfl rfl (by decide +kernel) ⟨Nat.le_of_ble_eq_true rfl, Nat.le_of_ble_eq_true rfl⟩) (ix_preV hC hS hAz hH (ix_recv hC hH (rfl : mm_N G.2.1 β F L 0 0 = _) rfl) rfl) rfl rfl hl.1 rfl (lv_room (Nat.le_of_ble_eq_true rfl)) dX11_isAhead_2 ⟨Nat.le_refl _, Nat.le_refl _⟩) ?_
  refine W.eq (g2 := F0 m 5 ls [.long (mm_pr F L a)]) rfl ?_
  refine lv_lstore_n (lv' := [(3, .long (mm_pr F L a)), (0, .ref (β 0 0)), (1, .int (nI a)), (2, .int (nI b))]) hx hb dX11_isAhead_5 rfl hl (by decide) rfl (fun ls hl => ?_)
  refine lv_aload_n hx hb dX11_isAhead_6 rfl (lv_at hl 1 rfl) ?_
  refine lv_iload_n hx hb dX11_isAhead_7 rfl (lv_at hl 3 rfl) ?_
  refine ix_rd (W.runV (As := [.int (nI b)]) (rest := []) S (mm_pr_ l G β F L s.heap.size b (by omega)) (cwV 1 hts (lw_V q992 q994 qs18 q34 q995) rfl rfl rfl (by decide +kernel) ⟨Nat.le_of_ble_eq_true rfl, Nat.le_of_ble_eq_true rfl⟩) (ix_preV hC hS hAz hH (ix_recv hC hH (rfl : mm_N G.2.1 β F L 0 0 = _) rfl) rfl) rfl rfl hl.1 rfl (lv_room (Nat.le_of_ble_eq_true rfl)) dX11_isAhead_8 ⟨Nat.le_refl _, Nat.le_refl _⟩) ?_
  refine W.eq (g2 := F0 m 11 ls [.long (mm_pr F L b)]) rfl ?_
  refine lv_lstore (lv' := [(5, .long (mm_pr F L b)), (3, .long (mm_pr F L a)), (0, .ref (β 0 0)), (1, .int (nI a)), (2, .int (nI b))]) hx hb dX11_isAhead_11 hl (by decide) rfl (fun ls hl => ?_)
  refine lv_lload_n hx hb dX11_isAhead_13 rfl (lv_at hl 1 rfl) ?_
  refine lv_lload hx hb dX11_isAhead_14 (lv_at hl 0 rfl) ?_
  refine W.lcmp hx hb dX11_isAhead_16 ?_
  refine lv_if_gt (tgt := 32) hx hb dX11_isAhead_17 (by decide) (fun c17 => ?_) (fun c17 => ?_)
  · have c17 : mm_pr F L b < mm_pr F L a := (lg_cmp_gt _ _).mp c17
    refine lv_iconst (v := 1) hx hb dX11_isAhead_32 (by decide) ?_
    refine lv_goto (tgt := 37) hx hb dX11_isAhead_33 (by decide) ?_
    exact ix_rZ S hr hlocks (by simp [ix_b, mm_ah, c17]) dX11_isAhead_37
  · have c17 : ¬ (mm_pr F L b < mm_pr F L a) := (not_congr (lg_cmp_gt _ _)).mp c17
    refine lv_lload_n hx hb dX11_isAhead_20 rfl (lv_at hl 1 rfl) ?_
    refine lv_lload hx hb dX11_isAhead_21 (lv_at hl 0 rfl) ?_
    refine W.lcmp hx hb dX11_isAhead_23 ?_
    refine lv_if_ne (tgt := 36) hx hb dX11_isAhead_24 (by decide) (fun c24 => ?_) (fun c24 => ?_)
    · have c24 : ¬ (mm_pr F L a = mm_pr F L b) := (not_congr (lg_cmp_eq _ _)).mp c24
      refine lv_iconst (v := 0) hx hb dX11_isAhead_36 (by decide) ?_
      exact ix_rZ S hr hlocks (by simp [ix_b, mm_ah, c17, c24]) dX11_isAhead_37
    · have c24 : mm_pr F L a = mm_pr F L b := (lg_cmp_eq _ _).mp c24
      refine lv_iload_n hx hb dX11_isAhead_27 rfl (lv_at hl 3 rfl) ?_
      refine lv_iload_n hx hb dX11_isAhead_28 rfl (lv_at hl 4 rfl) ?_
      refine lv_icmp_ge (tgt := 36) hx hb dX11_isAhead_29 (by decide) (fun c29 => ?_) (fun c29 => ?_)
      · have c29 : b ≤ a := (ix_nle (a := b) (b := a) rfl rfl (by omega) (by omega)).mp c29
        refine lv_iconst (v := 0) hx hb dX11_isAhead_36 (by decide) ?_
        exact ix_rZ S hr hlocks (by simp [ix_b, mm_ah, c17, c24, c29]) dX11_isAhead_37
      · have c29 : ¬ (b ≤ a) := (not_congr (ix_nle (a := b) (b := a) rfl rfl (by omega) (by omega))).mp c29
        refine lv_iconst (v := 1) hx hb dX11_isAhead_32 (by decide) ?_
        refine lv_goto (tgt := 37) hx hb dX11_isAhead_33 (by decide) ?_
        exact ix_rZ S hr hlocks (by simp [ix_b, mm_ah, c17, c24, c29]) dX11_isAhead_37
set_option maxHeartbeats 4000000 in
set_option maxRecDepth 100000 in
theorem mm_those_ (l : Launch) (G : ix_G) (β : ix_B) (F : mm_F) (L : mm_L) (sz : Nat) (n : Nat) (st : Int32) (hd : Bool) (hn : F 22 0 = nI n) (h100 : n ≤ 100) : Met l yX11_those (ws_ yX11_those cX11_those 5 (some .int)) ({ frames := 0, cells := 0, slots := 0, locals := 0 } : Room) (ix_P G β (mm_N G.2.1 β F L) sz [.ref (β 0 0), .int st, .int (ix_b hd)]) (ix_R (some (.int (mm_those F n st hd)))) 0 0 (fun _ => False) := by
  refine ix_reader (by decide +kernel) (Nat.le_of_ble_eq_true rfl) ?_
  intro p e s m below meth c S hr hlocks hC hH hS ls hl
  have hAz : ∀ q, ix_z G q → ix_z G q := fun _ h => h
  have hx := S.1
  have hb := S.2.1
  have hts := S.2.2.2.2
  have S : CallFix p m c cX11_those 5 s ([.ref (β 0 0), .int st, .int (ix_b hd)] : List Value).toArray lw_all "InitiatorRowsModel" := S
  have hl : lv_has ls 5 [(0, .ref (β 0 0)), (1, .int st), (2, .int (ix_b hd))] := hl
  refine lv_iconst (v := 0) hx hb dX11_those_0 (by decide) ?_
  refine lv_istore_n (lv' := [(3, .int 0), (0, .ref (β 0 0)), (1, .int st), (2, .int (ix_b hd))]) hx hb dX11_those_1 rfl hl (by decide) rfl (fun ls hl => ?_)
  refine lv_iconst (v := 0) hx hb dX11_those_2 (by decide) ?_
  refine lv_istore (lv' := [(4, .int 0), (3, .int 0), (0, .ref (β 0 0)), (1, .int st), (2, .int (ix_b hd))]) hx hb dX11_those_3 hl (by decide) rfl (fun ls hl => ?_)
  have lp5 : ∀ (fu5 : Nat) (k : Nat) (acc : Int32), n + 1 ≤ k + fu5 → (k ≤ n) → (acc = mm_those F k st hd) → ∀ ls, lv_has ls 5 [(0, .ref (β 0 0)), (1, .int st), (2, .int (ix_b hd)), (3, .int acc), (4, .int (nI k))] → W p l e ({ frames := 0, cells := 0, slots := 0, locals := 0 } : Room) s m ([.ref (β 0 0), .int st, .int (ix_b hd)] : List Value).toArray below meth c s.heap ([]) 0 0 (MQ below (ix_R (some (.int (mm_those F n st hd)))) ([.ref (β 0 0), .int st, .int (ix_b hd)] : List Value).toArray s 0 0 (fun _ => False)) (F0 m 5 ls []) := by
    intro fu5
    induction fu5 with
    | zero =>
      intro k acc hfu hk ha ls hl
      exact absurd hfu (by omega)
    | succ fu5 ih5 =>
      intro k acc hfu hk ha ls hl
      refine lv_iload hx hb dX11_those_5 (lv_at hl 4 rfl) ?_
      refine lv_aload_n hx hb dX11_those_7 rfl (lv_at hl 0 rfl) ?_
      refine ix_get S hC hH (fs := mm_obj β F L) (rfl : mm_N G.2.1 β F L 0 0 = _) rfl rfl in_X11 22 (by decide) q854 (fun _ h9 => h9) rfl dX11_those_8 ?_
      refine lv_icmp_ge (tgt := 53) hx hb dX11_those_11 (by decide) (fun c11 => ?_) (fun c11 => ?_)
      · have c11 : n ≤ k := (ix_nle (a := n) (b := k) hn rfl (by omega) (by omega)).mp c11
        refine lv_iload_n hx hb dX11_those_53 rfl (lv_at hl 3 rfl) ?_
        exact ix_rI S hr hlocks (by rw [ha, show k = n by omega]) dX11_those_54
      · have c11 : ¬ (n ≤ k) := (not_congr (ix_nle (a := n) (b := k) hn rfl (by omega) (by omega))).mp c11
        have jn14 : ∀ (v : Int32), (v = if F 14 k = st ∧ (hd = true ∨ ¬ F 16 k = 0) then 1 else 0) → ∀ ls, lv_has ls 5 [(0, .ref (β 0 0)), (1, .int st), (2, .int (ix_b hd)), (3, .int acc), (4, .int (nI k))] → W p l e ({ frames := 0, cells := 0, slots := 0, locals := 0 } : Room) s m ([.ref (β 0 0), .int st, .int (ix_b hd)] : List Value).toArray below meth c s.heap ([]) 0 0 (MQ below (ix_R (some (.int (mm_those F n st hd)))) ([.ref (β 0 0), .int st, .int (ix_b hd)] : List Value).toArray s 0 0 (fun _ => False)) (F0 m 45 ls [.int v, .int acc]) := by
          intro v hv ls hl
          refine lv_iadd hx hb dX11_those_45 ?_
          refine lv_istore_n (lv' := [(3, .int (acc + v)), (0, .ref (β 0 0)), (1, .int st), (2, .int (ix_b hd)), (4, .int (nI k))]) hx hb dX11_those_46 rfl hl (by decide) rfl (fun ls hl => ?_)
          have hstep : acc + v = mm_those F (k + 1) st hd := by rw [ha, hv]; rfl
          refine lv_iinc (v := nI (k + 1)) (lv' := [(4, .int (nI (k + 1))), (3, .int (acc + v)), (0, .ref (β 0 0)), (1, .int st), (2, .int (ix_b hd))]) hx hb dX11_those_47 hl (k := 4) rfl ((ix_nadd rfl (rfl : (1 : Int32) = nI 1))) (by decide) rfl (fun ls hl => ?_)
          refine lv_goto (tgt := 5) hx hb dX11_those_50 (by decide) ?_
          exact ih5 (k + 1) (acc + v) (by omega) (by omega) hstep _ (lv_sub hl [2, 3, 4, 1, 0] rfl)
        refine lv_iload_n hx hb dX11_those_14 rfl (lv_at hl 3 rfl) ?_
        refine lv_aload_n hx hb dX11_those_15 rfl (lv_at hl 0 rfl) ?_
        refine ix_get S hC hH (fs := mm_obj β F L) (rfl : mm_N G.2.1 β F L 0 0 = _) rfl rfl in_X11 14 (by decide) q846 (fun _ h9 => h9) rfl dX11_those_16 ?_
        refine lv_iload hx hb dX11_those_19 (lv_at hl 4 rfl) ?_
        refine ix_iald (n := 100) S hC hH (rfl : mm_N G.2.1 β F L 14 0 = _) rfl (j := k) rfl (by omega) (by omega) dX11_those_21 ?_
        refine lv_iload_n hx hb dX11_those_22 rfl (lv_at hl 1 rfl) ?_
        refine lv_icmp_ne (tgt := 44) hx hb dX11_those_23 (by decide) (fun c23 => ?_) (fun c23 => ?_)
        · refine lv_iconst (v := 0) hx hb dX11_those_44 (by decide) ?_
          exact jn14 0 (by simp [c23]) _ (lv_sub hl [0, 1, 2, 3, 4] rfl)
        · refine lv_iload_n hx hb dX11_those_26 rfl (lv_at hl 2 rfl) ?_
          refine lv_if_ne (tgt := 40) hx hb dX11_those_27 (by decide) (fun c27 => ?_) (fun c27 => ?_)
          · have c27 : hd = true := ix_b_ne.mp c27
            refine lv_iconst (v := 1) hx hb dX11_those_40 (by decide) ?_
            refine lv_goto (tgt := 45) hx hb dX11_those_41 (by decide) ?_
            exact jn14 1 (by simp [c23, c27]) _ (lv_sub hl [0, 1, 2, 3, 4] rfl)
          · have c27 : hd = false := ix_b_eq.mp c27
            refine lv_aload_n hx hb dX11_those_30 rfl (lv_at hl 0 rfl) ?_
            refine ix_get S hC hH (fs := mm_obj β F L) (rfl : mm_N G.2.1 β F L 0 0 = _) rfl rfl in_X11 16 (by decide) q848 (fun _ h9 => h9) rfl dX11_those_31 ?_
            refine lv_iload hx hb dX11_those_34 (lv_at hl 4 rfl) ?_
            refine ix_zald (n := 100) S hC hH (rfl : mm_N G.2.1 β F L 16 0 = _) rfl (j := k) rfl (by omega) (by omega) dX11_those_36 ?_
            refine lv_if_eq (tgt := 44) hx hb dX11_those_37 (by decide) (fun c37 => ?_) (fun c37 => ?_)
            · refine lv_iconst (v := 0) hx hb dX11_those_44 (by decide) ?_
              exact jn14 0 (by simp [c23, c27, c37]) _ (lv_sub hl [0, 1, 2, 3, 4] rfl)
            · refine lv_iconst (v := 1) hx hb dX11_those_40 (by decide) ?_
              refine lv_goto (tgt := 45) hx hb dX11_those_41 (by decide) ?_
              exact jn14 1 (by simp [c23, c27, c37]) _ (lv_sub hl [0, 1, 2, 3, 4] rfl)
  exact lp5 (n + 1) 0 0 (by omega) (by omega) rfl _ (lv_sub hl [2, 3, 4, 1, 0] rfl)
