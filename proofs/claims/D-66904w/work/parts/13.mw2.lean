/-! THE REFERENCE: its public methods with loops -/
theorem mm_ends_0 {F1 : mm_F} {j : Nat} (h : (3 : Nat) ≠ 14) {f : Nat → Int32} : va_up (va_up F1 14 f) 3 (mm_ends F1 j 0) = va_up F1 14 f := by
  funext a b
  by_cases h3 : a = 3
  · subst h3
    simp [va_up, mm_ends]
  · simp [va_up, h3]
theorem mm_ends_k {F1 : mm_F} {j k : Nat} {f : Nat → Int32} : va_up (va_up F1 14 f) 3 (mm_ends F1 j k) 3 k = F1 3 k := by
  simp [va_up, mm_ends]
theorem mm_ends_s {F1 : mm_F} {j k : Nat} (h : (3 : Nat) ≠ 14) {f : Nat → Int32} : mm_wr (va_up (va_up F1 14 f) 3 (mm_ends F1 j k)) 3 k (if F1 3 k = nI j then -1 else F1 3 k) = va_up (va_up F1 14 f) 3 (mm_ends F1 j (k + 1)) := by
  funext a b
  by_cases h3 : a = 3
  · subst h3
    by_cases hb : b = k
    · subst hb
      simp [va_up, mm_ends]
    · have hlt : b < k + 1 ↔ b < k := by omega
      simp [va_up, mm_ends, hb, hlt]
  · simp [va_up, h3]
set_option maxHeartbeats 4000000 in
set_option maxRecDepth 100000 in
theorem mm_thrown_ (l : Launch) (G : ix_G) (β : ix_B) (F : mm_F) (L : mm_L) (sz : Nat)  : Met l yX11_thrown (ws_ yX11_thrown cX11_thrown 1 (some .int)) ({ frames := 0, cells := 0, slots := 0, locals := 0 } : Room) (ix_P G β (mm_N G.2.1 β F L) sz [.ref (β 0 0)]) (ix_R (some (.int (F 0 0)))) 0 0 (fun _ => False) := by
  refine ix_reader (by decide +kernel) (Nat.le_of_ble_eq_true rfl) ?_
  intro p e s m below meth c S hr hlocks hC hH hS ls hl
  have hAz : ∀ q, ix_z G q → ix_z G q := fun _ h => h
  have hx := S.1
  have hb := S.2.1
  have hts := S.2.2.2.2
  have S : CallFix p m c cX11_thrown 1 s ([.ref (β 0 0)] : List Value).toArray lw_all "InitiatorRowsModel" := S
  have hl : lv_has ls 1 [(0, .ref (β 0 0))] := hl
  refine lv_aload_n hx hb dX11_thrown_0 rfl (lv_at hl 0 rfl) ?_
  refine ix_get S hC hH (fs := mm_obj β F L) (rfl : mm_N G.2.1 β F L 0 0 = _) rfl rfl in_X11 0 (by decide) q832 (fun _ h9 => h9) rfl dX11_thrown_1 ?_
  exact ix_rI S hr hlocks (rfl) dX11_thrown_4
set_option maxHeartbeats 4000000 in
set_option maxRecDepth 100000 in
theorem mm_order_ (l : Launch) (G : ix_G) (β : ix_B) (F : mm_F) (L : mm_L) (sz : Nat) (x : Int32) (n : Nat) (h100 : n ≤ 100) (hn : F 22 0 = nI n) : Met l yX11_order (ws_ yX11_order cX11_order 5 (some .int)) ({ frames := 2, cells := 0, slots := 0, locals := 80 } : Room) (ix_P G β (mm_N G.2.1 β F L) sz [.ref (β 0 0), .int x]) (ix_Q (some (.int (mm_oOrder (mm_0 F) L n x))) (fun (H9 : Heap) => ix_H G.1 (ix_A β (mm_N G.2.1 β F L) sz) β (mm_N G.2.1 β (mm_0 F) L) H9) (ix_A β (mm_N G.2.1 β F L) sz)) 0 0 (ix_A β (mm_N G.2.1 β F L) sz) := by
  refine ix_writer (by decide +kernel) (Nat.le_of_ble_eq_true rfl) ?_
  intro p e s m below meth c A S hr hlocks hnm hC hsz hH hS hA0 hAz hAe ls hl
  have hx := S.1
  have hb := S.2.1
  have hts := S.2.2.2.2
  have S : CallFix p m c cX11_order 5 s ([.ref (β 0 0), .int x] : List Value).toArray lw_all "InitiatorRowsModel" := S
  have hl : lv_has ls 5 [(0, .ref (β 0 0)), (1, .int x)] := hl
  refine lv_aload_n hx hb dX11_order_0 rfl (lv_at hl 0 rfl) ?_
  refine lv_iconst (v := 0) hx hb dX11_order_1 (by decide) ?_
  refine ix_put S hC hH hS (fs := mm_obj β F L) (rfl : mm_N G.2.1 β F L 0 0 = _) rfl rfl in_X11 tyX11 tyX11_ok nmX11 0 (by decide) q832 (fun _ h9 => h9) rfl (rfl) (rfl) (show 0 < 25 by decide) dX11_order_2 (fun H_1 locs_2 hH hS hz => ?_)
  have hH : ix_H G.1 A β (mm_N G.2.1 β (mm_0 F) L) H_1 := hH.to (mm_putI 0 _ (by decide))
  have hn0 : (mm_0 F) 22 0 = nI n := hn
  generalize mm_0 F = F1 at hn0 hH ⊢
  refine lv_iconst (v := 0) hx hb dX11_order_5 (by decide) ?_
  refine lv_istore_n (lv' := [(2, .int 0), (0, .ref (β 0 0)), (1, .int x)]) hx hb dX11_order_6 rfl hl (by decide) rfl (fun ls hl => ?_)
  have lp7 : ∀ (fu7 : Nat) (jj : Nat), n + 1 ≤ jj + fu7 → (jj ≤ n) → (∀ k, k < jj → mm_ord F1 L n x k = false) → ∀ ls, lv_has ls 5 [(0, .ref (β 0 0)), (1, .int x), (2, .int (nI jj))] → W p l e ({ frames := 2, cells := 0, slots := 0, locals := 80 } : Room) s m ([.ref (β 0 0), .int x] : List Value).toArray below meth c H_1 locs_2 0 0 (MQ below (ix_Q (some (.int (mm_oOrder F1 L n x))) (fun (H9 : Heap) => ix_H G.1 (ix_A β (mm_N G.2.1 β F L) sz) β (mm_N G.2.1 β F1 L) H9) A) ([.ref (β 0 0), .int x] : List Value).toArray s 0 0 A) (F0 m 7 ls []) := by
    intro fu7
    induction fu7 with
    | zero =>
      intro jj hfu hj hno ls hl
      exact absurd hfu (by omega)
    | succ fu7 ih7 =>
      intro jj hfu hj hno ls hl
      refine lv_iload_n hx hb dX11_order_7 rfl (lv_at hl 2 rfl) ?_
      refine lv_aload_n hx hb dX11_order_8 rfl (lv_at hl 0 rfl) ?_
      refine ix_get S hC hH (fs := mm_obj β F1 L) (rfl : mm_N G.2.1 β F1 L 0 0 = _) rfl rfl in_X11 22 (by decide) q854 (fun _ h9 => h9) rfl dX11_order_9 ?_
      refine lv_icmp_ge (tgt := 115) hx hb dX11_order_12 (by decide) (fun c12 => ?_) (fun c12 => ?_)
      · have c12 : n ≤ jj := (ix_nle (a := n) (b := jj) hn0 rfl (by omega) (by omega)).mp c12
        refine lv_iconst (v := (-1)) hx hb dX11_order_115 (by decide) ?_
        have e9 : (-1) = mm_oOrder F1 L n x := (by rw [mm_oOrder, ix_find_none (fun k h => hno k (by omega))])
        exact ix_wI S hr hlocks hS e9 (by rw [← hAe]; exact hH) (by omega) (by omega) dX11_order_116
      · have c12 : ¬ (n ≤ jj) := (not_congr (ix_nle (a := n) (b := jj) hn0 rfl (by omega) (by omega))).mp c12
        refine lv_aload_n hx hb dX11_order_15 rfl (lv_at hl 0 rfl) ?_
        refine ix_get S hC hH (fs := mm_obj β F1 L) (rfl : mm_N G.2.1 β F1 L 0 0 = _) rfl rfl in_X11 14 (by decide) q846 (fun _ h9 => h9) rfl dX11_order_16 ?_
        refine lv_iload_n hx hb dX11_order_19 rfl (lv_at hl 2 rfl) ?_
        refine ix_iald (n := 100) S hC hH (rfl : mm_N G.2.1 β F1 L 14 0 = _) rfl (j := jj) rfl (by omega) (by omega) dX11_order_20 ?_
        refine lv_if_ne (tgt := 109) hx hb dX11_order_21 (by decide) (fun c21 => ?_) (fun c21 => ?_)
        · have hjj : mm_ord F1 L n x jj = false := by simp [mm_ord, c21]
          refine lv_iinc (v := nI (jj + 1)) (lv' := [(2, .int (nI (jj + 1))), (0, .ref (β 0 0)), (1, .int x)]) hx hb dX11_order_109 hl (k := 2) rfl ((ix_nadd rfl (rfl : (1 : Int32) = nI 1))) (by decide) rfl (fun ls hl => ?_)
          refine lv_goto (tgt := 7) hx hb dX11_order_112 (by decide) ?_
          exact ih7 (jj + 1) (by omega) (by omega) (lt_s hno hjj) _ (lv_sub hl [1, 2, 0] rfl)
        · refine lv_aload_n hx hb dX11_order_24 rfl (lv_at hl 0 rfl) ?_
          refine ix_get S hC hH (fs := mm_obj β F1 L) (rfl : mm_N G.2.1 β F1 L 0 0 = _) rfl rfl in_X11 16 (by decide) q848 (fun _ h9 => h9) rfl dX11_order_25 ?_
          refine lv_iload_n hx hb dX11_order_28 rfl (lv_at hl 2 rfl) ?_
          refine ix_zald (n := 100) S hC hH (rfl : mm_N G.2.1 β F1 L 16 0 = _) rfl (j := jj) rfl (by omega) (by omega) dX11_order_29 ?_
          refine lv_if_eq (tgt := 36) hx hb dX11_order_30 (by decide) (fun c30 => ?_) (fun c30 => ?_)
          · refine lv_iconst (v := 0) hx hb dX11_order_36 (by decide) ?_
            refine lv_istore_n (lv' := [(3, .int 0), (0, .ref (β 0 0)), (1, .int x), (2, .int (nI jj))]) hx hb dX11_order_37 rfl hl (by decide) rfl (fun ls hl => ?_)
            refine lv_iconst (v := 0) hx hb dX11_order_38 (by decide) ?_
            refine lv_istore (lv' := [(4, .int 0), (3, .int 0), (0, .ref (β 0 0)), (1, .int x), (2, .int (nI jj))]) hx hb dX11_order_39 hl (by decide) rfl (fun ls hl => ?_)
            have lp41 : ∀ (fu41 : Nat) (k : Nat) (ct : Int32), n + 1 ≤ k + fu41 → (k ≤ n) → (ct = mm_cnt F1 L jj k) → ∀ ls, lv_has ls 5 [(0, .ref (β 0 0)), (1, .int x), (2, .int (nI jj)), (3, .int ct), (4, .int (nI k))] → W p l e ({ frames := 2, cells := 0, slots := 0, locals := 80 } : Room) s m ([.ref (β 0 0), .int x] : List Value).toArray below meth c H_1 locs_2 0 0 (MQ below (ix_Q (some (.int (mm_oOrder F1 L n x))) (fun (H9 : Heap) => ix_H G.1 (ix_A β (mm_N G.2.1 β F L) sz) β (mm_N G.2.1 β F1 L) H9) A) ([.ref (β 0 0), .int x] : List Value).toArray s 0 0 A) (F0 m 41 ls []) := by
              intro fu41
              induction fu41 with
              | zero =>
                intro k ct hfu hk hct ls hl
                exact absurd hfu (by omega)
              | succ fu41 ih41 =>
                intro k ct hfu hk hct ls hl
                refine lv_iload hx hb dX11_order_41 (lv_at hl 4 rfl) ?_
                refine lv_aload_n hx hb dX11_order_43 rfl (lv_at hl 0 rfl) ?_
                refine ix_get S hC hH (fs := mm_obj β F1 L) (rfl : mm_N G.2.1 β F1 L 0 0 = _) rfl rfl in_X11 22 (by decide) q854 (fun _ h9 => h9) rfl dX11_order_44 ?_
                refine lv_icmp_ge (tgt := 100) hx hb dX11_order_47 (by decide) (fun c47 => ?_) (fun c47 => ?_)
                · have c47 : n ≤ k := (ix_nle (a := n) (b := k) hn0 rfl (by omega) (by omega)).mp c47
                  have hkn : k = n := by omega
                  rw [hkn] at hct
                  refine lv_iload_n hx hb dX11_order_100 rfl (lv_at hl 3 rfl) ?_
                  refine lv_iload_n hx hb dX11_order_101 rfl (lv_at hl 1 rfl) ?_
                  refine lv_icmp_ne (tgt := 109) hx hb dX11_order_102 (by decide) (fun c102 => ?_) (fun c102 => ?_)
                  · have hjj : mm_ord F1 L n x jj = false := by simp [mm_ord, ← hct, c102]
                    refine lv_iinc (v := nI (jj + 1)) (lv' := [(2, .int (nI (jj + 1))), (0, .ref (β 0 0)), (1, .int x), (3, .int ct), (4, .int (nI k))]) hx hb dX11_order_109 hl (k := 2) rfl ((ix_nadd rfl (rfl : (1 : Int32) = nI 1))) (by decide) rfl (fun ls hl => ?_)
                    refine lv_goto (tgt := 7) hx hb dX11_order_112 (by decide) ?_
                    exact ih7 (jj + 1) (by omega) (by omega) (lt_s hno hjj) _ (lv_sub hl [1, 2, 0] rfl)
                  · have hjj : mm_ord F1 L n x jj = true := by simp [mm_ord, ← hct, c21, c30, c102]
                    refine lv_iload_n hx hb dX11_order_105 rfl (lv_at hl 2 rfl) ?_
                    refine lv_iconst (v := 1) hx hb dX11_order_106 (by decide) ?_
                    refine lv_iadd hx hb dX11_order_107 ?_
                    have e9 : (nI jj) + 1 = mm_oOrder F1 L n x := (by rw [mm_oOrder, ix_find_some hno (by omega) hjj])
                    exact ix_wI S hr hlocks hS e9 (by rw [← hAe]; exact hH) (by omega) (by omega) dX11_order_108
                · have c47 : ¬ (n ≤ k) := (not_congr (ix_nle (a := n) (b := k) hn0 rfl (by omega) (by omega))).mp c47
                  have jn50 : ∀ (v : Int32), (v = if F1 14 k = 0 ∧ F1 16 k = 0 ∧ ¬ k = jj ∧ mm_ah F1 L k jj = true then 1 else 0) → ∀ ls, lv_has ls 5 [(0, .ref (β 0 0)), (1, .int x), (2, .int (nI jj)), (3, .int ct), (4, .int (nI k))] → W p l e ({ frames := 2, cells := 0, slots := 0, locals := 80 } : Room) s m ([.ref (β 0 0), .int x] : List Value).toArray below meth c H_1 locs_2 0 0 (MQ below (ix_Q (some (.int (mm_oOrder F1 L n x))) (fun (H9 : Heap) => ix_H G.1 (ix_A β (mm_N G.2.1 β F L) sz) β (mm_N G.2.1 β F1 L) H9) A) ([.ref (β 0 0), .int x] : List Value).toArray s 0 0 A) (F0 m 92 ls [.int v, .int ct]) := by
                    intro v hv ls hl
                    refine lv_iadd hx hb dX11_order_92 ?_
                    refine lv_istore_n (lv' := [(3, .int (ct + v)), (0, .ref (β 0 0)), (1, .int x), (2, .int (nI jj)), (4, .int (nI k))]) hx hb dX11_order_93 rfl hl (by decide) rfl (fun ls hl => ?_)
                    refine lv_iinc (v := nI (k + 1)) (lv' := [(4, .int (nI (k + 1))), (3, .int (ct + v)), (0, .ref (β 0 0)), (1, .int x), (2, .int (nI jj))]) hx hb dX11_order_94 hl (k := 4) rfl ((ix_nadd rfl (rfl : (1 : Int32) = nI 1))) (by decide) rfl (fun ls hl => ?_)
                    refine lv_goto (tgt := 41) hx hb dX11_order_97 (by decide) ?_
                    exact ih41 (k + 1) (ct + v) (by omega) (by omega) (by rw [hct, hv]; rfl) _ (lv_sub hl [2, 3, 4, 1, 0] rfl)
                  refine lv_iload_n hx hb dX11_order_50 rfl (lv_at hl 3 rfl) ?_
                  refine lv_aload_n hx hb dX11_order_51 rfl (lv_at hl 0 rfl) ?_
                  refine ix_get S hC hH (fs := mm_obj β F1 L) (rfl : mm_N G.2.1 β F1 L 0 0 = _) rfl rfl in_X11 14 (by decide) q846 (fun _ h9 => h9) rfl dX11_order_52 ?_
                  refine lv_iload hx hb dX11_order_55 (lv_at hl 4 rfl) ?_
                  refine ix_iald (n := 100) S hC hH (rfl : mm_N G.2.1 β F1 L 14 0 = _) rfl (j := k) rfl (by omega) (by omega) dX11_order_57 ?_
                  refine lv_if_ne (tgt := 91) hx hb dX11_order_58 (by decide) (fun c58 => ?_) (fun c58 => ?_)
                  · refine lv_iconst (v := 0) hx hb dX11_order_91 (by decide) ?_
                    exact jn50 0 (by simp [c58]) _ (lv_sub hl [0, 1, 2, 3, 4] rfl)
                  · refine lv_aload_n hx hb dX11_order_61 rfl (lv_at hl 0 rfl) ?_
                    refine ix_get S hC hH (fs := mm_obj β F1 L) (rfl : mm_N G.2.1 β F1 L 0 0 = _) rfl rfl in_X11 16 (by decide) q848 (fun _ h9 => h9) rfl dX11_order_62 ?_
                    refine lv_iload hx hb dX11_order_65 (lv_at hl 4 rfl) ?_
                    refine ix_zald (n := 100) S hC hH (rfl : mm_N G.2.1 β F1 L 16 0 = _) rfl (j := k) rfl (by omega) (by omega) dX11_order_67 ?_
                    refine lv_if_ne (tgt := 91) hx hb dX11_order_68 (by decide) (fun c68 => ?_) (fun c68 => ?_)
                    · refine lv_iconst (v := 0) hx hb dX11_order_91 (by decide) ?_
                      exact jn50 0 (by simp [c58, c68]) _ (lv_sub hl [0, 1, 2, 3, 4] rfl)
                    · refine lv_iload hx hb dX11_order_71 (lv_at hl 4 rfl) ?_
                      refine lv_iload_n hx hb dX11_order_73 rfl (lv_at hl 2 rfl) ?_
                      refine lv_icmp_eq (tgt := 91) hx hb dX11_order_74 (by decide) (fun c74 => ?_) (fun c74 => ?_)
                      · have c74 : k = jj := (ix_neq (a := k) (b := jj) rfl rfl (by omega) (by omega)).mp c74
                        refine lv_iconst (v := 0) hx hb dX11_order_91 (by decide) ?_
                        exact jn50 0 (by simp [c58, c68, c74]) _ (lv_sub hl [0, 1, 2, 3, 4] rfl)
                      · have c74 : ¬ (k = jj) := (not_congr (ix_neq (a := k) (b := jj) rfl rfl (by omega) (by omega))).mp c74
                        refine lv_aload_n hx hb dX11_order_77 rfl (lv_at hl 0 rfl) ?_
                        refine lv_iload hx hb dX11_order_78 (lv_at hl 4 rfl) ?_
                        refine lv_iload_n hx hb dX11_order_80 rfl (lv_at hl 2 rfl) ?_
                        refine ix_rd (W.runV (As := [.int (nI k), .int (nI jj)]) (rest := [.int ct]) S (mm_ah_ l G β F1 L H_1.size k jj (by omega) (by omega)) (cwV 2 hts (lw_V q988 q990 qs17 q34 q991) rfl rfl rfl (by decide +kernel) ⟨Nat.le_of_ble_eq_true rfl, Nat.le_of_ble_eq_true rfl⟩) (ix_preV hC hS hAz hH (ix_recv hC hH (rfl : mm_N G.2.1 β F1 L 0 0 = _) rfl) rfl) rfl rfl hl.1 rfl (lv_room (Nat.le_of_ble_eq_true rfl)) dX11_order_81 ⟨by omega, by omega⟩) ?_
                        refine W.eq (g2 := F0 m 84 ls [.int (ix_b (mm_ah F1 L k jj)), .int ct]) rfl ?_
                        refine lv_if_eq (tgt := 91) hx hb dX11_order_84 (by decide) (fun c84 => ?_) (fun c84 => ?_)
                        · have c84 : (mm_ah F1 L k jj) = false := ix_b_eq.mp c84
                          refine lv_iconst (v := 0) hx hb dX11_order_91 (by decide) ?_
                          exact jn50 0 (by simp [c58, c68, c74, c84]) _ (lv_sub hl [0, 1, 2, 3, 4] rfl)
                        · have c84 : (mm_ah F1 L k jj) = true := ix_b_ne.mp c84
                          refine lv_iconst (v := 1) hx hb dX11_order_87 (by decide) ?_
                          refine lv_goto (tgt := 92) hx hb dX11_order_88 (by decide) ?_
                          exact jn50 1 (by simp [c58, c68, c74, c84]) _ (lv_sub hl [0, 1, 2, 3, 4] rfl)
            exact lp41 (n + 1) 0 0 (by omega) (by omega) rfl _ (lv_sub hl [2, 3, 4, 1, 0] rfl)
          · have hjj : mm_ord F1 L n x jj = false := by simp [mm_ord, c30]
            refine lv_goto (tgt := 109) hx hb dX11_order_33 (by decide) ?_
            refine lv_iinc (v := nI (jj + 1)) (lv' := [(2, .int (nI (jj + 1))), (0, .ref (β 0 0)), (1, .int x)]) hx hb dX11_order_109 hl (k := 2) rfl ((ix_nadd rfl (rfl : (1 : Int32) = nI 1))) (by decide) rfl (fun ls hl => ?_)
            refine lv_goto (tgt := 7) hx hb dX11_order_112 (by decide) ?_
            exact ih7 (jj + 1) (by omega) (by omega) (lt_s hno hjj) _ (lv_sub hl [1, 2, 0] rfl)
  exact lp7 (n + 1) 0 (by omega) (by omega) (fun k h => absurd h (by omega)) _ (lv_sub hl [1, 2, 0] rfl)
set_option maxHeartbeats 4000000 in
set_option maxRecDepth 100000 in
theorem mm_count_ (l : Launch) (G : ix_G) (β : ix_B) (F : mm_F) (L : mm_L) (sz : Nat) (x : Int32) (n ni : Nat) (h100 : n ≤ 100) (h12 : ni ≤ 12) (hn : F 22 0 = nI n) (hi : F 5 0 = nI ni) : Met l yX11_count (ws_ yX11_count cX11_count 4 (some .int)) ({ frames := 2, cells := 0, slots := 0, locals := 80 } : Room) (ix_P G β (mm_N G.2.1 β F L) sz [.ref (β 0 0), .int x]) (ix_Q (some (.int (mm_oCount (mm_0 F) n ni x))) (fun (H9 : Heap) => ix_H G.1 (ix_A β (mm_N G.2.1 β F L) sz) β (mm_N G.2.1 β (mm_0 F) L) H9) (ix_A β (mm_N G.2.1 β F L) sz)) 0 0 (ix_A β (mm_N G.2.1 β F L) sz) := by
  refine ix_writer (by decide +kernel) (Nat.le_of_ble_eq_true rfl) ?_
  intro p e s m below meth c A S hr hlocks hnm hC hsz hH hS hA0 hAz hAe ls hl
  have hx := S.1
  have hb := S.2.1
  have hts := S.2.2.2.2
  have S : CallFix p m c cX11_count 4 s ([.ref (β 0 0), .int x] : List Value).toArray lw_all "InitiatorRowsModel" := S
  have hl : lv_has ls 4 [(0, .ref (β 0 0)), (1, .int x)] := hl
  refine lv_aload_n hx hb dX11_count_0 rfl (lv_at hl 0 rfl) ?_
  refine lv_iconst (v := 0) hx hb dX11_count_1 (by decide) ?_
  refine ix_put S hC hH hS (fs := mm_obj β F L) (rfl : mm_N G.2.1 β F L 0 0 = _) rfl rfl in_X11 tyX11 tyX11_ok nmX11 0 (by decide) q832 (fun _ h9 => h9) rfl (rfl) (rfl) (show 0 < 25 by decide) dX11_count_2 (fun H_1 locs_2 hH hS hz => ?_)
  have hH : ix_H G.1 A β (mm_N G.2.1 β (mm_0 F) L) H_1 := hH.to (mm_putI 0 _ (by decide))
  have hn0 : (mm_0 F) 22 0 = nI n := hn
  have hi0 : (mm_0 F) 5 0 = nI ni := hi
  generalize mm_0 F = F1 at hn0 hi0 hH ⊢
  refine lv_iload_n hx hb dX11_count_5 rfl (lv_at hl 1 rfl) ?_
  by_cases hw0 : x = 0
  · subst hw0
    refine lv_tableIn (tgt := 76) hx hb dX11_count_6 (by decide) (by decide) (off := 70) (by decide) (by decide) ?_
    refine lv_aload_n hx hb dX11_count_76 rfl (lv_at hl 0 rfl) ?_
    refine ix_get S hC hH (fs := mm_obj β F1 L) (rfl : mm_N G.2.1 β F1 L 0 0 = _) rfl rfl in_X11 5 (by decide) q837 (fun _ h9 => h9) rfl dX11_count_77 ?_
    have e9 : F1 5 0 = mm_oCount F1 n ni (0 : Int32) := rfl
    exact ix_wI S hr hlocks hS e9 (by rw [← hAe]; exact hH) (by omega) (by omega) dX11_count_80
  by_cases hw1 : x = 1
  · subst hw1
    refine lv_tableIn (tgt := 81) hx hb dX11_count_6 (by decide) (by decide) (off := 75) (by decide) (by decide) ?_
    refine lv_aload_n hx hb dX11_count_81 rfl (lv_at hl 0 rfl) ?_
    refine ix_get S hC hH (fs := mm_obj β F1 L) (rfl : mm_N G.2.1 β F1 L 0 0 = _) rfl rfl in_X11 22 (by decide) q854 (fun _ h9 => h9) rfl dX11_count_82 ?_
    have e9 : F1 22 0 = mm_oCount F1 n ni (1 : Int32) := rfl
    exact ix_wI S hr hlocks hS e9 (by rw [← hAe]; exact hH) (by omega) (by omega) dX11_count_85
  by_cases hw2 : x = 2
  · subst hw2
    refine lv_tableIn (tgt := 86) hx hb dX11_count_6 (by decide) (by decide) (off := 80) (by decide) (by decide) ?_
    refine lv_aload_n hx hb dX11_count_86 rfl (lv_at hl 0 rfl) ?_
    refine lv_iconst (v := 0) hx hb dX11_count_87 (by decide) ?_
    refine lv_iconst (v := 1) hx hb dX11_count_88 (by decide) ?_
    refine ix_rd (W.runV (As := [.int 0, .int 1]) (rest := []) S (mm_those_ l G β F1 L H_1.size n 0 true hn0 h100) (cwV 2 hts (lw_V q1034 q1036 qs19 q34 q1037) rfl rfl rfl (by decide +kernel) ⟨Nat.le_of_ble_eq_true rfl, Nat.le_of_ble_eq_true rfl⟩) (ix_preV hC hS hAz hH (ix_recv hC hH (rfl : mm_N G.2.1 β F1 L 0 0 = _) rfl) rfl) rfl rfl hl.1 rfl (lv_room (Nat.le_of_ble_eq_true rfl)) dX11_count_89 ⟨by omega, by omega⟩) ?_
    refine W.eq (g2 := F0 m 92 ls [.int (mm_those F1 n 0 true)]) rfl ?_
    have e9 : mm_those F1 n 0 true = mm_oCount F1 n ni (2 : Int32) := rfl
    exact ix_wI S hr hlocks hS e9 (by rw [← hAe]; exact hH) (by omega) (by omega) dX11_count_92
  by_cases hw3 : x = 3
  · subst hw3
    refine lv_tableIn (tgt := 93) hx hb dX11_count_6 (by decide) (by decide) (off := 87) (by decide) (by decide) ?_
    refine lv_aload_n hx hb dX11_count_93 rfl (lv_at hl 0 rfl) ?_
    refine lv_iconst (v := 0) hx hb dX11_count_94 (by decide) ?_
    refine lv_iconst (v := 0) hx hb dX11_count_95 (by decide) ?_
    refine ix_rd (W.runV (As := [.int 0, .int 0]) (rest := []) S (mm_those_ l G β F1 L H_1.size n 0 false hn0 h100) (cwV 2 hts (lw_V q1034 q1036 qs19 q34 q1037) rfl rfl rfl (by decide +kernel) ⟨Nat.le_of_ble_eq_true rfl, Nat.le_of_ble_eq_true rfl⟩) (ix_preV hC hS hAz hH (ix_recv hC hH (rfl : mm_N G.2.1 β F1 L 0 0 = _) rfl) rfl) rfl rfl hl.1 rfl (lv_room (Nat.le_of_ble_eq_true rfl)) dX11_count_96 ⟨by omega, by omega⟩) ?_
    refine W.eq (g2 := F0 m 99 ls [.int (mm_those F1 n 0 false)]) rfl ?_
    have e9 : mm_those F1 n 0 false = mm_oCount F1 n ni (3 : Int32) := rfl
    exact ix_wI S hr hlocks hS e9 (by rw [← hAe]; exact hH) (by omega) (by omega) dX11_count_99
  by_cases hw4 : x = 4
  · subst hw4
    refine lv_tableIn (tgt := 100) hx hb dX11_count_6 (by decide) (by decide) (off := 94) (by decide) (by decide) ?_
    refine lv_aload_n hx hb dX11_count_100 rfl (lv_at hl 0 rfl) ?_
    refine lv_iconst (v := 2) hx hb dX11_count_101 (by decide) ?_
    refine lv_iconst (v := 1) hx hb dX11_count_102 (by decide) ?_
    refine ix_rd (W.runV (As := [.int 2, .int 1]) (rest := []) S (mm_those_ l G β F1 L H_1.size n 2 true hn0 h100) (cwV 2 hts (lw_V q1034 q1036 qs19 q34 q1037) rfl rfl rfl (by decide +kernel) ⟨Nat.le_of_ble_eq_true rfl, Nat.le_of_ble_eq_true rfl⟩) (ix_preV hC hS hAz hH (ix_recv hC hH (rfl : mm_N G.2.1 β F1 L 0 0 = _) rfl) rfl) rfl rfl hl.1 rfl (lv_room (Nat.le_of_ble_eq_true rfl)) dX11_count_103 ⟨by omega, by omega⟩) ?_
    refine W.eq (g2 := F0 m 106 ls [.int (mm_those F1 n 2 true)]) rfl ?_
    have e9 : mm_those F1 n 2 true = mm_oCount F1 n ni (4 : Int32) := rfl
    exact ix_wI S hr hlocks hS e9 (by rw [← hAe]; exact hH) (by omega) (by omega) dX11_count_106
  by_cases hw5 : x = 5
  · subst hw5
    refine lv_tableIn (tgt := 107) hx hb dX11_count_6 (by decide) (by decide) (off := 101) (by decide) (by decide) ?_
    refine lv_iconst (v := 0) hx hb dX11_count_107 (by decide) ?_
    refine lv_istore_n (lv' := [(2, .int 0), (0, .ref (β 0 0)), (1, .int (((5 : Int32))))]) hx hb dX11_count_108 rfl hl (by decide) rfl (fun ls hl => ?_)
    refine lv_iconst (v := 0) hx hb dX11_count_109 (by decide) ?_
    refine lv_istore_n (lv' := [(3, .int 0), (2, .int 0), (0, .ref (β 0 0)), (1, .int (((5 : Int32))))]) hx hb dX11_count_110 rfl hl (by decide) rfl (fun ls hl => ?_)
    have lp111 : ∀ (fu111 : Nat) (k : Nat) (ct : Int32), ni + 1 ≤ k + fu111 → (k ≤ ni) → (ct = mm_idle F1 k) → ∀ ls, lv_has ls 4 [(0, .ref (β 0 0)), (2, .int ct), (3, .int (nI k))] → W p l e ({ frames := 2, cells := 0, slots := 0, locals := 80 } : Room) s m ([.ref (β 0 0), .int ((5 : Int32))] : List Value).toArray below meth c H_1 locs_2 0 0 (MQ below (ix_Q (some (.int (mm_oCount F1 n ni ((5 : Int32))))) (fun (H9 : Heap) => ix_H G.1 (ix_A β (mm_N G.2.1 β F L) sz) β (mm_N G.2.1 β F1 L) H9) A) ([.ref (β 0 0), .int ((5 : Int32))] : List Value).toArray s 0 0 A) (F0 m 111 ls []) := by
      intro fu111
      induction fu111 with
      | zero =>
        intro k ct hfu hk hct ls hl
        exact absurd hfu (by omega)
      | succ fu111 ih111 =>
        intro k ct hfu hk hct ls hl
        refine lv_iload_n hx hb dX11_count_111 rfl (lv_at hl 2 rfl) ?_
        refine lv_aload_n hx hb dX11_count_112 rfl (lv_at hl 0 rfl) ?_
        refine ix_get S hC hH (fs := mm_obj β F1 L) (rfl : mm_N G.2.1 β F1 L 0 0 = _) rfl rfl in_X11 5 (by decide) q837 (fun _ h9 => h9) rfl dX11_count_113 ?_
        refine lv_icmp_ge (tgt := 152) hx hb dX11_count_116 (by decide) (fun c116 => ?_) (fun c116 => ?_)
        · have c116 : ni ≤ k := (ix_nle (a := ni) (b := k) hi0 rfl (by omega) (by omega)).mp c116
          refine lv_iload_n hx hb dX11_count_152 rfl (lv_at hl 1 rfl) ?_
          have e9 : ct = mm_oCount F1 n ni (5 : Int32) := (by rw [hct, show k = ni by omega]; rfl)
          exact ix_wI S hr hlocks hS e9 (by rw [← hAe]; exact hH) (by omega) (by omega) dX11_count_153
        · have c116 : ¬ (ni ≤ k) := (not_congr (ix_nle (a := ni) (b := k) hi0 rfl (by omega) (by omega))).mp c116
          have jn119 : ∀ (v : Int32), (v = if ¬ F1 4 k = 0 ∧ F1 3 k = -1 then 1 else 0) → ∀ ls, lv_has ls 4 [(0, .ref (β 0 0)), (2, .int ct), (3, .int (nI k))] → W p l e ({ frames := 2, cells := 0, slots := 0, locals := 80 } : Room) s m ([.ref (β 0 0), .int ((5 : Int32))] : List Value).toArray below meth c H_1 locs_2 0 0 (MQ below (ix_Q (some (.int (mm_oCount F1 n ni ((5 : Int32))))) (fun (H9 : Heap) => ix_H G.1 (ix_A β (mm_N G.2.1 β F L) sz) β (mm_N G.2.1 β F1 L) H9) A) ([.ref (β 0 0), .int ((5 : Int32))] : List Value).toArray s 0 0 A) (F0 m 144 ls [.int v, .int ct]) := by
            intro v hv ls hl
            refine lv_iadd hx hb dX11_count_144 ?_
            refine lv_istore_n (lv' := [(2, .int (ct + v)), (0, .ref (β 0 0)), (3, .int (nI k))]) hx hb dX11_count_145 rfl hl (by decide) rfl (fun ls hl => ?_)
            refine lv_iinc (v := nI (k + 1)) (lv' := [(3, .int (nI (k + 1))), (2, .int (ct + v)), (0, .ref (β 0 0))]) hx hb dX11_count_146 hl (k := 2) rfl ((ix_nadd rfl (rfl : (1 : Int32) = nI 1))) (by decide) rfl (fun ls hl => ?_)
            refine lv_goto (tgt := 111) hx hb dX11_count_149 (by decide) ?_
            exact ih111 (k + 1) (ct + v) (by omega) (by omega) (by rw [hct, hv]; rfl) _ (lv_sub hl [2, 1, 0] rfl)
          refine lv_iload_n hx hb dX11_count_119 rfl (lv_at hl 1 rfl) ?_
          refine lv_aload_n hx hb dX11_count_120 rfl (lv_at hl 0 rfl) ?_
          refine ix_get S hC hH (fs := mm_obj β F1 L) (rfl : mm_N G.2.1 β F1 L 0 0 = _) rfl rfl in_X11 4 (by decide) q836 (fun _ h9 => h9) rfl dX11_count_121 ?_
          refine lv_iload_n hx hb dX11_count_124 rfl (lv_at hl 2 rfl) ?_
          refine ix_zald (n := 12) S hC hH (rfl : mm_N G.2.1 β F1 L 4 0 = _) rfl (j := k) rfl (by omega) (by omega) dX11_count_125 ?_
          refine lv_if_eq (tgt := 143) hx hb dX11_count_126 (by decide) (fun c126 => ?_) (fun c126 => ?_)
          · refine lv_iconst (v := 0) hx hb dX11_count_143 (by decide) ?_
            exact jn119 0 (by simp [c126]) _ (lv_sub hl [0, 1, 2] rfl)
          · refine lv_aload_n hx hb dX11_count_129 rfl (lv_at hl 0 rfl) ?_
            refine ix_get S hC hH (fs := mm_obj β F1 L) (rfl : mm_N G.2.1 β F1 L 0 0 = _) rfl rfl in_X11 3 (by decide) q835 (fun _ h9 => h9) rfl dX11_count_130 ?_
            refine lv_iload_n hx hb dX11_count_133 rfl (lv_at hl 2 rfl) ?_
            refine ix_iald (n := 12) S hC hH (rfl : mm_N G.2.1 β F1 L 3 0 = _) rfl (j := k) rfl (by omega) (by omega) dX11_count_134 ?_
            refine lv_iconst (v := (-1)) hx hb dX11_count_135 (by decide) ?_
            refine lv_icmp_ne (tgt := 143) hx hb dX11_count_136 (by decide) (fun c136 => ?_) (fun c136 => ?_)
            · refine lv_iconst (v := 0) hx hb dX11_count_143 (by decide) ?_
              exact jn119 0 (by simp [c126, c136]) _ (lv_sub hl [0, 1, 2] rfl)
            · refine lv_iconst (v := 1) hx hb dX11_count_139 (by decide) ?_
              refine lv_goto (tgt := 144) hx hb dX11_count_140 (by decide) ?_
              exact jn119 1 (by simp [c126, c136]) _ (lv_sub hl [0, 1, 2] rfl)
    exact lp111 (ni + 1) 0 0 (by omega) (by omega) rfl _ (lv_sub hl [2, 1, 0] rfl)
  by_cases hw6 : x = 6
  · subst hw6
    refine lv_tableIn (tgt := 163) hx hb dX11_count_6 (by decide) (by decide) (off := 157) (by decide) (by decide) ?_
    refine lv_iconst (v := (-1)) hx hb dX11_count_163 (by decide) ?_
    have e9 : (-1) = mm_oCount F1 n ni (6 : Int32) := rfl
    exact ix_wI S hr hlocks hS e9 (by rw [← hAe]; exact hH) (by omega) (by omega) dX11_count_164
  by_cases hw7 : x = 7
  · subst hw7
    refine lv_tableIn (tgt := 163) hx hb dX11_count_6 (by decide) (by decide) (off := 157) (by decide) (by decide) ?_
    refine lv_iconst (v := (-1)) hx hb dX11_count_163 (by decide) ?_
    have e9 : (-1) = mm_oCount F1 n ni (7 : Int32) := rfl
    exact ix_wI S hr hlocks hS e9 (by rw [← hAe]; exact hH) (by omega) (by omega) dX11_count_164
  by_cases hw8 : x = 8
  · subst hw8
    refine lv_tableIn (tgt := 163) hx hb dX11_count_6 (by decide) (by decide) (off := 157) (by decide) (by decide) ?_
    refine lv_iconst (v := (-1)) hx hb dX11_count_163 (by decide) ?_
    have e9 : (-1) = mm_oCount F1 n ni (8 : Int32) := rfl
    exact ix_wI S hr hlocks hS e9 (by rw [← hAe]; exact hH) (by omega) (by omega) dX11_count_164
  by_cases hw9 : x = 9
  · subst hw9
    refine lv_tableIn (tgt := 163) hx hb dX11_count_6 (by decide) (by decide) (off := 157) (by decide) (by decide) ?_
    refine lv_iconst (v := (-1)) hx hb dX11_count_163 (by decide) ?_
    have e9 : (-1) = mm_oCount F1 n ni (9 : Int32) := rfl
    exact ix_wI S hr hlocks hS e9 (by rw [← hAe]; exact hH) (by omega) (by omega) dX11_count_164
  by_cases hw10 : x = 10
  · subst hw10
    refine lv_tableIn (tgt := 154) hx hb dX11_count_6 (by decide) (by decide) (off := 148) (by decide) (by decide) ?_
    refine lv_aload_n hx hb dX11_count_154 rfl (lv_at hl 0 rfl) ?_
    refine lv_iload_n hx hb dX11_count_155 rfl (lv_at hl 1 rfl) ?_
    refine lv_bipush (v := 10) hx hb dX11_count_156 (by decide) ?_
    refine lv_isub hx hb dX11_count_158 ?_
    refine ix_reI (y := nI 0) (by decide) ?_
    refine ix_rd (W.runV (As := [.int (nI 0)]) (rest := []) S (mm_used_ l G β F1 L H_1.size n 0 hn0 h100 (by omega)) (cwV 1 hts (lw_V q984 q986 qs16 q34 q987) rfl rfl rfl (by decide +kernel) ⟨Nat.le_of_ble_eq_true rfl, Nat.le_of_ble_eq_true rfl⟩) (ix_preV hC hS hAz hH (ix_recv hC hH (rfl : mm_N G.2.1 β F1 L 0 0 = _) rfl) rfl) rfl rfl hl.1 rfl (lv_room (Nat.le_of_ble_eq_true rfl)) dX11_count_159 ⟨by omega, by omega⟩) ?_
    refine W.eq (g2 := F0 m 162 ls [.int (mm_used F1 n 0)]) rfl ?_
    have e9 : mm_used F1 n 0 = mm_oCount F1 n ni (10 : Int32) := rfl
    exact ix_wI S hr hlocks hS e9 (by rw [← hAe]; exact hH) (by omega) (by omega) dX11_count_162
  by_cases hw11 : x = 11
  · subst hw11
    refine lv_tableIn (tgt := 154) hx hb dX11_count_6 (by decide) (by decide) (off := 148) (by decide) (by decide) ?_
    refine lv_aload_n hx hb dX11_count_154 rfl (lv_at hl 0 rfl) ?_
    refine lv_iload_n hx hb dX11_count_155 rfl (lv_at hl 1 rfl) ?_
    refine lv_bipush (v := 10) hx hb dX11_count_156 (by decide) ?_
    refine lv_isub hx hb dX11_count_158 ?_
    refine ix_reI (y := nI 1) (by decide) ?_
    refine ix_rd (W.runV (As := [.int (nI 1)]) (rest := []) S (mm_used_ l G β F1 L H_1.size n 1 hn0 h100 (by omega)) (cwV 1 hts (lw_V q984 q986 qs16 q34 q987) rfl rfl rfl (by decide +kernel) ⟨Nat.le_of_ble_eq_true rfl, Nat.le_of_ble_eq_true rfl⟩) (ix_preV hC hS hAz hH (ix_recv hC hH (rfl : mm_N G.2.1 β F1 L 0 0 = _) rfl) rfl) rfl rfl hl.1 rfl (lv_room (Nat.le_of_ble_eq_true rfl)) dX11_count_159 ⟨by omega, by omega⟩) ?_
    refine W.eq (g2 := F0 m 162 ls [.int (mm_used F1 n 1)]) rfl ?_
    have e9 : mm_used F1 n 1 = mm_oCount F1 n ni (11 : Int32) := rfl
    exact ix_wI S hr hlocks hS e9 (by rw [← hAe]; exact hH) (by omega) (by omega) dX11_count_162
  by_cases hw12 : x = 12
  · subst hw12
    refine lv_tableIn (tgt := 154) hx hb dX11_count_6 (by decide) (by decide) (off := 148) (by decide) (by decide) ?_
    refine lv_aload_n hx hb dX11_count_154 rfl (lv_at hl 0 rfl) ?_
    refine lv_iload_n hx hb dX11_count_155 rfl (lv_at hl 1 rfl) ?_
    refine lv_bipush (v := 10) hx hb dX11_count_156 (by decide) ?_
    refine lv_isub hx hb dX11_count_158 ?_
    refine ix_reI (y := nI 2) (by decide) ?_
    refine ix_rd (W.runV (As := [.int (nI 2)]) (rest := []) S (mm_used_ l G β F1 L H_1.size n 2 hn0 h100 (by omega)) (cwV 1 hts (lw_V q984 q986 qs16 q34 q987) rfl rfl rfl (by decide +kernel) ⟨Nat.le_of_ble_eq_true rfl, Nat.le_of_ble_eq_true rfl⟩) (ix_preV hC hS hAz hH (ix_recv hC hH (rfl : mm_N G.2.1 β F1 L 0 0 = _) rfl) rfl) rfl rfl hl.1 rfl (lv_room (Nat.le_of_ble_eq_true rfl)) dX11_count_159 ⟨by omega, by omega⟩) ?_
    refine W.eq (g2 := F0 m 162 ls [.int (mm_used F1 n 2)]) rfl ?_
    have e9 : mm_used F1 n 2 = mm_oCount F1 n ni (12 : Int32) := rfl
    exact ix_wI S hr hlocks hS e9 (by rw [← hAe]; exact hH) (by omega) (by omega) dX11_count_162
  by_cases hw13 : x = 13
  · subst hw13
    refine lv_tableIn (tgt := 154) hx hb dX11_count_6 (by decide) (by decide) (off := 148) (by decide) (by decide) ?_
    refine lv_aload_n hx hb dX11_count_154 rfl (lv_at hl 0 rfl) ?_
    refine lv_iload_n hx hb dX11_count_155 rfl (lv_at hl 1 rfl) ?_
    refine lv_bipush (v := 10) hx hb dX11_count_156 (by decide) ?_
    refine lv_isub hx hb dX11_count_158 ?_
    refine ix_reI (y := nI 3) (by decide) ?_
    refine ix_rd (W.runV (As := [.int (nI 3)]) (rest := []) S (mm_used_ l G β F1 L H_1.size n 3 hn0 h100 (by omega)) (cwV 1 hts (lw_V q984 q986 qs16 q34 q987) rfl rfl rfl (by decide +kernel) ⟨Nat.le_of_ble_eq_true rfl, Nat.le_of_ble_eq_true rfl⟩) (ix_preV hC hS hAz hH (ix_recv hC hH (rfl : mm_N G.2.1 β F1 L 0 0 = _) rfl) rfl) rfl rfl hl.1 rfl (lv_room (Nat.le_of_ble_eq_true rfl)) dX11_count_159 ⟨by omega, by omega⟩) ?_
    refine W.eq (g2 := F0 m 162 ls [.int (mm_used F1 n 3)]) rfl ?_
    have e9 : mm_used F1 n 3 = mm_oCount F1 n ni (13 : Int32) := rfl
    exact ix_wI S hr hlocks hS e9 (by rw [← hAe]; exact hH) (by omega) (by omega) dX11_count_162
  refine lv_tableOut (tgt := 163) hx hb dX11_count_6 (ix_sw (hi := 13) (fun i hi => match i, hi with | 0, _ => hw0 | 1, _ => hw1 | 2, _ => hw2 | 3, _ => hw3 | 4, _ => hw4 | 5, _ => hw5 | 6, _ => hw6 | 7, _ => hw7 | 8, _ => hw8 | 9, _ => hw9 | 10, _ => hw10 | 11, _ => hw11 | 12, _ => hw12 | 13, _ => hw13 | n9 + 14, h9 => absurd h9 (by omega))) (by decide) ?_
  refine lv_iconst (v := (-1)) hx hb dX11_count_163 (by decide) ?_
  have e9 : (-1) = mm_oCount F1 n ni x := (by simp [mm_oCount, hw0, hw1, hw2, hw3, hw4, hw5, hw10, hw11, hw12, hw13])
  exact ix_wI S hr hlocks hS e9 (by rw [← hAe]; exact hH) (by omega) (by omega) dX11_count_164
set_option maxHeartbeats 4000000 in
set_option maxRecDepth 100000 in
theorem mm_end_ (l : Launch) (G : ix_G) (β : ix_B) (F : mm_F) (L : mm_L) (sz : Nat) (j : Int32) (n : Nat) (h100 : n ≤ 100) (hn : F 22 0 = nI n) : Met l yX11_end (ws_ yX11_end cX11_end 3 (some .int)) ({ frames := 1, cells := 0, slots := 0, locals := 40 } : Room) (ix_P G β (mm_N G.2.1 β F L) sz [.ref (β 0 0), .int j]) (ix_Q (some (.int (mm_oEnd (mm_0 F) L j).1)) (fun (H9 : Heap) => ix_H G.1 (ix_A β (mm_N G.2.1 β F L) sz) β (mm_N G.2.1 β (mm_oEnd (mm_0 F) L j).2.1 (mm_oEnd (mm_0 F) L j).2.2) H9) (ix_A β (mm_N G.2.1 β F L) sz)) 0 0 (ix_A β (mm_N G.2.1 β F L) sz) := by
  refine ix_writer (by decide +kernel) (Nat.le_of_ble_eq_true rfl) ?_
  intro p e s m below meth c A S hr hlocks hnm hC hsz hH hS hA0 hAz hAe ls hl
  have hx := S.1
  have hb := S.2.1
  have hts := S.2.2.2.2
  have S : CallFix p m c cX11_end 3 s ([.ref (β 0 0), .int j] : List Value).toArray lw_all "InitiatorRowsModel" := S
  have hl : lv_has ls 3 [(0, .ref (β 0 0)), (1, .int j)] := hl
  refine lv_aload_n hx hb dX11_end_0 rfl (lv_at hl 0 rfl) ?_
  refine lv_iconst (v := 0) hx hb dX11_end_1 (by decide) ?_
  refine ix_put S hC hH hS (fs := mm_obj β F L) (rfl : mm_N G.2.1 β F L 0 0 = _) rfl rfl in_X11 tyX11 tyX11_ok nmX11 0 (by decide) q832 (fun _ h9 => h9) rfl (rfl) (rfl) (show 0 < 25 by decide) dX11_end_2 (fun H_1 locs_2 hH hS hz => ?_)
  have hH : ix_H G.1 A β (mm_N G.2.1 β (mm_0 F) L) H_1 := hH.to (mm_putI 0 _ (by decide))
  have hn0 : (mm_0 F) 22 0 = nI n := hn
  generalize mm_0 F = F1 at hn0 hH ⊢
  refine lv_aload_n hx hb dX11_end_5 rfl (lv_at hl 0 rfl) ?_
  refine lv_iload_n hx hb dX11_end_6 rfl (lv_at hl 1 rfl) ?_
  refine ix_rd (W.runV (As := [.int j]) (rest := []) S (mm_isJ_ l G β F1 L H_1.size j) (cwV 1 hts (lw_V q947 q949 qs12 q34 q950) rfl rfl rfl (by decide +kernel) ⟨Nat.le_of_ble_eq_true rfl, Nat.le_of_ble_eq_true rfl⟩) (ix_preV hC hS hAz hH (ix_recv hC hH (rfl : mm_N G.2.1 β F1 L 0 0 = _) rfl) rfl) rfl rfl hl.1 rfl (lv_room (Nat.le_of_ble_eq_true rfl)) dX11_end_7 ⟨by omega, by omega⟩) ?_
  refine W.eq (g2 := F0 m 10 ls [.int (ix_b (mm_isJ F1 j))]) rfl ?_
  refine lv_if_ne (tgt := 16) hx hb dX11_end_10 (by decide) (fun c10 => ?_) (fun c10 => ?_)
  · have c10 : (mm_isJ F1 j) = true := ix_b_ne.mp c10
    have kj := mm_isJ_t hn0 h100 c10
    refine lv_aload_n hx hb dX11_end_16 rfl (lv_at hl 0 rfl) ?_
    refine ix_get S hC hH (fs := mm_obj β F1 L) (rfl : mm_N G.2.1 β F1 L 0 0 = _) rfl rfl in_X11 14 (by decide) q846 (fun _ h9 => h9) rfl dX11_end_17 ?_
    refine lv_iload_n hx hb dX11_end_20 rfl (lv_at hl 1 rfl) ?_
    refine lv_iconst (v := 1) hx hb dX11_end_21 (by decide) ?_
    refine lv_isub hx hb dX11_end_22 ?_
    refine ix_iald (n := 100) S hC hH (rfl : mm_N G.2.1 β F1 L 14 0 = _) rfl (j := ((ix_t j)) - 1) (ix_nsub (a := (ix_t j)) (b := 1) kj.1 (rfl : (1 : Int32) = nI 1) (by omega)) (by omega) (by omega) dX11_end_23 ?_
    refine lv_iconst (v := 2) hx hb dX11_end_24 (by decide) ?_
    refine lv_icmp_eq (tgt := 31) hx hb dX11_end_25 (by decide) (fun c25 => ?_) (fun c25 => ?_)
    · refine lv_aload_n hx hb dX11_end_31 rfl (lv_at hl 0 rfl) ?_
      refine ix_get S hC hH (fs := mm_obj β F1 L) (rfl : mm_N G.2.1 β F1 L 0 0 = _) rfl rfl in_X11 14 (by decide) q846 (fun _ h9 => h9) rfl dX11_end_32 ?_
      refine lv_iload_n hx hb dX11_end_35 rfl (lv_at hl 1 rfl) ?_
      refine lv_iconst (v := 1) hx hb dX11_end_36 (by decide) ?_
      refine lv_isub hx hb dX11_end_37 ?_
      refine lv_iconst (v := 3) hx hb dX11_end_38 (by decide) ?_
      refine ix_iast (n := 100) S hC hH hS (rfl : mm_N G.2.1 β F1 L 14 0 = _) rfl (j := ((ix_t j)) - 1) (ix_nsub (a := (ix_t j)) (b := 1) kj.1 (rfl : (1 : Int32) = nI 1) (by omega)) (by omega) (by omega) dX11_end_39 (fun H_3 locs_4 hH hS hz => ?_)
      have hH : ix_H G.1 A β (mm_N G.2.1 β (mm_wr F1 14 (((ix_t j)) - 1) 3) L) H_3 := hH.to (mm_upI 14 rfl)
      refine lv_iconst (v := 0) hx hb dX11_end_40 (by decide) ?_
      refine lv_istore_n (lv' := [(2, .int 0), (0, .ref (β 0 0)), (1, .int j)]) hx hb dX11_end_41 rfl hl (by decide) rfl (fun ls hl => ?_)
      have lp42 : ∀ (fu42 : Nat) (k : Nat) (Fk : mm_F), 12 + 1 ≤ k + fu42 → (k ≤ 12) → (Fk = va_up (mm_wr F1 14 (ix_t j - 1) 3) 3 (mm_ends F1 (ix_t j - 1) k)) → ∀ (H42 : Heap) (locs42 : List Loc), ix_H G.1 A β (mm_N G.2.1 β Fk L) H42 → va_S A s.heap H42 locs42 → ∀ ls, lv_has ls 3 [(0, .ref (β 0 0)), (1, .int j), (2, .int (nI k))] → W p l e ({ frames := 1, cells := 0, slots := 0, locals := 40 } : Room) s m ([.ref (β 0 0), .int j] : List Value).toArray below meth c H42 locs42 0 0 (MQ below (ix_Q (some (.int (mm_oEnd F1 L j).1)) (fun (H9 : Heap) => ix_H G.1 (ix_A β (mm_N G.2.1 β F L) sz) β (mm_N G.2.1 β (mm_oEnd F1 L j).2.1 (mm_oEnd F1 L j).2.2) H9) A) ([.ref (β 0 0), .int j] : List Value).toArray s 0 0 A) (F0 m 42 ls []) := by
        intro fu42
        induction fu42 with
        | zero =>
          intro k Fk hfu hk hFk H42 locs42 hH42 hS42  ls hl
          exact absurd hfu (by omega)
        | succ fu42 ih42 =>
          intro k Fk hfu hk hFk H42 locs42 hH42 hS42  ls hl
          refine lv_iload_n hx hb dX11_end_42 rfl (lv_at hl 2 rfl) ?_
          refine lv_bipush (v := 12) hx hb dX11_end_43 (by decide) ?_
          refine lv_icmp_ge (tgt := 82) hx hb dX11_end_45 (by decide) (fun c45 => ?_) (fun c45 => ?_)
          · have c45 : 12 ≤ k := (ix_nle (a := 12) (b := k) (rfl : (12 : Int32) = nI 12) rfl (by omega) (by omega)).mp c45
            have hkn : k = 12 := by omega
            rw [hkn] at hFk
            refine lv_iconst (v := 1) hx hb dX11_end_82 (by decide) ?_
            have e9 : mm_oEnd F1 L j = (1, Fk, L) := (by rw [hFk]; simp [mm_oEnd, c10, c25])
            exact ix_wI S hr hlocks hS42 (congrArg Prod.fst e9).symm (by rw [← hAe, e9]; exact hH42) (by omega) (by omega) dX11_end_83
          · have c45 : ¬ (12 ≤ k) := (not_congr (ix_nle (a := 12) (b := k) (rfl : (12 : Int32) = nI 12) rfl (by omega) (by omega))).mp c45
            refine lv_aload_n hx hb dX11_end_48 rfl (lv_at hl 0 rfl) ?_
            refine ix_get S hC hH42 (fs := mm_obj β Fk L) (rfl : mm_N G.2.1 β Fk L 0 0 = _) rfl rfl in_X11 3 (by decide) q835 (fun _ h9 => h9) rfl dX11_end_49 ?_
            refine lv_iload_n hx hb dX11_end_52 rfl (lv_at hl 2 rfl) ?_
            have jn53 : ∀ (v : Int32), (v = if F1 3 k = nI (ix_t j - 1) then -1 else F1 3 k) → ∀ ls, lv_has ls 3 [(0, .ref (β 0 0)), (1, .int j), (2, .int (nI k))] → W p l e ({ frames := 1, cells := 0, slots := 0, locals := 40 } : Room) s m ([.ref (β 0 0), .int j] : List Value).toArray below meth c H42 locs42 0 0 (MQ below (ix_Q (some (.int (mm_oEnd F1 L j).1)) (fun (H9 : Heap) => ix_H G.1 (ix_A β (mm_N G.2.1 β F L) sz) β (mm_N G.2.1 β (mm_oEnd F1 L j).2.1 (mm_oEnd F1 L j).2.2) H9) A) ([.ref (β 0 0), .int j] : List Value).toArray s 0 0 A) (F0 m 75 ls [.int v, .int (nI k), .ref (β 3 0)]) := by
              intro v hv ls hl
              refine ix_iast (n := 12) S hC hH42 hS42 (rfl : mm_N G.2.1 β Fk L 3 0 = _) rfl (j := k) rfl (by omega) (by omega) dX11_end_75 (fun H_5 locs_6 hH hS hz => ?_)
              have hH : ix_H G.1 A β (mm_N G.2.1 β (mm_wr Fk 3 k v) L) H_5 := hH.to (mm_upI 3 rfl)
              refine lv_iinc (v := nI (k + 1)) (lv' := [(2, .int (nI (k + 1))), (0, .ref (β 0 0)), (1, .int j)]) hx hb dX11_end_76 hl (k := 2) rfl ((ix_nadd rfl (rfl : (1 : Int32) = nI 1))) (by decide) rfl (fun ls hl => ?_)
              refine lv_goto (tgt := 42) hx hb dX11_end_79 (by decide) ?_
              exact ih42 (k + 1) (mm_wr Fk 3 k v) (by omega) (by omega) (by rw [hFk, hv]; exact mm_ends_s (by decide)) _ _ hH hS  _ (lv_sub hl [1, 2, 0] rfl)
            refine lv_aload_n hx hb dX11_end_53 rfl (lv_at hl 0 rfl) ?_
            refine ix_get S hC hH42 (fs := mm_obj β Fk L) (rfl : mm_N G.2.1 β Fk L 0 0 = _) rfl rfl in_X11 3 (by decide) q835 (fun _ h9 => h9) rfl dX11_end_54 ?_
            refine lv_iload_n hx hb dX11_end_57 rfl (lv_at hl 2 rfl) ?_
            refine ix_iald (n := 12) S hC hH42 (rfl : mm_N G.2.1 β Fk L 3 0 = _) rfl (j := k) rfl (by omega) (by omega) dX11_end_58 ?_
            refine lv_iload_n hx hb dX11_end_59 rfl (lv_at hl 1 rfl) ?_
            refine lv_iconst (v := 1) hx hb dX11_end_60 (by decide) ?_
            refine lv_isub hx hb dX11_end_61 ?_
            refine ix_reI (y := nI (ix_t j - 1)) (ix_nsub kj.1 rfl (by omega)) ?_
            refine lv_icmp_ne (tgt := 69) hx hb dX11_end_62 (by decide) (fun c62 => ?_) (fun c62 => ?_)
            · refine lv_aload_n hx hb dX11_end_69 rfl (lv_at hl 0 rfl) ?_
              refine ix_get S hC hH42 (fs := mm_obj β Fk L) (rfl : mm_N G.2.1 β Fk L 0 0 = _) rfl rfl in_X11 3 (by decide) q835 (fun _ h9 => h9) rfl dX11_end_70 ?_
              refine lv_iload_n hx hb dX11_end_73 rfl (lv_at hl 2 rfl) ?_
              refine ix_iald (n := 12) S hC hH42 (rfl : mm_N G.2.1 β Fk L 3 0 = _) rfl (j := k) rfl (by omega) (by omega) dX11_end_74 ?_
              exact jn53 (Fk 3 k) (by have hFF : Fk 3 k = F1 3 k := (by rw [hFk]; exact mm_ends_k); rw [hFF] at c62 ⊢; simp [c62]) _ (lv_sub hl [0, 1, 2] rfl)
            · refine lv_iconst (v := (-1)) hx hb dX11_end_65 (by decide) ?_
              refine lv_goto (tgt := 75) hx hb dX11_end_66 (by decide) ?_
              exact jn53 ((-1)) (by have hFF : Fk 3 k = F1 3 k := (by rw [hFk]; exact mm_ends_k); rw [hFF] at c62; simp [c62]) _ (lv_sub hl [0, 1, 2] rfl)
      exact lp42 (12 + 1) 0 (mm_wr F1 14 (((ix_t j)) - 1) 3) (by omega) (by omega) (mm_ends_0 (by decide)).symm _ _ hH hS  _ (lv_sub hl [1, 2, 0] rfl)
    · refine lv_bipush (v := (-5)) hx hb dX11_end_28 (by decide) ?_
      have e9 : mm_oEnd F1 L j = ((-5), F1, L) := by simp [mm_oEnd, c10, c25]
      exact ix_wI S hr hlocks hS (congrArg Prod.fst e9).symm (by rw [← hAe, e9]; exact hH) (by omega) (by omega) dX11_end_30
  · have c10 : (mm_isJ F1 j) = false := ix_b_eq.mp c10
    refine lv_bipush (v := (-2)) hx hb dX11_end_13 (by decide) ?_
    have e9 : mm_oEnd F1 L j = ((-2), F1, L) := by simp [mm_oEnd, c10]
    exact ix_wI S hr hlocks hS (congrArg Prod.fst e9).symm (by rw [← hAe, e9]; exact hH) (by omega) (by omega) dX11_end_15
set_option maxHeartbeats 4000000 in
set_option maxRecDepth 100000 in
theorem mm_share_ (l : Launch) (G : ix_G) (β : ix_B) (F : mm_F) (L : mm_L) (sz : Nat) (k : Int32) (al : Int64) : Met l yX11_share (ws_ yX11_share cX11_share 18 (some .long)) ({ frames := 1, cells := 0, slots := 0, locals := 40 } : Room) (ix_P G β (mm_N G.2.1 β F L) sz [.ref (β 0 0), .int k, .long al]) (ix_Q (some (.long (mm_oShare (mm_0 F) k al).1)) (fun (H9 : Heap) => ix_H G.1 (ix_A β (mm_N G.2.1 β F L) sz) β (mm_N G.2.1 β (mm_oShare (mm_0 F) k al).2 L) H9) (ix_A β (mm_N G.2.1 β F L) sz)) 0 0 (ix_A β (mm_N G.2.1 β F L) sz) := by
  refine ix_writer (by decide +kernel) (Nat.le_of_ble_eq_true rfl) ?_
  intro p e s m below meth c A S hr hlocks hnm hC hsz hH hS hA0 hAz hAe ls hl
  have hx := S.1
  have hb := S.2.1
  have hts := S.2.2.2.2
  have S : CallFix p m c cX11_share 18 s ([.ref (β 0 0), .int k, .long al] : List Value).toArray lw_all "InitiatorRowsModel" := S
  have hl : lv_has ls 18 [(0, .ref (β 0 0)), (1, .int k), (2, .long al)] := hl
  refine lv_aload_n hx hb dX11_share_0 rfl (lv_at hl 0 rfl) ?_
  refine lv_iconst (v := 0) hx hb dX11_share_1 (by decide) ?_
  refine ix_put S hC hH hS (fs := mm_obj β F L) (rfl : mm_N G.2.1 β F L 0 0 = _) rfl rfl in_X11 tyX11 tyX11_ok nmX11 0 (by decide) q832 (fun _ h9 => h9) rfl (rfl) (rfl) (show 0 < 25 by decide) dX11_share_2 (fun H_1 locs_2 hH hS hz => ?_)
  have hH : ix_H G.1 A β (mm_N G.2.1 β (mm_0 F) L) H_1 := hH.to (mm_putI 0 _ (by decide))
  generalize mm_0 F = F1 at hH ⊢
  refine lv_iload_n hx hb dX11_share_5 rfl (lv_at hl 1 rfl) ?_
  refine ix_rd (W.runS (As := [.int k]) (rest := []) S (mm_isC_ l G β F1 L H_1.size k) (va_cwS 1 hts (lw_S q925 q926 q34 q927) rfl rfl rfl (by decide +kernel) ⟨Nat.le_of_ble_eq_true rfl, Nat.le_of_ble_eq_true rfl⟩) (ix_pre hC hS hAz hH rfl) rfl rfl hl.1 rfl (lv_room (Nat.le_of_ble_eq_true rfl)) dX11_share_6 ⟨by omega, by omega⟩) ?_
  refine W.eq (g2 := F0 m 9 ls [.int (ix_b (mm_isC k))]) rfl ?_
  refine lv_if_eq (tgt := 18) hx hb dX11_share_9 (by decide) (fun c9 => ?_) (fun c9 => ?_)
  · have c9 : (mm_isC k) = false := ix_b_eq.mp c9
    refine lv_ldc2 hx hb S.2.2.2.1 (hts _ q1017) dX11_share_18 ?_
    have e9 : mm_oShare F1 k al = (-1, F1) := by simp [mm_oShare, c9]
    exact ix_wL S hr hlocks hS (congrArg Prod.fst e9).symm (by rw [← hAe, e9]; exact hH) (by omega) (by omega) dX11_share_21
  · have c9 : (mm_isC k) = true := ix_b_ne.mp c9
    have kk := mm_isC_t c9
    refine lv_lload_n hx hb dX11_share_12 rfl (lv_at hl 2 rfl) ?_
    refine lv_lconst (v := 0) hx hb dX11_share_13 (by decide) ?_
    refine W.lcmp hx hb dX11_share_14 ?_
    refine lv_if_ge (tgt := 22) hx hb dX11_share_15 (by decide) (fun c15 => ?_) (fun c15 => ?_)
    · have c15 : ¬ (al < 0) := Int64.not_lt.mpr ((lg_cmp_ge _ _).mp c15)
      refine lv_lconst (v := 0) hx hb dX11_share_22 (by decide) ?_
      refine lv_lstore (lv' := [(4, .long 0), (0, .ref (β 0 0)), (1, .int k), (2, .long al)]) hx hb dX11_share_23 hl (by decide) rfl (fun ls hl => ?_)
      refine lv_iconst (v := 0) hx hb dX11_share_25 (by decide) ?_
      refine lv_istore (lv' := [(6, .int 0), (4, .long 0), (0, .ref (β 0 0)), (1, .int k), (2, .long al)]) hx hb dX11_share_26 hl (by decide) rfl (fun ls hl => ?_)
      have lp28 : ∀ (fu28 : Nat) (k1 : Nat) (sm : Int64), 36 + 1 ≤ k1 + fu28 → (k1 ≤ 36) → (sm = mm_ws F1 k1) → ∀ ls, lv_has ls 18 [(0, .ref (β 0 0)), (1, .int k), (2, .long al), (4, .long sm), (6, .int (nI k1))] → W p l e ({ frames := 1, cells := 0, slots := 0, locals := 40 } : Room) s m ([.ref (β 0 0), .int k, .long al] : List Value).toArray below meth c H_1 locs_2 0 0 (MQ below (ix_Q (some (.long (mm_oShare F1 k al).1)) (fun (H9 : Heap) => ix_H G.1 (ix_A β (mm_N G.2.1 β F L) sz) β (mm_N G.2.1 β (mm_oShare F1 k al).2 L) H9) A) ([.ref (β 0 0), .int k, .long al] : List Value).toArray s 0 0 A) (F0 m 28 ls []) := by
        intro fu28
        induction fu28 with
        | zero =>
          intro k1 sm hfu hk1 hs ls hl
          exact absurd hfu (by omega)
        | succ fu28 ih28 =>
          intro k1 sm hfu hk1 hs ls hl
          refine lv_iload hx hb dX11_share_28 (lv_at hl 4 rfl) ?_
          refine lv_bipush (v := 36) hx hb dX11_share_30 (by decide) ?_
          refine lv_icmp_ge (tgt := 54) hx hb dX11_share_32 (by decide) (fun c32 => ?_) (fun c32 => ?_)
          · have c32 : 36 ≤ k1 := (ix_nle (a := 36) (b := k1) (rfl : (36 : Int32) = nI 36) rfl (by omega) (by omega)).mp c32
            have hk36 : k1 = 36 := by omega
            rw [hk36] at hs
            refine lv_lload hx hb dX11_share_54 (lv_at hl 3 rfl) ?_
            refine lv_lconst (v := 0) hx hb dX11_share_56 (by decide) ?_
            refine W.lcmp hx hb dX11_share_57 ?_
            refine lv_if_ne (tgt := 68) hx hb dX11_share_58 (by decide) (fun c58 => ?_) (fun c58 => ?_)
            · have c58 : ¬ (sm = 0) := (not_congr (lg_cmp_eq _ _)).mp c58
              refine lv_lload_n hx hb dX11_share_68 rfl (lv_at hl 2 rfl) ?_
              refine lv_lload hx hb dX11_share_69 (lv_at hl 3 rfl) ?_
              refine lv_ldiv hx hb dX11_share_71 (c58) ?_
              refine lv_topl (fun q eq => ?_)
              refine lv_lstore (lv' := [(6, .long q), (0, .ref (β 0 0)), (1, .int k), (2, .long al), (4, .long sm)]) hx hb dX11_share_72 hl (by decide) rfl (fun ls hl => ?_)
              refine lv_lload_n hx hb dX11_share_74 rfl (lv_at hl 3 rfl) ?_
              refine lv_lload hx hb dX11_share_75 (lv_at hl 4 rfl) ?_
              refine lv_lrem hx hb dX11_share_77 (c58) ?_
              refine lv_topl (fun r er => ?_)
              refine lv_lstore (lv' := [(8, .long r), (6, .long q), (0, .ref (β 0 0)), (1, .int k), (2, .long al), (4, .long sm)]) hx hb dX11_share_78 hl (by decide) rfl (fun ls hl => ?_)
              refine lv_lload_n hx hb dX11_share_80 rfl (lv_at hl 4 rfl) ?_
              refine lv_lstore (lv' := [(10, .long al), (8, .long r), (6, .long q), (0, .ref (β 0 0)), (1, .int k), (2, .long al), (4, .long sm)]) hx hb dX11_share_81 hl (by decide) rfl (fun ls hl => ?_)
              refine lv_iconst (v := 0) hx hb dX11_share_83 (by decide) ?_
              refine lv_istore (lv' := [(12, .int 0), (10, .long al), (8, .long r), (6, .long q), (0, .ref (β 0 0)), (1, .int k), (2, .long al), (4, .long sm)]) hx hb dX11_share_84 hl (by decide) rfl (fun ls hl => ?_)
              refine lv_lload hx hb dX11_share_86 (lv_at hl 2 rfl) ?_
              refine lv_aload_n hx hb dX11_share_88 rfl (lv_at hl 4 rfl) ?_
              refine ix_get S hC hH (fs := mm_obj β F1 L) (rfl : mm_N G.2.1 β F1 L 0 0 = _) rfl rfl in_X11 9 (by decide) q841 (fun _ h9 => h9) rfl dX11_share_89 ?_
              refine lv_iload_n hx hb dX11_share_92 rfl (lv_at hl 5 rfl) ?_
              refine ix_iald (n := 36) S hC hH (rfl : mm_N G.2.1 β F1 L 9 0 = _) rfl (j := (ix_t k)) kk.1 (by omega) (by omega) dX11_share_93 ?_
              refine lv_i2l (v := (F1 9 ((ix_t k))).toInt64) hx hb dX11_share_94 rfl ?_
              refine lv_lmul hx hb dX11_share_95 ?_
              refine lv_lload hx hb dX11_share_96 (lv_at hl 7 rfl) ?_
              refine lv_lrem hx hb dX11_share_98 (c58) ?_
              refine ix_reL (y := mm_rr F1 r sm (ix_t k)) (rfl) ?_
              refine lv_lstore (lv' := [(13, .long (mm_rr F1 r sm (ix_t k))), (12, .int 0), (10, .long al), (8, .long r), (6, .long q), (0, .ref (β 0 0)), (1, .int k), (2, .long al), (4, .long sm)]) hx hb dX11_share_99 hl (by decide) rfl (fun ls hl => ?_)
              refine lv_iconst (v := 0) hx hb dX11_share_101 (by decide) ?_
              refine lv_istore (lv' := [(15, .int 0), (13, .long (mm_rr F1 r sm (ix_t k))), (12, .int 0), (10, .long al), (8, .long r), (6, .long q), (0, .ref (β 0 0)), (1, .int k), (2, .long al), (4, .long sm)]) hx hb dX11_share_102 hl (by decide) rfl (fun ls hl => ?_)
              have lp104 : ∀ (fu104 : Nat) (k2 : Nat) (lf : Int64) (ad : Int32), 36 + 1 ≤ k2 + fu104 → (k2 ≤ 36) → (lf = mm_left F1 q r sm al k2) → (ad = mm_ahd F1 r sm (ix_t k) k2) → ∀ ls, lv_has ls 18 [(0, .ref (β 0 0)), (1, .int k), (2, .long al), (4, .long sm), (6, .long q), (8, .long r), (10, .long lf), (12, .int ad), (13, .long (mm_rr F1 r sm (ix_t k))), (15, .int (nI k2))] → W p l e ({ frames := 1, cells := 0, slots := 0, locals := 40 } : Room) s m ([.ref (β 0 0), .int k, .long al] : List Value).toArray below meth c H_1 locs_2 0 0 (MQ below (ix_Q (some (.long (mm_oShare F1 k al).1)) (fun (H9 : Heap) => ix_H G.1 (ix_A β (mm_N G.2.1 β F L) sz) β (mm_N G.2.1 β (mm_oShare F1 k al).2 L) H9) A) ([.ref (β 0 0), .int k, .long al] : List Value).toArray s 0 0 A) (F0 m 104 ls []) := by
                intro fu104
                induction fu104 with
                | zero =>
                  intro k2 lf ad hfu hk2 hlf had ls hl
                  exact absurd hfu (by omega)
                | succ fu104 ih104 =>
                  intro k2 lf ad hfu hk2 hlf had ls hl
                  refine lv_iload hx hb dX11_share_104 (lv_at hl 9 rfl) ?_
                  refine lv_bipush (v := 36) hx hb dX11_share_106 (by decide) ?_
                  refine lv_icmp_ge (tgt := 196) hx hb dX11_share_108 (by decide) (fun c108 => ?_) (fun c108 => ?_)
                  · have c108 : 36 ≤ k2 := (ix_nle (a := 36) (b := k2) (rfl : (36 : Int32) = nI 36) rfl (by omega) (by omega)).mp c108
                    have hk362 : k2 = 36 := by omega
                    rw [hk362] at hlf had
                    refine lv_lload hx hb dX11_share_196 (lv_at hl 4 rfl) ?_
                    refine lv_aload_n hx hb dX11_share_198 rfl (lv_at hl 0 rfl) ?_
                    refine ix_get S hC hH (fs := mm_obj β F1 L) (rfl : mm_N G.2.1 β F1 L 0 0 = _) rfl rfl in_X11 9 (by decide) q841 (fun _ h9 => h9) rfl dX11_share_199 ?_
                    refine lv_iload_n hx hb dX11_share_202 rfl (lv_at hl 1 rfl) ?_
                    refine ix_iald (n := 36) S hC hH (rfl : mm_N G.2.1 β F1 L 9 0 = _) rfl (j := (ix_t k)) kk.1 (by omega) (by omega) dX11_share_203 ?_
                    refine lv_i2l (v := (F1 9 ((ix_t k))).toInt64) hx hb dX11_share_204 rfl ?_
                    refine lv_lmul hx hb dX11_share_205 ?_
                    refine lv_lload hx hb dX11_share_206 (lv_at hl 5 rfl) ?_
                    refine lv_aload_n hx hb dX11_share_208 rfl (lv_at hl 0 rfl) ?_
                    refine ix_get S hC hH (fs := mm_obj β F1 L) (rfl : mm_N G.2.1 β F1 L 0 0 = _) rfl rfl in_X11 9 (by decide) q841 (fun _ h9 => h9) rfl dX11_share_209 ?_
                    refine lv_iload_n hx hb dX11_share_212 rfl (lv_at hl 1 rfl) ?_
                    refine ix_iald (n := 36) S hC hH (rfl : mm_N G.2.1 β F1 L 9 0 = _) rfl (j := (ix_t k)) kk.1 (by omega) (by omega) dX11_share_213 ?_
                    refine lv_i2l (v := (F1 9 ((ix_t k))).toInt64) hx hb dX11_share_214 rfl ?_
                    refine lv_lmul hx hb dX11_share_215 ?_
                    refine lv_lload hx hb dX11_share_216 (lv_at hl 3 rfl) ?_
                    refine lv_ldiv hx hb dX11_share_218 (c58) ?_
                    refine lv_ladd hx hb dX11_share_219 ?_
                    refine lv_iload hx hb dX11_share_220 (lv_at hl 7 rfl) ?_
                    refine lv_i2l (v := ad.toInt64) hx hb dX11_share_222 rfl ?_
                    refine lv_lload hx hb dX11_share_223 (lv_at hl 6 rfl) ?_
                    refine W.lcmp hx hb dX11_share_225 ?_
                    refine lv_if_ge (tgt := 233) hx hb dX11_share_226 (by decide) (fun c226 => ?_) (fun c226 => ?_)
                    · have c226 : ¬ (ad.toInt64 < lf) := Int64.not_lt.mpr ((lg_cmp_ge _ _).mp c226)
                      refine lv_lconst (v := 0) hx hb dX11_share_233 (by decide) ?_
                      refine lv_ladd hx hb dX11_share_234 ?_
                      have e9 : mm_oShare F1 k al = (((q * ((F1 9 ((ix_t k))).toInt64)) + ((r * ((F1 9 ((ix_t k))).toInt64)) / sm)) + 0, F1) := (by rw [mm_oShare, ← hs, if_neg (by simp [c9, c15]), if_neg c58, ← er, ← eq, mm_shr, ← hlf, ← had]; first | (rw [if_pos c226]; rfl) | (rw [if_neg c226]; rfl))
                      exact ix_wL S hr hlocks hS (congrArg Prod.fst e9).symm (by rw [← hAe, e9]; exact hH) (by omega) (by omega) dX11_share_235
                    · have c226 : ad.toInt64 < lf := Int64.not_le.mp ((not_congr (lg_cmp_ge _ _)).mp c226)
                      refine lv_lconst (v := 1) hx hb dX11_share_229 (by decide) ?_
                      refine lv_goto (tgt := 234) hx hb dX11_share_230 (by decide) ?_
                      refine lv_ladd hx hb dX11_share_234 ?_
                      have e9 : mm_oShare F1 k al = (((q * ((F1 9 ((ix_t k))).toInt64)) + ((r * ((F1 9 ((ix_t k))).toInt64)) / sm)) + 1, F1) := (by rw [mm_oShare, ← hs, if_neg (by simp [c9, c15]), if_neg c58, ← er, ← eq, mm_shr, ← hlf, ← had]; first | (rw [if_pos c226]; rfl) | (rw [if_neg c226]; rfl))
                      exact ix_wL S hr hlocks hS (congrArg Prod.fst e9).symm (by rw [← hAe, e9]; exact hH) (by omega) (by omega) dX11_share_235
                  · have c108 : ¬ (36 ≤ k2) := (not_congr (ix_nle (a := 36) (b := k2) (rfl : (36 : Int32) = nI 36) rfl (by omega) (by omega))).mp c108
                    refine lv_lload hx hb dX11_share_111 (lv_at hl 6 rfl) ?_
                    refine lv_lload hx hb dX11_share_113 (lv_at hl 4 rfl) ?_
                    refine lv_aload_n hx hb dX11_share_115 rfl (lv_at hl 0 rfl) ?_
                    refine ix_get S hC hH (fs := mm_obj β F1 L) (rfl : mm_N G.2.1 β F1 L 0 0 = _) rfl rfl in_X11 9 (by decide) q841 (fun _ h9 => h9) rfl dX11_share_116 ?_
                    refine lv_iload hx hb dX11_share_119 (lv_at hl 9 rfl) ?_
                    refine ix_iald (n := 36) S hC hH (rfl : mm_N G.2.1 β F1 L 9 0 = _) rfl (j := k2) rfl (by omega) (by omega) dX11_share_121 ?_
                    refine lv_i2l (v := (F1 9 k2).toInt64) hx hb dX11_share_122 rfl ?_
                    refine lv_lmul hx hb dX11_share_123 ?_
                    refine lv_lload hx hb dX11_share_124 (lv_at hl 5 rfl) ?_
                    refine lv_aload_n hx hb dX11_share_126 rfl (lv_at hl 0 rfl) ?_
                    refine ix_get S hC hH (fs := mm_obj β F1 L) (rfl : mm_N G.2.1 β F1 L 0 0 = _) rfl rfl in_X11 9 (by decide) q841 (fun _ h9 => h9) rfl dX11_share_127 ?_
                    refine lv_iload hx hb dX11_share_130 (lv_at hl 9 rfl) ?_
                    refine ix_iald (n := 36) S hC hH (rfl : mm_N G.2.1 β F1 L 9 0 = _) rfl (j := k2) rfl (by omega) (by omega) dX11_share_132 ?_
                    refine lv_i2l (v := (F1 9 k2).toInt64) hx hb dX11_share_133 rfl ?_
                    refine lv_lmul hx hb dX11_share_134 ?_
                    refine lv_lload hx hb dX11_share_135 (lv_at hl 3 rfl) ?_
                    refine lv_ldiv hx hb dX11_share_137 (c58) ?_
                    refine lv_ladd hx hb dX11_share_138 ?_
                    refine lv_lsub hx hb dX11_share_139 ?_
                    refine lv_lstore (lv' := [(10, .long (lf - ((q * ((F1 9 k2).toInt64)) + ((r * ((F1 9 k2).toInt64)) / sm)))), (0, .ref (β 0 0)), (1, .int k), (2, .long al), (4, .long sm), (6, .long q), (8, .long r), (12, .int ad), (13, .long (mm_rr F1 r sm (ix_t k))), (15, .int (nI k2))]) hx hb dX11_share_140 hl (by decide) rfl (fun ls hl => ?_)
                    refine lv_lload hx hb dX11_share_142 (lv_at hl 6 rfl) ?_
                    refine lv_aload_n hx hb dX11_share_144 rfl (lv_at hl 1 rfl) ?_
                    refine ix_get S hC hH (fs := mm_obj β F1 L) (rfl : mm_N G.2.1 β F1 L 0 0 = _) rfl rfl in_X11 9 (by decide) q841 (fun _ h9 => h9) rfl dX11_share_145 ?_
                    refine lv_iload hx hb dX11_share_148 (lv_at hl 9 rfl) ?_
                    refine ix_iald (n := 36) S hC hH (rfl : mm_N G.2.1 β F1 L 9 0 = _) rfl (j := k2) rfl (by omega) (by omega) dX11_share_150 ?_
                    refine lv_i2l (v := (F1 9 k2).toInt64) hx hb dX11_share_151 rfl ?_
                    refine lv_lmul hx hb dX11_share_152 ?_
                    refine lv_lload hx hb dX11_share_153 (lv_at hl 4 rfl) ?_
                    refine lv_lrem hx hb dX11_share_155 (c58) ?_
                    refine ix_reL (y := mm_rr F1 r sm k2) (rfl) ?_
                    refine lv_lstore (lv' := [(16, .long (mm_rr F1 r sm k2)), (10, .long (lf - ((q * ((F1 9 k2).toInt64)) + ((r * ((F1 9 k2).toInt64)) / sm)))), (0, .ref (β 0 0)), (1, .int k), (2, .long al), (4, .long sm), (6, .long q), (8, .long r), (12, .int ad), (13, .long (mm_rr F1 r sm (ix_t k))), (15, .int (nI k2))]) hx hb dX11_share_156 hl (by decide) rfl (fun ls hl => ?_)
                    refine lv_iload hx hb dX11_share_158 (lv_at hl 8 rfl) ?_
                    have jn160 : ∀ (v : Int32), (v = if mm_rr F1 r sm (ix_t k) < mm_rr F1 r sm k2 ∨ (mm_rr F1 r sm k2 = mm_rr F1 r sm (ix_t k) ∧ k2 < ix_t k) then 1 else 0) → ∀ ls, lv_has ls 18 [(16, .long (mm_rr F1 r sm k2)), (10, .long (lf - ((q * ((F1 9 k2).toInt64)) + ((r * ((F1 9 k2).toInt64)) / sm)))), (0, .ref (β 0 0)), (1, .int k), (2, .long al), (4, .long sm), (6, .long q), (8, .long r), (12, .int ad), (13, .long (mm_rr F1 r sm (ix_t k))), (15, .int (nI k2))] → W p l e ({ frames := 1, cells := 0, slots := 0, locals := 40 } : Room) s m ([.ref (β 0 0), .int k, .long al] : List Value).toArray below meth c H_1 locs_2 0 0 (MQ below (ix_Q (some (.long (mm_oShare F1 k al).1)) (fun (H9 : Heap) => ix_H G.1 (ix_A β (mm_N G.2.1 β F L) sz) β (mm_N G.2.1 β (mm_oShare F1 k al).2 L) H9) A) ([.ref (β 0 0), .int k, .long al] : List Value).toArray s 0 0 A) (F0 m 187 ls [.int v, .int ad]) := by
                      intro v hv ls hl
                      refine lv_iadd hx hb dX11_share_187 ?_
                      refine lv_istore (lv' := [(12, .int (ad + v)), (16, .long (mm_rr F1 r sm k2)), (10, .long (lf - ((q * ((F1 9 k2).toInt64)) + ((r * ((F1 9 k2).toInt64)) / sm)))), (0, .ref (β 0 0)), (1, .int k), (2, .long al), (4, .long sm), (6, .long q), (8, .long r), (13, .long (mm_rr F1 r sm (ix_t k))), (15, .int (nI k2))]) hx hb dX11_share_188 hl (by decide) rfl (fun ls hl => ?_)
                      refine lv_iinc (v := nI (k2 + 1)) (lv' := [(15, .int (nI (k2 + 1))), (12, .int (ad + v)), (16, .long (mm_rr F1 r sm k2)), (10, .long (lf - ((q * ((F1 9 k2).toInt64)) + ((r * ((F1 9 k2).toInt64)) / sm)))), (0, .ref (β 0 0)), (1, .int k), (2, .long al), (4, .long sm), (6, .long q), (8, .long r), (13, .long (mm_rr F1 r sm (ix_t k)))]) hx hb dX11_share_190 hl (k := 10) rfl ((ix_nadd rfl (rfl : (1 : Int32) = nI 1))) (by decide) rfl (fun ls hl => ?_)
                      refine lv_goto (tgt := 104) hx hb dX11_share_193 (by decide) ?_
                      exact ih104 (k2 + 1) (lf - ((q * ((F1 9 k2).toInt64)) + ((r * ((F1 9 k2).toInt64)) / sm))) (ad + v) (by omega) (by omega) (by rw [hlf]; rfl) (by rw [had, hv]; rfl) _ (lv_sub hl [4, 5, 6, 7, 8, 9, 3, 1, 10, 0] rfl)
                    refine lv_lload hx hb dX11_share_160 (lv_at hl 0 rfl) ?_
                    refine lv_lload hx hb dX11_share_162 (lv_at hl 9 rfl) ?_
                    refine W.lcmp hx hb dX11_share_164 ?_
                    refine lv_if_gt (tgt := 182) hx hb dX11_share_165 (by decide) (fun c165 => ?_) (fun c165 => ?_)
                    · have c165 : mm_rr F1 r sm (ix_t k) < mm_rr F1 r sm k2 := (lg_cmp_gt _ _).mp c165
                      refine lv_iconst (v := 1) hx hb dX11_share_182 (by decide) ?_
                      refine lv_goto (tgt := 187) hx hb dX11_share_183 (by decide) ?_
                      exact jn160 1 (by simp [c165]) _ (lv_sub hl [0, 1, 2, 3, 4, 5, 6, 7, 8, 9, 10] rfl)
                    · have c165 : ¬ (mm_rr F1 r sm (ix_t k) < mm_rr F1 r sm k2) := (not_congr (lg_cmp_gt _ _)).mp c165
                      refine lv_lload hx hb dX11_share_168 (lv_at hl 0 rfl) ?_
                      refine lv_lload hx hb dX11_share_170 (lv_at hl 9 rfl) ?_
                      refine W.lcmp hx hb dX11_share_172 ?_
                      refine lv_if_ne (tgt := 186) hx hb dX11_share_173 (by decide) (fun c173 => ?_) (fun c173 => ?_)
                      · have c173 : ¬ (mm_rr F1 r sm k2 = mm_rr F1 r sm (ix_t k)) := (not_congr (lg_cmp_eq _ _)).mp c173
                        refine lv_iconst (v := 0) hx hb dX11_share_186 (by decide) ?_
                        exact jn160 0 (by simp [c165, c173]) _ (lv_sub hl [0, 1, 2, 3, 4, 5, 6, 7, 8, 9, 10] rfl)
                      · have c173 : mm_rr F1 r sm k2 = mm_rr F1 r sm (ix_t k) := (lg_cmp_eq _ _).mp c173
                        refine lv_iload hx hb dX11_share_176 (lv_at hl 10 rfl) ?_
                        refine lv_iload_n hx hb dX11_share_178 rfl (lv_at hl 3 rfl) ?_
                        refine lv_icmp_ge (tgt := 186) hx hb dX11_share_179 (by decide) (fun c179 => ?_) (fun c179 => ?_)
                        · have c179 : (ix_t k) ≤ k2 := (ix_nle (a := (ix_t k)) (b := k2) kk.1 rfl (by omega) (by omega)).mp c179
                          refine lv_iconst (v := 0) hx hb dX11_share_186 (by decide) ?_
                          exact jn160 0 (by simp [c165, c173, c179]) _ (lv_sub hl [0, 1, 2, 3, 4, 5, 6, 7, 8, 9, 10] rfl)
                        · have c179 : ¬ ((ix_t k) ≤ k2) := (not_congr (ix_nle (a := (ix_t k)) (b := k2) kk.1 rfl (by omega) (by omega))).mp c179
                          refine lv_iconst (v := 1) hx hb dX11_share_182 (by decide) ?_
                          refine lv_goto (tgt := 187) hx hb dX11_share_183 (by decide) ?_
                          exact jn160 1 (by simp [c165, c173, c179]) _ (lv_sub hl [0, 1, 2, 3, 4, 5, 6, 7, 8, 9, 10] rfl)
              exact lp104 (36 + 1) 0 al 0 (by omega) (by omega) rfl rfl _ (lv_sub hl [6, 7, 8, 9, 5, 4, 3, 2, 1, 0] rfl)
            · have c58 : sm = 0 := (lg_cmp_eq _ _).mp c58
              refine lv_aload_n hx hb dX11_share_61 rfl (lv_at hl 0 rfl) ?_
              refine lv_iconst (v := 1) hx hb dX11_share_62 (by decide) ?_
              refine ix_put S hC hH hS (fs := mm_obj β F1 L) (rfl : mm_N G.2.1 β F1 L 0 0 = _) rfl rfl in_X11 tyX11 tyX11_ok nmX11 0 (by decide) q832 (fun _ h9 => h9) rfl (rfl) (rfl) (show 0 < 25 by decide) dX11_share_63 (fun H_3 locs_4 hH hS hz => ?_)
              have hH : ix_H G.1 A β (mm_N G.2.1 β (mm_st F1 0 1) L) H_3 := hH.to (mm_putI 0 _ (by decide))
              refine lv_lconst (v := 0) hx hb dX11_share_66 (by decide) ?_
              have e9 : mm_oShare F1 k al = (0, mm_st F1 0 1) := (by rw [mm_oShare, ← hs, if_neg (by simp [c9, c15]), if_pos c58])
              exact ix_wL S hr hlocks hS (congrArg Prod.fst e9).symm (by rw [← hAe, e9]; exact hH) (by omega) (by omega) dX11_share_67
          · have c32 : ¬ (36 ≤ k1) := (not_congr (ix_nle (a := 36) (b := k1) (rfl : (36 : Int32) = nI 36) rfl (by omega) (by omega))).mp c32
            refine lv_lload hx hb dX11_share_35 (lv_at hl 3 rfl) ?_
            refine lv_aload_n hx hb dX11_share_37 rfl (lv_at hl 0 rfl) ?_
            refine ix_get S hC hH (fs := mm_obj β F1 L) (rfl : mm_N G.2.1 β F1 L 0 0 = _) rfl rfl in_X11 9 (by decide) q841 (fun _ h9 => h9) rfl dX11_share_38 ?_
            refine lv_iload hx hb dX11_share_41 (lv_at hl 4 rfl) ?_
            refine ix_iald (n := 36) S hC hH (rfl : mm_N G.2.1 β F1 L 9 0 = _) rfl (j := k1) rfl (by omega) (by omega) dX11_share_43 ?_
            refine lv_i2l (v := (F1 9 k1).toInt64) hx hb dX11_share_44 rfl ?_
            refine lv_ladd hx hb dX11_share_45 ?_
            refine lv_lstore (lv' := [(4, .long (sm + ((F1 9 k1).toInt64))), (0, .ref (β 0 0)), (1, .int k), (2, .long al), (6, .int (nI k1))]) hx hb dX11_share_46 hl (by decide) rfl (fun ls hl => ?_)
            refine lv_iinc (v := nI (k1 + 1)) (lv' := [(6, .int (nI (k1 + 1))), (4, .long (sm + ((F1 9 k1).toInt64))), (0, .ref (β 0 0)), (1, .int k), (2, .long al)]) hx hb dX11_share_48 hl (k := 4) rfl ((ix_nadd rfl (rfl : (1 : Int32) = nI 1))) (by decide) rfl (fun ls hl => ?_)
            refine lv_goto (tgt := 28) hx hb dX11_share_51 (by decide) ?_
            exact ih28 (k1 + 1) (sm + ((F1 9 k1).toInt64)) (by omega) (by omega) (by rw [hs]; rfl) _ (lv_sub hl [2, 3, 4, 1, 0] rfl)
      exact lp28 (36 + 1) 0 0 (by omega) (by omega) rfl _ (lv_sub hl [2, 3, 4, 1, 0] rfl)
    · have c15 : al < 0 := Int64.not_le.mp ((not_congr (lg_cmp_ge _ _)).mp c15)
      refine lv_ldc2 hx hb S.2.2.2.1 (hts _ q1017) dX11_share_18 ?_
      have e9 : mm_oShare F1 k al = (-1, F1) := by simp [mm_oShare, c9, c15]
      exact ix_wL S hr hlocks hS (congrArg Prod.fst e9).symm (by rw [← hAe, e9]; exact hH) (by omega) (by omega) dX11_share_21
