/-! THE REFERENCE: mayStart -/
set_option maxHeartbeats 4000000 in
set_option maxRecDepth 100000 in
theorem mm_may_ (l : Launch) (G : ix_G) (β : ix_B) (F : mm_F) (L : mm_L) (sz : Nat) (n jb : Nat) (hn : F 22 0 = nI n) (h100 : n ≤ 100) (hjb : jb < n) (hcl : mm_cl F n) : Met l yX11_mayStart (ws_ yX11_mayStart cX11_mayStart 8 (some .boolean)) ({ frames := 2, cells := 0, slots := 0, locals := 80 } : Room) (ix_P G β (mm_N G.2.1 β F L) sz [.ref (β 0 0), .int (nI jb)]) (ix_R (some (.int (ix_b (mm_may F L n jb))))) 0 0 (fun _ => False) := by
  refine ix_reader (by decide +kernel) (Nat.le_of_ble_eq_true rfl) ?_
  intro p e s m below meth c S hr hlocks hC hH hS ls hl
  have hAz : ∀ q, ix_z G q → ix_z G q := fun _ h => h
  have hx := S.1
  have hb := S.2.1
  have hts := S.2.2.2.2
  have S : CallFix p m c cX11_mayStart 8 s ([.ref (β 0 0), .int (nI jb)] : List Value).toArray lw_all "InitiatorRowsModel" := S
  have hl : lv_has ls 8 [(0, .ref (β 0 0)), (1, .int (nI jb))] := hl
  refine lv_aload_n hx hb dX11_mayStart_0 rfl (lv_at hl 0 rfl) ?_
  refine ix_get S hC hH (fs := mm_obj β F L) (rfl : mm_N G.2.1 β F L 0 0 = _) rfl rfl in_X11 14 (by decide) q846 (fun _ h9 => h9) rfl dX11_mayStart_1 ?_
  refine lv_iload_n hx hb dX11_mayStart_4 rfl (lv_at hl 1 rfl) ?_
  refine ix_iald (n := 100) S hC hH (rfl : mm_N G.2.1 β F L 14 0 = _) rfl (j := jb) rfl (by omega) (by omega) dX11_mayStart_5 ?_
  refine lv_if_ne (tgt := 31) hx hb dX11_mayStart_6 (by decide) (fun c6 => ?_) (fun c6 => ?_)
  · refine lv_iconst (v := 0) hx hb dX11_mayStart_31 (by decide) ?_
    exact ix_rZ S hr hlocks (by simp [ix_b, mm_may, c6]) dX11_mayStart_32
  · refine lv_aload_n hx hb dX11_mayStart_9 rfl (lv_at hl 0 rfl) ?_
    refine ix_get S hC hH (fs := mm_obj β F L) (rfl : mm_N G.2.1 β F L 0 0 = _) rfl rfl in_X11 16 (by decide) q848 (fun _ h9 => h9) rfl dX11_mayStart_10 ?_
    refine lv_iload_n hx hb dX11_mayStart_13 rfl (lv_at hl 1 rfl) ?_
    refine ix_zald (n := 100) S hC hH (rfl : mm_N G.2.1 β F L 16 0 = _) rfl (j := jb) rfl (by omega) (by omega) dX11_mayStart_14 ?_
    refine lv_if_ne (tgt := 31) hx hb dX11_mayStart_15 (by decide) (fun c15 => ?_) (fun c15 => ?_)
    · refine lv_iconst (v := 0) hx hb dX11_mayStart_31 (by decide) ?_
      exact ix_rZ S hr hlocks (by simp [ix_b, mm_may, c6, c15]) dX11_mayStart_32
    · refine lv_aload_n hx hb dX11_mayStart_18 rfl (lv_at hl 0 rfl) ?_
      refine lv_aload_n hx hb dX11_mayStart_19 rfl (lv_at hl 0 rfl) ?_
      refine ix_get S hC hH (fs := mm_obj β F L) (rfl : mm_N G.2.1 β F L 0 0 = _) rfl rfl in_X11 11 (by decide) q843 (fun _ h9 => h9) rfl dX11_mayStart_20 ?_
      refine lv_iload_n hx hb dX11_mayStart_23 rfl (lv_at hl 1 rfl) ?_
      refine ix_iald (n := 100) S hC hH (rfl : mm_N G.2.1 β F L 11 0 = _) rfl (j := jb) rfl (by omega) (by omega) dX11_mayStart_24 ?_
      refine ix_rd (W.runV (As := [.int (F 11 jb)]) (rest := []) S (mm_open_ l G β F L s.heap.size (ix_t (F 11 jb)) (hcl jb hjb).2) (cwV 1 hts (lw_V q979 q981 qs15 q34 q982) rfl rfl rfl (by decide +kernel) ⟨Nat.le_of_ble_eq_true rfl, Nat.le_of_ble_eq_true rfl⟩) (ix_preV hC hS hAz hH (ix_recv hC hH (rfl : mm_N G.2.1 β F L 0 0 = _) rfl) (by rw [← (hcl jb hjb).1])) rfl rfl hl.1 rfl (lv_room (Nat.le_of_ble_eq_true rfl)) dX11_mayStart_25 ⟨Nat.le_refl _, Nat.le_refl _⟩) ?_
      refine W.eq (g2 := F0 m 28 ls [.int (ix_b (mm_open F L (ix_t (F 11 jb))))]) rfl ?_
      refine lv_if_ne (tgt := 33) hx hb dX11_mayStart_28 (by decide) (fun c28 => ?_) (fun c28 => ?_)
      · have c28 : (mm_open F L (ix_t (F 11 jb))) = true := ix_b_ne.mp c28
        refine lv_iconst (v := 0) hx hb dX11_mayStart_33 (by decide) ?_
        refine lv_istore_n (lv' := [(2, .int 0), (0, .ref (β 0 0)), (1, .int (nI jb))]) hx hb dX11_mayStart_34 rfl hl (by decide) rfl (fun ls hl => ?_)
        refine lv_iconst (v := 1) hx hb dX11_mayStart_35 (by decide) ?_
        refine lv_istore_n (lv' := [(3, .int 1), (2, .int 0), (0, .ref (β 0 0)), (1, .int (nI jb))]) hx hb dX11_mayStart_36 rfl hl (by decide) rfl (fun ls hl => ?_)
        refine lv_iconst (v := 0) hx hb dX11_mayStart_37 (by decide) ?_
        refine lv_istore (lv' := [(4, .int 0), (3, .int 1), (2, .int 0), (0, .ref (β 0 0)), (1, .int (nI jb))]) hx hb dX11_mayStart_38 hl (by decide) rfl (fun ls hl => ?_)
        refine lv_iconst (v := 0) hx hb dX11_mayStart_40 (by decide) ?_
        refine lv_istore (lv' := [(5, .int 0), (4, .int 0), (3, .int 1), (2, .int 0), (0, .ref (β 0 0)), (1, .int (nI jb))]) hx hb dX11_mayStart_41 hl (by decide) rfl (fun ls hl => ?_)
        refine lv_iconst (v := 0) hx hb dX11_mayStart_43 (by decide) ?_
        refine lv_istore (lv' := [(6, .int 0), (5, .int 0), (4, .int 0), (3, .int 1), (2, .int 0), (0, .ref (β 0 0)), (1, .int (nI jb))]) hx hb dX11_mayStart_44 hl (by decide) rfl (fun ls hl => ?_)
        have lp46 : ∀ (fu46 : Nat) (k : Nat) (sm : Int32) (fr : Bool) (an : Bool) (nd : Bool), n + 1 ≤ k + fu46 → (k ≤ n) → (sm = mm_same F jb k) → (fr = mm_free F jb k) → (an = mm_any F k) → (nd = mm_ndd F jb k) → ∀ ls, lv_has ls 8 [(0, .ref (β 0 0)), (1, .int (nI jb)), (2, .int sm), (3, .int (ix_b fr)), (4, .int (ix_b an)), (5, .int (ix_b nd)), (6, .int (nI k))] → W p l e ({ frames := 2, cells := 0, slots := 0, locals := 80 } : Room) s m ([.ref (β 0 0), .int (nI jb)] : List Value).toArray below meth c s.heap ([]) 0 0 (MQ below (ix_R (some (.int (ix_b (mm_may F L n jb))))) ([.ref (β 0 0), .int (nI jb)] : List Value).toArray s 0 0 (fun _ => False)) (F0 m 46 ls []) := by
          intro fu46
          induction fu46 with
          | zero =>
            intro k sm fr an nd hfu hk hsm hfr han hnd ls hl
            exact absurd hfu (by omega)
          | succ fu46 ih46 =>
            intro k sm fr an nd hfu hk hsm hfr han hnd ls hl
            refine lv_iload hx hb dX11_mayStart_46 (lv_at hl 6 rfl) ?_
            refine lv_aload_n hx hb dX11_mayStart_48 rfl (lv_at hl 0 rfl) ?_
            refine ix_get S hC hH (fs := mm_obj β F L) (rfl : mm_N G.2.1 β F L 0 0 = _) rfl rfl in_X11 22 (by decide) q854 (fun _ h9 => h9) rfl dX11_mayStart_49 ?_
            refine lv_icmp_ge (tgt := 204) hx hb dX11_mayStart_52 (by decide) (fun c52 => ?_) (fun c52 => ?_)
            · have c52 : n ≤ k := (ix_nle (a := n) (b := k) hn rfl (by omega) (by omega)).mp c52
              have hkn : k = n := by omega
              rw [hkn] at hsm hfr han hnd
              refine lv_iconst (v := 1) hx hb dX11_mayStart_204 (by decide) ?_
              refine lv_istore (lv' := [(6, .int 1), (0, .ref (β 0 0)), (1, .int (nI jb)), (2, .int sm), (3, .int (ix_b fr)), (4, .int (ix_b an)), (5, .int (ix_b nd))]) hx hb dX11_mayStart_205 hl (by decide) rfl (fun ls hl => ?_)
              refine lv_iconst (v := 0) hx hb dX11_mayStart_207 (by decide) ?_
              refine lv_istore (lv' := [(7, .int 0), (6, .int 1), (0, .ref (β 0 0)), (1, .int (nI jb)), (2, .int sm), (3, .int (ix_b fr)), (4, .int (ix_b an)), (5, .int (ix_b nd))]) hx hb dX11_mayStart_208 hl (by decide) rfl (fun ls hl => ?_)
              have lp210 : ∀ (fu210 : Nat) (k4 : Nat) (rm : Bool), 4 + 1 ≤ k4 + fu210 → (k4 ≤ 4) → (rm = mm_room F jb n k4) → ∀ ls, lv_has ls 8 [(0, .ref (β 0 0)), (1, .int (nI jb)), (2, .int sm), (3, .int (ix_b fr)), (4, .int (ix_b an)), (5, .int (ix_b nd)), (6, .int (ix_b rm)), (7, .int (nI k4))] → W p l e ({ frames := 2, cells := 0, slots := 0, locals := 80 } : Room) s m ([.ref (β 0 0), .int (nI jb)] : List Value).toArray below meth c s.heap ([]) 0 0 (MQ below (ix_R (some (.int (ix_b (mm_may F L n jb))))) ([.ref (β 0 0), .int (nI jb)] : List Value).toArray s 0 0 (fun _ => False)) (F0 m 210 ls []) := by
                intro fu210
                induction fu210 with
                | zero =>
                  intro k4 rm hfu hk4 hrm ls hl
                  exact absurd hfu (by omega)
                | succ fu210 ih210 =>
                  intro k4 rm hfu hk4 hrm ls hl
                  refine lv_iload hx hb dX11_mayStart_210 (lv_at hl 7 rfl) ?_
                  refine lv_iconst (v := 4) hx hb dX11_mayStart_212 (by decide) ?_
                  refine lv_icmp_ge (tgt := 262) hx hb dX11_mayStart_213 (by decide) (fun c213 => ?_) (fun c213 => ?_)
                  · have c213 : 4 ≤ k4 := (ix_nle (a := 4) (b := k4) (rfl : (4 : Int32) = nI 4) rfl (by omega) (by omega)).mp c213
                    have hk44 : k4 = 4 := by omega
                    rw [hk44] at hrm
                    refine lv_iload_n hx hb dX11_mayStart_262 rfl (lv_at hl 3 rfl) ?_
                    refine lv_if_eq (tgt := 309) hx hb dX11_mayStart_263 (by decide) (fun c263 => ?_) (fun c263 => ?_)
                    · have c263 : fr = false := ix_b_eq.mp c263
                      refine lv_iconst (v := 0) hx hb dX11_mayStart_309 (by decide) ?_
                      exact ix_rZ S hr hlocks (by simp [ix_b, mm_may, ← hsm, ← hfr, ← han, ← hnd, ← hrm, c6, c15, c28, c263]) dX11_mayStart_310
                    · have c263 : fr = true := ix_b_ne.mp c263
                      refine lv_iload hx hb dX11_mayStart_266 (lv_at hl 5 rfl) ?_
                      refine lv_if_ne (tgt := 309) hx hb dX11_mayStart_268 (by decide) (fun c268 => ?_) (fun c268 => ?_)
                      · have c268 : nd = true := ix_b_ne.mp c268
                        refine lv_iconst (v := 0) hx hb dX11_mayStart_309 (by decide) ?_
                        exact ix_rZ S hr hlocks (by simp [ix_b, mm_may, ← hsm, ← hfr, ← han, ← hnd, ← hrm, c6, c15, c28, c263, c268]) dX11_mayStart_310
                      · have c268 : nd = false := ix_b_eq.mp c268
                        refine lv_iload hx hb dX11_mayStart_271 (lv_at hl 6 rfl) ?_
                        refine lv_if_eq (tgt := 309) hx hb dX11_mayStart_273 (by decide) (fun c273 => ?_) (fun c273 => ?_)
                        · have c273 : rm = false := ix_b_eq.mp c273
                          refine lv_iconst (v := 0) hx hb dX11_mayStart_309 (by decide) ?_
                          exact ix_rZ S hr hlocks (by simp [ix_b, mm_may, ← hsm, ← hfr, ← han, ← hnd, ← hrm, c6, c15, c28, c263, c268, c273]) dX11_mayStart_310
                        · have c273 : rm = true := ix_b_ne.mp c273
                          refine lv_iload_n hx hb dX11_mayStart_276 rfl (lv_at hl 2 rfl) ?_
                          refine lv_aload_n hx hb dX11_mayStart_277 rfl (lv_at hl 0 rfl) ?_
                          refine ix_get S hC hH (fs := mm_obj β F L) (rfl : mm_N G.2.1 β F L 0 0 = _) rfl rfl in_X11 6 (by decide) q838 (fun _ h9 => h9) rfl dX11_mayStart_278 ?_
                          refine lv_aload_n hx hb dX11_mayStart_281 rfl (lv_at hl 0 rfl) ?_
                          refine ix_get S hC hH (fs := mm_obj β F L) (rfl : mm_N G.2.1 β F L 0 0 = _) rfl rfl in_X11 11 (by decide) q843 (fun _ h9 => h9) rfl dX11_mayStart_282 ?_
                          refine lv_iload_n hx hb dX11_mayStart_285 rfl (lv_at hl 1 rfl) ?_
                          refine ix_iald (n := 100) S hC hH (rfl : mm_N G.2.1 β F L 11 0 = _) rfl (j := jb) rfl (by omega) (by omega) dX11_mayStart_286 ?_
                          refine ix_iald (n := 36) S hC hH (rfl : mm_N G.2.1 β F L 6 0 = _) rfl (j := (ix_t (F 11 jb))) (hcl jb hjb).1 ((hcl jb hjb).2) (by omega) dX11_mayStart_287 ?_
                          refine lv_icmp_ge (tgt := 309) hx hb dX11_mayStart_288 (by decide) (fun c288 => ?_) (fun c288 => ?_)
                          · have c288 : ¬ (sm < F 6 ((ix_t (F 11 jb)))) := Int32.not_lt.mpr c288
                            refine lv_iconst (v := 0) hx hb dX11_mayStart_309 (by decide) ?_
                            exact ix_rZ S hr hlocks (by simp [ix_b, mm_may, ← hsm, ← hfr, ← han, ← hnd, ← hrm, c6, c15, c28, c263, c268, c273, c288]) dX11_mayStart_310
                          · have c288 : sm < F 6 ((ix_t (F 11 jb))) := Int32.not_le.mp c288
                            refine lv_aload_n hx hb dX11_mayStart_291 rfl (lv_at hl 0 rfl) ?_
                            refine ix_get S hC hH (fs := mm_obj β F L) (rfl : mm_N G.2.1 β F L 0 0 = _) rfl rfl in_X11 17 (by decide) q849 (fun _ h9 => h9) rfl dX11_mayStart_292 ?_
                            refine lv_iload_n hx hb dX11_mayStart_295 rfl (lv_at hl 1 rfl) ?_
                            refine ix_zald (n := 100) S hC hH (rfl : mm_N G.2.1 β F L 17 0 = _) rfl (j := jb) rfl (by omega) (by omega) dX11_mayStart_296 ?_
                            refine lv_if_eq (tgt := 305) hx hb dX11_mayStart_297 (by decide) (fun c297 => ?_) (fun c297 => ?_)
                            · refine lv_iconst (v := 1) hx hb dX11_mayStart_305 (by decide) ?_
                              refine lv_goto (tgt := 310) hx hb dX11_mayStart_306 (by decide) ?_
                              exact ix_rZ S hr hlocks (by simp [ix_b, mm_may, ← hsm, ← hfr, ← han, ← hnd, ← hrm, c6, c15, c28, c263, c268, c273, c288, c297]) dX11_mayStart_310
                            · refine lv_iload hx hb dX11_mayStart_300 (lv_at hl 4 rfl) ?_
                              refine lv_if_ne (tgt := 309) hx hb dX11_mayStart_302 (by decide) (fun c302 => ?_) (fun c302 => ?_)
                              · have c302 : an = true := ix_b_ne.mp c302
                                refine lv_iconst (v := 0) hx hb dX11_mayStart_309 (by decide) ?_
                                exact ix_rZ S hr hlocks (by simp [ix_b, mm_may, ← hsm, ← hfr, ← han, ← hnd, ← hrm, c6, c15, c28, c263, c268, c273, c288, c297, c302]) dX11_mayStart_310
                              · have c302 : an = false := ix_b_eq.mp c302
                                refine lv_iconst (v := 1) hx hb dX11_mayStart_305 (by decide) ?_
                                refine lv_goto (tgt := 310) hx hb dX11_mayStart_306 (by decide) ?_
                                exact ix_rZ S hr hlocks (by simp [ix_b, mm_may, ← hsm, ← hfr, ← han, ← hnd, ← hrm, c6, c15, c28, c263, c268, c273, c288, c297, c302]) dX11_mayStart_310
                  · have c213 : ¬ (4 ≤ k4) := (not_congr (ix_nle (a := 4) (b := k4) (rfl : (4 : Int32) = nI 4) rfl (by omega) (by omega))).mp c213
                    have jn216 : ∀ (rm2 : Bool), (rm2 = (rm && !decide (F 10 k4 < F 15 (4 * jb + k4) + mm_used F n k4))) → ∀ ls, lv_has ls 8 [(0, .ref (β 0 0)), (1, .int (nI jb)), (2, .int sm), (3, .int (ix_b fr)), (4, .int (ix_b an)), (5, .int (ix_b nd)), (6, .int (ix_b rm)), (7, .int (nI k4))] → W p l e ({ frames := 2, cells := 0, slots := 0, locals := 80 } : Room) s m ([.ref (β 0 0), .int (nI jb)] : List Value).toArray below meth c s.heap ([]) 0 0 (MQ below (ix_R (some (.int (ix_b (mm_may F L n jb))))) ([.ref (β 0 0), .int (nI jb)] : List Value).toArray s 0 0 (fun _ => False)) (F0 m 254 ls [.int (ix_b rm2)]) := by
                      intro rm2 hrm2 ls hl
                      refine lv_istore (lv' := [(6, .int (ix_b rm2)), (0, .ref (β 0 0)), (1, .int (nI jb)), (2, .int sm), (3, .int (ix_b fr)), (4, .int (ix_b an)), (5, .int (ix_b nd)), (7, .int (nI k4))]) hx hb dX11_mayStart_254 hl (by decide) rfl (fun ls hl => ?_)
                      refine lv_iinc (v := nI (k4 + 1)) (lv' := [(7, .int (nI (k4 + 1))), (6, .int (ix_b rm2)), (0, .ref (β 0 0)), (1, .int (nI jb)), (2, .int sm), (3, .int (ix_b fr)), (4, .int (ix_b an)), (5, .int (ix_b nd))]) hx hb dX11_mayStart_256 hl (k := 7) rfl ((ix_nadd rfl (rfl : (1 : Int32) = nI 1))) (by decide) rfl (fun ls hl => ?_)
                      refine lv_goto (tgt := 210) hx hb dX11_mayStart_259 (by decide) ?_
                      exact ih210 (k4 + 1) rm2 (by omega) (by omega) (by rw [hrm2, hrm]; rfl) _ (lv_sub hl [2, 3, 4, 5, 6, 7, 1, 0] rfl)
                    refine lv_iload hx hb dX11_mayStart_216 (lv_at hl 6 rfl) ?_
                    refine lv_if_eq (tgt := 253) hx hb dX11_mayStart_218 (by decide) (fun c218 => ?_) (fun c218 => ?_)
                    · have c218 : rm = false := ix_b_eq.mp c218
                      refine lv_iconst (v := 0) hx hb dX11_mayStart_253 (by decide) ?_
                      exact jn216 false (by simp [c218]) _ (lv_sub hl [0, 1, 2, 3, 4, 5, 6, 7] rfl)
                    · have c218 : rm = true := ix_b_ne.mp c218
                      refine lv_aload_n hx hb dX11_mayStart_221 rfl (lv_at hl 0 rfl) ?_
                      refine ix_get S hC hH (fs := mm_obj β F L) (rfl : mm_N G.2.1 β F L 0 0 = _) rfl rfl in_X11 15 (by decide) q847 (fun _ h9 => h9) rfl dX11_mayStart_222 ?_
                      refine lv_iconst (v := 4) hx hb dX11_mayStart_225 (by decide) ?_
                      refine lv_iload_n hx hb dX11_mayStart_226 rfl (lv_at hl 1 rfl) ?_
                      refine lv_imul hx hb dX11_mayStart_227 ?_
                      refine lv_iload hx hb dX11_mayStart_228 (lv_at hl 7 rfl) ?_
                      refine lv_iadd hx hb dX11_mayStart_230 ?_
                      refine ix_iald (n := 400) S hC hH (rfl : mm_N G.2.1 β F L 15 0 = _) rfl (j := (4 * jb) + k4) (ix_nadd (ix_nmul (rfl : (4 : Int32) = nI 4) rfl) rfl) (by omega) (by omega) dX11_mayStart_231 ?_
                      refine lv_aload_n hx hb dX11_mayStart_232 rfl (lv_at hl 0 rfl) ?_
                      refine lv_iload hx hb dX11_mayStart_233 (lv_at hl 7 rfl) ?_
                      refine ix_rd (W.runV (As := [.int (nI k4)]) (rest := [.int (F 15 ((4 * jb) + k4))]) S (mm_used_ l G β F L s.heap.size n k4 hn h100 (by omega)) (cwV 1 hts (lw_V q984 q986 qs16 q34 q987) rfl rfl rfl (by decide +kernel) ⟨Nat.le_of_ble_eq_true rfl, Nat.le_of_ble_eq_true rfl⟩) (ix_preV hC hS hAz hH (ix_recv hC hH (rfl : mm_N G.2.1 β F L 0 0 = _) rfl) rfl) rfl rfl hl.1 rfl (lv_room (Nat.le_of_ble_eq_true rfl)) dX11_mayStart_235 ⟨Nat.le_refl _, Nat.le_refl _⟩) ?_
                      refine W.eq (g2 := F0 m 238 ls [.int (mm_used F n k4), .int (F 15 ((4 * jb) + k4))]) rfl ?_
                      refine lv_iadd hx hb dX11_mayStart_238 ?_
                      refine lv_aload_n hx hb dX11_mayStart_239 rfl (lv_at hl 0 rfl) ?_
                      refine ix_get S hC hH (fs := mm_obj β F L) (rfl : mm_N G.2.1 β F L 0 0 = _) rfl rfl in_X11 10 (by decide) q842 (fun _ h9 => h9) rfl dX11_mayStart_240 ?_
                      refine lv_iload hx hb dX11_mayStart_243 (lv_at hl 7 rfl) ?_
                      refine ix_iald (n := 4) S hC hH (rfl : mm_N G.2.1 β F L 10 0 = _) rfl (j := k4) rfl (by omega) (by omega) dX11_mayStart_245 ?_
                      refine lv_icmp_gt (tgt := 253) hx hb dX11_mayStart_246 (by decide) (fun c246 => ?_) (fun c246 => ?_)
                      · refine lv_iconst (v := 0) hx hb dX11_mayStart_253 (by decide) ?_
                        exact jn216 false (by simp [c218, c246]) _ (lv_sub hl [0, 1, 2, 3, 4, 5, 6, 7] rfl)
                      · refine lv_iconst (v := 1) hx hb dX11_mayStart_249 (by decide) ?_
                        refine lv_goto (tgt := 254) hx hb dX11_mayStart_250 (by decide) ?_
                        exact jn216 true (by simp [c218, c246]) _ (lv_sub hl [0, 1, 2, 3, 4, 5, 6, 7] rfl)
              exact lp210 (4 + 1) 0 true (by omega) (by omega) rfl _ (lv_sub hl [2, 3, 4, 5, 6, 7, 1, 0] rfl)
            · have c52 : ¬ (n ≤ k) := (not_congr (ix_nle (a := n) (b := k) hn rfl (by omega) (by omega))).mp c52
              have jn55 : ∀ (rn : Bool), (rn = mm_run F k) → ∀ ls, lv_has ls 8 [(0, .ref (β 0 0)), (1, .int (nI jb)), (2, .int sm), (3, .int (ix_b fr)), (4, .int (ix_b an)), (5, .int (ix_b nd)), (6, .int (nI k))] → W p l e ({ frames := 2, cells := 0, slots := 0, locals := 80 } : Room) s m ([.ref (β 0 0), .int (nI jb)] : List Value).toArray below meth c s.heap ([]) 0 0 (MQ below (ix_R (some (.int (ix_b (mm_may F L n jb))))) ([.ref (β 0 0), .int (nI jb)] : List Value).toArray s 0 0 (fun _ => False)) (F0 m 71 ls [.int (ix_b rn)]) := by
                intro rn hrn ls hl
                refine lv_istore (lv' := [(7, .int (ix_b rn)), (0, .ref (β 0 0)), (1, .int (nI jb)), (2, .int sm), (3, .int (ix_b fr)), (4, .int (ix_b an)), (5, .int (ix_b nd)), (6, .int (nI k))]) hx hb dX11_mayStart_71 hl (by decide) rfl (fun ls hl => ?_)
                have jn73 : ∀ (an2 : Bool), (an2 = (an || rn)) → ∀ ls, lv_has ls 8 [(7, .int (ix_b rn)), (0, .ref (β 0 0)), (1, .int (nI jb)), (2, .int sm), (3, .int (ix_b fr)), (4, .int (ix_b an)), (5, .int (ix_b nd)), (6, .int (nI k))] → W p l e ({ frames := 2, cells := 0, slots := 0, locals := 80 } : Room) s m ([.ref (β 0 0), .int (nI jb)] : List Value).toArray below meth c s.heap ([]) 0 0 (MQ below (ix_R (some (.int (ix_b (mm_may F L n jb))))) ([.ref (β 0 0), .int (nI jb)] : List Value).toArray s 0 0 (fun _ => False)) (F0 m 88 ls [.int (ix_b an2)]) := by
                  intro an2 han2 ls hl
                  refine lv_istore (lv' := [(4, .int (ix_b an2)), (7, .int (ix_b rn)), (0, .ref (β 0 0)), (1, .int (nI jb)), (2, .int sm), (3, .int (ix_b fr)), (5, .int (ix_b nd)), (6, .int (nI k))]) hx hb dX11_mayStart_88 hl (by decide) rfl (fun ls hl => ?_)
                  refine lv_iload_n hx hb dX11_mayStart_90 rfl (lv_at hl 4 rfl) ?_
                  have jn91 : ∀ (sv : Int32), (sv = if rn = true ∧ F 11 k = F 11 jb then 1 else 0) → ∀ ls, lv_has ls 8 [(4, .int (ix_b an2)), (7, .int (ix_b rn)), (0, .ref (β 0 0)), (1, .int (nI jb)), (2, .int sm), (3, .int (ix_b fr)), (5, .int (ix_b nd)), (6, .int (nI k))] → W p l e ({ frames := 2, cells := 0, slots := 0, locals := 80 } : Room) s m ([.ref (β 0 0), .int (nI jb)] : List Value).toArray below meth c s.heap ([]) 0 0 (MQ below (ix_R (some (.int (ix_b (mm_may F L n jb))))) ([.ref (β 0 0), .int (nI jb)] : List Value).toArray s 0 0 (fun _ => False)) (F0 m 117 ls [.int sv, .int sm]) := by
                    intro sv hsv ls hl
                    refine lv_iadd hx hb dX11_mayStart_117 ?_
                    refine lv_istore_n (lv' := [(2, .int (sm + sv)), (4, .int (ix_b an2)), (7, .int (ix_b rn)), (0, .ref (β 0 0)), (1, .int (nI jb)), (3, .int (ix_b fr)), (5, .int (ix_b nd)), (6, .int (nI k))]) hx hb dX11_mayStart_118 rfl hl (by decide) rfl (fun ls hl => ?_)
                    have jn119 : ∀ (fr2 : Bool), (fr2 = (fr && !(rn && (decide (F 13 k = F 13 jb) || !decide (F 17 k = 0))))) → ∀ ls, lv_has ls 8 [(2, .int (sm + sv)), (4, .int (ix_b an2)), (7, .int (ix_b rn)), (0, .ref (β 0 0)), (1, .int (nI jb)), (3, .int (ix_b fr)), (5, .int (ix_b nd)), (6, .int (nI k))] → W p l e ({ frames := 2, cells := 0, slots := 0, locals := 80 } : Room) s m ([.ref (β 0 0), .int (nI jb)] : List Value).toArray below meth c s.heap ([]) 0 0 (MQ below (ix_R (some (.int (ix_b (mm_may F L n jb))))) ([.ref (β 0 0), .int (nI jb)] : List Value).toArray s 0 0 (fun _ => False)) (F0 m 159 ls [.int (ix_b fr2)]) := by
                      intro fr2 hfr2 ls hl
                      refine lv_istore_n (lv' := [(3, .int (ix_b fr2)), (2, .int (sm + sv)), (4, .int (ix_b an2)), (7, .int (ix_b rn)), (0, .ref (β 0 0)), (1, .int (nI jb)), (5, .int (ix_b nd)), (6, .int (nI k))]) hx hb dX11_mayStart_159 rfl hl (by decide) rfl (fun ls hl => ?_)
                      have jn160 : ∀ (nd2 : Bool), (nd2 = (nd || (!decide (F 18 (100 * jb + k) = 0) && !decide (F 14 k = 3)))) → ∀ ls, lv_has ls 8 [(3, .int (ix_b fr2)), (2, .int (sm + sv)), (4, .int (ix_b an2)), (7, .int (ix_b rn)), (0, .ref (β 0 0)), (1, .int (nI jb)), (5, .int (ix_b nd)), (6, .int (nI k))] → W p l e ({ frames := 2, cells := 0, slots := 0, locals := 80 } : Room) s m ([.ref (β 0 0), .int (nI jb)] : List Value).toArray below meth c s.heap ([]) 0 0 (MQ below (ix_R (some (.int (ix_b (mm_may F L n jb))))) ([.ref (β 0 0), .int (nI jb)] : List Value).toArray s 0 0 (fun _ => False)) (F0 m 196 ls [.int (ix_b nd2)]) := by
                        intro nd2 hnd2 ls hl
                        refine lv_istore (lv' := [(5, .int (ix_b nd2)), (3, .int (ix_b fr2)), (2, .int (sm + sv)), (4, .int (ix_b an2)), (7, .int (ix_b rn)), (0, .ref (β 0 0)), (1, .int (nI jb)), (6, .int (nI k))]) hx hb dX11_mayStart_196 hl (by decide) rfl (fun ls hl => ?_)
                        refine lv_iinc (v := nI (k + 1)) (lv' := [(6, .int (nI (k + 1))), (5, .int (ix_b nd2)), (3, .int (ix_b fr2)), (2, .int (sm + sv)), (4, .int (ix_b an2)), (7, .int (ix_b rn)), (0, .ref (β 0 0)), (1, .int (nI jb))]) hx hb dX11_mayStart_198 hl (k := 7) rfl ((ix_nadd rfl (rfl : (1 : Int32) = nI 1))) (by decide) rfl (fun ls hl => ?_)
                        refine lv_goto (tgt := 46) hx hb dX11_mayStart_201 (by decide) ?_
                        exact ih46 (k + 1) (sm + sv) fr2 an2 nd2 (by omega) (by omega) (by rw [hsm, hsv, hrn]; rfl) (by rw [hfr2, hfr, hrn]; rfl) (by rw [han2, han, hrn]; rfl) (by rw [hnd2, hnd]; rfl) _ (lv_sub hl [6, 7, 3, 2, 4, 1, 0] rfl)
                      refine lv_iload hx hb dX11_mayStart_160 (lv_at hl 6 rfl) ?_
                      refine lv_if_ne (tgt := 191) hx hb dX11_mayStart_162 (by decide) (fun c162 => ?_) (fun c162 => ?_)
                      · have c162 : nd = true := ix_b_ne.mp c162
                        refine lv_iconst (v := 1) hx hb dX11_mayStart_191 (by decide) ?_
                        refine lv_goto (tgt := 196) hx hb dX11_mayStart_192 (by decide) ?_
                        exact jn160 true (by simp [c162]) _ (lv_sub hl [0, 1, 2, 3, 4, 5, 6, 7] rfl)
                      · have c162 : nd = false := ix_b_eq.mp c162
                        refine lv_aload_n hx hb dX11_mayStart_165 rfl (lv_at hl 4 rfl) ?_
                        refine ix_get S hC hH (fs := mm_obj β F L) (rfl : mm_N G.2.1 β F L 0 0 = _) rfl rfl in_X11 18 (by decide) q850 (fun _ h9 => h9) rfl dX11_mayStart_166 ?_
                        refine lv_bipush (v := 100) hx hb dX11_mayStart_169 (by decide) ?_
                        refine lv_iload_n hx hb dX11_mayStart_171 rfl (lv_at hl 5 rfl) ?_
                        refine lv_imul hx hb dX11_mayStart_172 ?_
                        refine lv_iload hx hb dX11_mayStart_173 (lv_at hl 7 rfl) ?_
                        refine lv_iadd hx hb dX11_mayStart_175 ?_
                        refine ix_zald (n := 10000) S hC hH (rfl : mm_N G.2.1 β F L 18 0 = _) rfl (j := (100 * jb) + k) (ix_nadd (ix_nmul (rfl : (100 : Int32) = nI 100) rfl) rfl) (by omega) (by omega) dX11_mayStart_176 ?_
                        refine lv_if_eq (tgt := 195) hx hb dX11_mayStart_177 (by decide) (fun c177 => ?_) (fun c177 => ?_)
                        · refine lv_iconst (v := 0) hx hb dX11_mayStart_195 (by decide) ?_
                          exact jn160 false (by simp [c162, c177]) _ (lv_sub hl [0, 1, 2, 3, 4, 5, 6, 7] rfl)
                        · refine lv_aload_n hx hb dX11_mayStart_180 rfl (lv_at hl 4 rfl) ?_
                          refine ix_get S hC hH (fs := mm_obj β F L) (rfl : mm_N G.2.1 β F L 0 0 = _) rfl rfl in_X11 14 (by decide) q846 (fun _ h9 => h9) rfl dX11_mayStart_181 ?_
                          refine lv_iload hx hb dX11_mayStart_184 (lv_at hl 7 rfl) ?_
                          refine ix_iald (n := 100) S hC hH (rfl : mm_N G.2.1 β F L 14 0 = _) rfl (j := k) rfl (by omega) (by omega) dX11_mayStart_186 ?_
                          refine lv_iconst (v := 3) hx hb dX11_mayStart_187 (by decide) ?_
                          refine lv_icmp_eq (tgt := 195) hx hb dX11_mayStart_188 (by decide) (fun c188 => ?_) (fun c188 => ?_)
                          · refine lv_iconst (v := 0) hx hb dX11_mayStart_195 (by decide) ?_
                            exact jn160 false (by simp [c162, c177, c188]) _ (lv_sub hl [0, 1, 2, 3, 4, 5, 6, 7] rfl)
                          · refine lv_iconst (v := 1) hx hb dX11_mayStart_191 (by decide) ?_
                            refine lv_goto (tgt := 196) hx hb dX11_mayStart_192 (by decide) ?_
                            exact jn160 true (by simp [c162, c177, c188]) _ (lv_sub hl [0, 1, 2, 3, 4, 5, 6, 7] rfl)
                    refine lv_iload_n hx hb dX11_mayStart_119 rfl (lv_at hl 5 rfl) ?_
                    refine lv_if_eq (tgt := 158) hx hb dX11_mayStart_120 (by decide) (fun c120 => ?_) (fun c120 => ?_)
                    · have c120 : fr = false := ix_b_eq.mp c120
                      refine lv_iconst (v := 0) hx hb dX11_mayStart_158 (by decide) ?_
                      exact jn119 false (by simp [c120]) _ (lv_sub hl [0, 1, 2, 3, 4, 5, 6, 7] rfl)
                    · have c120 : fr = true := ix_b_ne.mp c120
                      refine lv_iload hx hb dX11_mayStart_123 (lv_at hl 2 rfl) ?_
                      refine lv_if_eq (tgt := 154) hx hb dX11_mayStart_125 (by decide) (fun c125 => ?_) (fun c125 => ?_)
                      · have c125 : rn = false := ix_b_eq.mp c125
                        refine lv_iconst (v := 1) hx hb dX11_mayStart_154 (by decide) ?_
                        refine lv_goto (tgt := 159) hx hb dX11_mayStart_155 (by decide) ?_
                        exact jn119 true (by simp [c120, c125]) _ (lv_sub hl [0, 1, 2, 3, 4, 5, 6, 7] rfl)
                      · have c125 : rn = true := ix_b_ne.mp c125
                        refine lv_aload_n hx hb dX11_mayStart_128 rfl (lv_at hl 3 rfl) ?_
                        refine ix_get S hC hH (fs := mm_obj β F L) (rfl : mm_N G.2.1 β F L 0 0 = _) rfl rfl in_X11 13 (by decide) q845 (fun _ h9 => h9) rfl dX11_mayStart_129 ?_
                        refine lv_iload hx hb dX11_mayStart_132 (lv_at hl 7 rfl) ?_
                        refine ix_iald (n := 100) S hC hH (rfl : mm_N G.2.1 β F L 13 0 = _) rfl (j := k) rfl (by omega) (by omega) dX11_mayStart_134 ?_
                        refine lv_aload_n hx hb dX11_mayStart_135 rfl (lv_at hl 3 rfl) ?_
                        refine ix_get S hC hH (fs := mm_obj β F L) (rfl : mm_N G.2.1 β F L 0 0 = _) rfl rfl in_X11 13 (by decide) q845 (fun _ h9 => h9) rfl dX11_mayStart_136 ?_
                        refine lv_iload_n hx hb dX11_mayStart_139 rfl (lv_at hl 4 rfl) ?_
                        refine ix_iald (n := 100) S hC hH (rfl : mm_N G.2.1 β F L 13 0 = _) rfl (j := jb) rfl (by omega) (by omega) dX11_mayStart_140 ?_
                        refine lv_icmp_eq (tgt := 158) hx hb dX11_mayStart_141 (by decide) (fun c141 => ?_) (fun c141 => ?_)
                        · refine lv_iconst (v := 0) hx hb dX11_mayStart_158 (by decide) ?_
                          exact jn119 false (by simp [c120, c125, c141]) _ (lv_sub hl [0, 1, 2, 3, 4, 5, 6, 7] rfl)
                        · refine lv_aload_n hx hb dX11_mayStart_144 rfl (lv_at hl 3 rfl) ?_
                          refine ix_get S hC hH (fs := mm_obj β F L) (rfl : mm_N G.2.1 β F L 0 0 = _) rfl rfl in_X11 17 (by decide) q849 (fun _ h9 => h9) rfl dX11_mayStart_145 ?_
                          refine lv_iload hx hb dX11_mayStart_148 (lv_at hl 7 rfl) ?_
                          refine ix_zald (n := 100) S hC hH (rfl : mm_N G.2.1 β F L 17 0 = _) rfl (j := k) rfl (by omega) (by omega) dX11_mayStart_150 ?_
                          refine lv_if_ne (tgt := 158) hx hb dX11_mayStart_151 (by decide) (fun c151 => ?_) (fun c151 => ?_)
                          · refine lv_iconst (v := 0) hx hb dX11_mayStart_158 (by decide) ?_
                            exact jn119 false (by simp [c120, c125, c141, c151]) _ (lv_sub hl [0, 1, 2, 3, 4, 5, 6, 7] rfl)
                          · refine lv_iconst (v := 1) hx hb dX11_mayStart_154 (by decide) ?_
                            refine lv_goto (tgt := 159) hx hb dX11_mayStart_155 (by decide) ?_
                            exact jn119 true (by simp [c120, c125, c141, c151]) _ (lv_sub hl [0, 1, 2, 3, 4, 5, 6, 7] rfl)
                  refine lv_iload hx hb dX11_mayStart_91 (lv_at hl 1 rfl) ?_
                  refine lv_if_eq (tgt := 116) hx hb dX11_mayStart_93 (by decide) (fun c93 => ?_) (fun c93 => ?_)
                  · have c93 : rn = false := ix_b_eq.mp c93
                    refine lv_iconst (v := 0) hx hb dX11_mayStart_116 (by decide) ?_
                    exact jn91 0 (by simp [c93]) _ (lv_sub hl [0, 1, 2, 3, 4, 5, 6, 7] rfl)
                  · have c93 : rn = true := ix_b_ne.mp c93
                    refine lv_aload_n hx hb dX11_mayStart_96 rfl (lv_at hl 2 rfl) ?_
                    refine ix_get S hC hH (fs := mm_obj β F L) (rfl : mm_N G.2.1 β F L 0 0 = _) rfl rfl in_X11 11 (by decide) q843 (fun _ h9 => h9) rfl dX11_mayStart_97 ?_
                    refine lv_iload hx hb dX11_mayStart_100 (lv_at hl 7 rfl) ?_
                    refine ix_iald (n := 100) S hC hH (rfl : mm_N G.2.1 β F L 11 0 = _) rfl (j := k) rfl (by omega) (by omega) dX11_mayStart_102 ?_
                    refine lv_aload_n hx hb dX11_mayStart_103 rfl (lv_at hl 2 rfl) ?_
                    refine ix_get S hC hH (fs := mm_obj β F L) (rfl : mm_N G.2.1 β F L 0 0 = _) rfl rfl in_X11 11 (by decide) q843 (fun _ h9 => h9) rfl dX11_mayStart_104 ?_
                    refine lv_iload_n hx hb dX11_mayStart_107 rfl (lv_at hl 3 rfl) ?_
                    refine ix_iald (n := 100) S hC hH (rfl : mm_N G.2.1 β F L 11 0 = _) rfl (j := jb) rfl (by omega) (by omega) dX11_mayStart_108 ?_
                    refine lv_icmp_ne (tgt := 116) hx hb dX11_mayStart_109 (by decide) (fun c109 => ?_) (fun c109 => ?_)
                    · refine lv_iconst (v := 0) hx hb dX11_mayStart_116 (by decide) ?_
                      exact jn91 0 (by simp [c93, c109]) _ (lv_sub hl [0, 1, 2, 3, 4, 5, 6, 7] rfl)
                    · refine lv_iconst (v := 1) hx hb dX11_mayStart_112 (by decide) ?_
                      refine lv_goto (tgt := 117) hx hb dX11_mayStart_113 (by decide) ?_
                      exact jn91 1 (by simp [c93, c109]) _ (lv_sub hl [0, 1, 2, 3, 4, 5, 6, 7] rfl)
                refine lv_iload hx hb dX11_mayStart_73 (lv_at hl 5 rfl) ?_
                refine lv_if_ne (tgt := 83) hx hb dX11_mayStart_75 (by decide) (fun c75 => ?_) (fun c75 => ?_)
                · have c75 : an = true := ix_b_ne.mp c75
                  refine lv_iconst (v := 1) hx hb dX11_mayStart_83 (by decide) ?_
                  refine lv_goto (tgt := 88) hx hb dX11_mayStart_84 (by decide) ?_
                  exact jn73 true (by simp [c75]) _ (lv_sub hl [0, 1, 2, 3, 4, 5, 6, 7] rfl)
                · have c75 : an = false := ix_b_eq.mp c75
                  refine lv_iload hx hb dX11_mayStart_78 (lv_at hl 0 rfl) ?_
                  refine lv_if_eq (tgt := 87) hx hb dX11_mayStart_80 (by decide) (fun c80 => ?_) (fun c80 => ?_)
                  · have c80 : rn = false := ix_b_eq.mp c80
                    refine lv_iconst (v := 0) hx hb dX11_mayStart_87 (by decide) ?_
                    exact jn73 false (by simp [c75, c80]) _ (lv_sub hl [0, 1, 2, 3, 4, 5, 6, 7] rfl)
                  · have c80 : rn = true := ix_b_ne.mp c80
                    refine lv_iconst (v := 1) hx hb dX11_mayStart_83 (by decide) ?_
                    refine lv_goto (tgt := 88) hx hb dX11_mayStart_84 (by decide) ?_
                    exact jn73 true (by simp [c75, c80]) _ (lv_sub hl [0, 1, 2, 3, 4, 5, 6, 7] rfl)
              refine lv_aload_n hx hb dX11_mayStart_55 rfl (lv_at hl 0 rfl) ?_
              refine ix_get S hC hH (fs := mm_obj β F L) (rfl : mm_N G.2.1 β F L 0 0 = _) rfl rfl in_X11 14 (by decide) q846 (fun _ h9 => h9) rfl dX11_mayStart_56 ?_
              refine lv_iload hx hb dX11_mayStart_59 (lv_at hl 6 rfl) ?_
              refine ix_iald (n := 100) S hC hH (rfl : mm_N G.2.1 β F L 14 0 = _) rfl (j := k) rfl (by omega) (by omega) dX11_mayStart_61 ?_
              refine lv_iconst (v := 2) hx hb dX11_mayStart_62 (by decide) ?_
              refine lv_icmp_ne (tgt := 70) hx hb dX11_mayStart_63 (by decide) (fun c63 => ?_) (fun c63 => ?_)
              · refine lv_iconst (v := 0) hx hb dX11_mayStart_70 (by decide) ?_
                exact jn55 false (by simp [mm_run, c63]) _ (lv_sub hl [0, 1, 2, 3, 4, 5, 6] rfl)
              · refine lv_iconst (v := 1) hx hb dX11_mayStart_66 (by decide) ?_
                refine lv_goto (tgt := 71) hx hb dX11_mayStart_67 (by decide) ?_
                exact jn55 true (by simp [mm_run, c63]) _ (lv_sub hl [0, 1, 2, 3, 4, 5, 6] rfl)
        exact lp46 (n + 1) 0 0 true false false (by omega) (by omega) rfl rfl rfl rfl _ (lv_sub hl [5, 6, 4, 3, 2, 1, 0] rfl)
      · have c28 : (mm_open F L (ix_t (F 11 jb))) = false := ix_b_eq.mp c28
        refine lv_iconst (v := 0) hx hb dX11_mayStart_31 (by decide) ?_
        exact ix_rZ S hr hlocks (by simp [ix_b, mm_may, c6, c15, c28]) dX11_mayStart_32
