/-! THE REFERENCE: what is reached -/
theorem mm_up_id {F : mm_F} {k : Nat} : va_up F k (F k) = F := by
  funext a b
  by_cases h : a = k
  · subst h; simp [va_up]
  · simp [va_up, h]
theorem mm_r19 {G : ix_G} {A : Nat → Prop} {β : ix_B} {F : mm_F} {L : mm_L} {H : Heap} {f : Nat → Int32} {k : Nat} {v : Int32} (h : ix_H G.1 A β (mm_N G.2.1 β (va_up (va_up F 19 f) 19 (va_up ((va_up F 19 f) 19) k v)) L) H) : ix_H G.1 A β (mm_N G.2.1 β (va_up F 19 (va_up f k v)) L) H := by
  rw [bx_uu, va_up_self] at h
  exact h
def mm_rI (F : mm_F) (a : Nat) (f : Nat → Int32) : Prop := (∀ i, i < 100 → f i = 0 ∨ f i = 1) ∧ (∀ i, i < 100 → ¬ f i = 0 → mm_reach F a i) ∧ ¬ f a = 0
theorem mm_rI_0 {F : mm_F} {a : Nat} {f : Nat → Int32} (hf : ∀ i, i < 100 → f i = if i = a then 1 else 0) (ha : a < 100) : mm_rI F a f := by
  refine ⟨fun i hi => ?_, fun i hi h => ?_, ?_⟩
  · rw [hf i hi]; by_cases h : i = a <;> simp [h]
  · rw [hf i hi] at h
    by_cases h2 : i = a
    · subst h2; exact fun P h _ => h
    · simp [h2] at h
  · rw [hf a ha]; simp
theorem mm_rI_s {F : mm_F} {a : Nat} {f : Nat → Int32} {k i : Nat} (h : mm_rI F a f) (hk : k < 100) (hi : i < 100) (h1 : ¬ f k = 0) (h2 : ¬ F 18 (100 * k + i) = 0) : mm_rI F a (va_up f i 1) := by
  obtain ⟨g1, g2, g3⟩ := h
  refine ⟨fun j hj => ?_, fun j hj hn => ?_, ?_⟩
  · by_cases e : j = i
    · subst e; rw [va_up_self]; exact Or.inr rfl
    · rw [va_up_ne _ _ e]; exact g1 j hj
  · by_cases e : j = i
    · subst e; exact fun P p0 ps => ps k j hk hj (g2 k hk h1 P p0 ps) h2
    · rw [va_up_ne _ _ e] at hn; exact g2 j hj hn
  · by_cases e : a = i
    · subst e; rw [va_up_self]; decide
    · rw [va_up_ne _ _ e]; exact g3
def mm_ct (f : Nat → Int32) : Nat → Nat
  | 0 => 0
  | n + 1 => mm_ct f n + if f n = 0 then 0 else 1
theorem mm_ct_le (f : Nat → Int32) : ∀ n, mm_ct f n ≤ n
  | 0 => Nat.le_refl 0
  | n + 1 => by have := mm_ct_le f n; simp only [mm_ct]; split <;> omega
theorem mm_ct_ge {f : Nat → Int32} {i : Nat} {v : Int32} : ∀ n, n ≤ i → mm_ct (va_up f i v) n = mm_ct f n
  | 0, _ => rfl
  | n + 1, h => by simp only [mm_ct, mm_ct_ge (i := i) n (by omega), va_up_ne f v (show n ≠ i by omega)]
theorem mm_ct_up {f : Nat → Int32} {i : Nat} (hf : f i = 0) : ∀ n, i < n → mm_ct (va_up f i 1) n = mm_ct f n + 1
  | 0, h => by omega
  | n + 1, h => by
    by_cases e : n = i
    · subst e
      simp only [mm_ct, mm_ct_ge n (Nat.le_refl n), va_up_self, hf]
      simp
    · simp only [mm_ct, mm_ct_up hf n (by omega), va_up_ne f 1 e]
      omega
theorem mm_r_end {F : mm_F} {a b : Nat} {f : Nat → Int32} (hI : mm_rI F a f) (hc : ∀ k9 i9, k9 < 100 → i9 < 100 → ¬ f k9 = 0 → ¬ F 18 (100 * k9 + i9) = 0 → ¬ f i9 = 0) (hb : b < 100) : f b = ix_b (ix_d (mm_reach F a b)) := by
  by_cases h : mm_reach F a b
  · have h1 : ¬ f b = 0 := h (fun i => ¬ f i = 0) hI.2.2 (fun k i hk hi h1 h2 => hc k i hk hi h1 h2)
    rw [ix_d_t.mpr h]
    rcases hI.1 b hb with h2 | h2
    · exact absurd h2 h1
    · exact h2
  · rw [ix_d_f.mpr h]
    rcases hI.1 b hb with h2 | h2
    · exact h2
    · exact absurd (hI.2.1 b hb (by rw [h2]; decide)) h
set_option maxHeartbeats 4000000 in
set_option maxRecDepth 100000 in
theorem mm_reach_ (l : Launch) (G : ix_G) (β : ix_B) (F : mm_F) (L : mm_L) (sz : Nat) (a b : Nat) (ha : a < 100) (hb100 : b < 100) : Met l yX11_reaches (ws_ yX11_reaches cX11_reaches 6 (some .boolean)) ({ frames := 0, cells := 0, slots := 0, locals := 0 } : Room) (ix_P G β (mm_N G.2.1 β F L) sz [.ref (β 0 0), .int (nI a), .int (nI b)]) (ix_Q (some (.int (ix_b (ix_d (mm_reach F a b))))) (fun (H9 : Heap) => ∃ f, ix_H G.1 (ix_A β (mm_N G.2.1 β F L) sz) β (mm_N G.2.1 β (va_up F 19 f) L) H9) (ix_A β (mm_N G.2.1 β F L) sz)) 0 0 (ix_A β (mm_N G.2.1 β F L) sz) := by
  refine ix_writer (by decide +kernel) (Nat.le_of_ble_eq_true rfl) ?_
  intro p e s m below meth c A S hr hlocks hnm hC hsz hH hS hA0 hAz hAe ls hl
  have hx := S.1
  have hb := S.2.1
  have hts := S.2.2.2.2
  have S : CallFix p m c cX11_reaches 6 s ([.ref (β 0 0), .int (nI a), .int (nI b)] : List Value).toArray lw_all "InitiatorRowsModel" := S
  have hl : lv_has ls 6 [(0, .ref (β 0 0)), (1, .int (nI a)), (2, .int (nI b))] := hl
  have hH : ix_H G.1 A β (mm_N G.2.1 β (va_up F 19 (F 19)) L) s.heap := by rw [mm_up_id]; exact hH
  refine lv_iconst (v := 0) hx hb dX11_reaches_0 (by decide) ?_
  refine lv_istore_n (lv' := [(3, .int 0), (0, .ref (β 0 0)), (1, .int (nI a)), (2, .int (nI b))]) hx hb dX11_reaches_1 rfl hl (by decide) rfl (fun ls hl => ?_)
  have lp2 : ∀ (fu2 : Nat) (k : Nat) (f : Nat → Int32), 100 + 1 ≤ k + fu2 → (k ≤ 100) → (∀ i, i < k → f i = if i = a then 1 else 0) → ∀ (H2 : Heap) (locs2 : List Loc), ix_H G.1 A β (mm_N G.2.1 β (va_up F 19 f) L) H2 → va_S A s.heap H2 locs2 → ∀ ls, lv_has ls 6 [(0, .ref (β 0 0)), (1, .int (nI a)), (2, .int (nI b)), (3, .int (nI k))] → W p l e ({ frames := 0, cells := 0, slots := 0, locals := 0 } : Room) s m ([.ref (β 0 0), .int (nI a), .int (nI b)] : List Value).toArray below meth c H2 locs2 0 0 (MQ below (ix_Q (some (.int (ix_b (ix_d (mm_reach F a b))))) (fun (H9 : Heap) => ∃ f, ix_H G.1 (ix_A β (mm_N G.2.1 β F L) sz) β (mm_N G.2.1 β (va_up F 19 f) L) H9) A) ([.ref (β 0 0), .int (nI a), .int (nI b)] : List Value).toArray s 0 0 A) (F0 m 2 ls []) := by
    intro fu2
    induction fu2 with
    | zero =>
      intro k f hfu hk hf H2 locs2 hH2 hS2  ls hl
      exact absurd hfu (by omega)
    | succ fu2 ih2 =>
      intro k f hfu hk hf H2 locs2 hH2 hS2  ls hl
      refine lv_iload_n hx hb dX11_reaches_2 rfl (lv_at hl 3 rfl) ?_
      refine lv_bipush (v := 100) hx hb dX11_reaches_3 (by decide) ?_
      refine lv_icmp_ge (tgt := 30) hx hb dX11_reaches_5 (by decide) (fun c5 => ?_) (fun c5 => ?_)
      · have c5 : 100 ≤ k := (ix_nle (a := 100) (b := k) (rfl : (100 : Int32) = nI 100) rfl (by omega) (by omega)).mp c5
        have hk100 : k = 100 := by omega
        have hIa : mm_rI F a f := mm_rI_0 (by rw [hk100] at hf; exact hf) ha
        refine lv_iconst (v := 1) hx hb dX11_reaches_30 (by decide) ?_
        refine lv_istore_n (lv' := [(3, .int 1), (0, .ref (β 0 0)), (1, .int (nI a)), (2, .int (nI b))]) hx hb dX11_reaches_31 rfl hl (by decide) rfl (fun ls hl => ?_)
        have lp32 : ∀ (fu32 : Nat) (vr : Nat) (f : Nat → Int32) (mo : Bool), 101 + 1 ≤ vr + fu32 → (vr ≤ 101) → (vr = mm_ct f 100 + if mo = true then 0 else 1) → (mm_rI F a f) → (mo = false → ∀ k9 i9, k9 < 100 → i9 < 100 → ¬ f k9 = 0 → ¬ F 18 (100 * k9 + i9) = 0 → ¬ f i9 = 0) → ∀ (H32 : Heap) (locs32 : List Loc), ix_H G.1 A β (mm_N G.2.1 β (va_up F 19 f) L) H32 → va_S A s.heap H32 locs32 → ∀ ls, lv_has ls 6 [(0, .ref (β 0 0)), (1, .int (nI a)), (2, .int (nI b)), (3, .int (ix_b mo))] → W p l e ({ frames := 0, cells := 0, slots := 0, locals := 0 } : Room) s m ([.ref (β 0 0), .int (nI a), .int (nI b)] : List Value).toArray below meth c H32 locs32 0 0 (MQ below (ix_Q (some (.int (ix_b (ix_d (mm_reach F a b))))) (fun (H9 : Heap) => ∃ f, ix_H G.1 (ix_A β (mm_N G.2.1 β F L) sz) β (mm_N G.2.1 β (va_up F 19 f) L) H9) A) ([.ref (β 0 0), .int (nI a), .int (nI b)] : List Value).toArray s 0 0 A) (F0 m 32 ls []) := by
          intro fu32
          induction fu32 with
          | zero =>
            intro vr f mo hfu h101 hvr hI hcl H32 locs32 hH32 hS32  ls hl
            exact absurd hfu (by omega)
          | succ fu32 ih32 =>
            intro vr f mo hfu h101 hvr hI hcl H32 locs32 hH32 hS32  ls hl
            refine lv_iload_n hx hb dX11_reaches_32 rfl (lv_at hl 3 rfl) ?_
            refine lv_if_eq (tgt := 122) hx hb dX11_reaches_33 (by decide) (fun c33 => ?_) (fun c33 => ?_)
            · have c33 : mo = false := ix_b_eq.mp c33
              refine lv_aload_n hx hb dX11_reaches_122 rfl (lv_at hl 0 rfl) ?_
              refine ix_get S hC hH32 (fs := mm_obj β (va_up F 19 f) L) (rfl : mm_N G.2.1 β (va_up F 19 f) L 0 0 = _) rfl rfl in_X11 19 (by decide) q851 (fun _ h9 => h9) rfl dX11_reaches_123 ?_
              refine lv_iload_n hx hb dX11_reaches_126 rfl (lv_at hl 2 rfl) ?_
              refine ix_zald (n := 100) S hC hH32 (rfl : mm_N G.2.1 β (va_up F 19 f) L 19 0 = _) rfl (j := b) rfl (by omega) (by omega) dX11_reaches_127 ?_
              refine ix_reI (y := f b) (by rw [va_up_self]) ?_
              exact ix_wZ S hr hlocks hS32 (mm_r_end hI (hcl c33) hb100) (⟨_, by rw [← hAe]; exact hH32⟩) (by omega) (by omega) dX11_reaches_128
            · have c33 : mo = true := ix_b_ne.mp c33
              refine lv_iconst (v := 0) hx hb dX11_reaches_36 (by decide) ?_
              refine lv_istore_n (lv' := [(3, .int 0), (0, .ref (β 0 0)), (1, .int (nI a)), (2, .int (nI b))]) hx hb dX11_reaches_37 rfl hl (by decide) rfl (fun ls hl => ?_)
              refine lv_iconst (v := 0) hx hb dX11_reaches_38 (by decide) ?_
              refine lv_istore (lv' := [(4, .int 0), (3, .int 0), (0, .ref (β 0 0)), (1, .int (nI a)), (2, .int (nI b))]) hx hb dX11_reaches_39 hl (by decide) rfl (fun ls hl => ?_)
              have lp41 : ∀ (fu41 : Nat) (k : Nat) (f2 : Nat → Int32) (mo2 : Bool), 100 + 1 ≤ k + fu41 → (k ≤ 100) → (mm_rI F a f2) → (mo2 = true → mm_ct f 100 + 1 ≤ mm_ct f2 100) → (mo2 = false → f2 = f ∧ ∀ k9 i9, k9 < k → i9 < 100 → ¬ f k9 = 0 → ¬ F 18 (100 * k9 + i9) = 0 → ¬ f i9 = 0) → ∀ (H41 : Heap) (locs41 : List Loc), ix_H G.1 A β (mm_N G.2.1 β (va_up F 19 f2) L) H41 → va_S A s.heap H41 locs41 → ∀ ls, lv_has ls 6 [(0, .ref (β 0 0)), (1, .int (nI a)), (2, .int (nI b)), (3, .int (ix_b mo2)), (4, .int (nI k))] → W p l e ({ frames := 0, cells := 0, slots := 0, locals := 0 } : Room) s m ([.ref (β 0 0), .int (nI a), .int (nI b)] : List Value).toArray below meth c H41 locs41 0 0 (MQ below (ix_Q (some (.int (ix_b (ix_d (mm_reach F a b))))) (fun (H9 : Heap) => ∃ f, ix_H G.1 (ix_A β (mm_N G.2.1 β F L) sz) β (mm_N G.2.1 β (va_up F 19 f) L) H9) A) ([.ref (β 0 0), .int (nI a), .int (nI b)] : List Value).toArray s 0 0 A) (F0 m 41 ls []) := by
                intro fu41
                induction fu41 with
                | zero =>
                  intro k f2 mo2 hfu hk hI2 hmt hmf H41 locs41 hH41 hS41  ls hl
                  exact absurd hfu (by omega)
                | succ fu41 ih41 =>
                  intro k f2 mo2 hfu hk hI2 hmt hmf H41 locs41 hH41 hS41  ls hl
                  refine lv_iload hx hb dX11_reaches_41 (lv_at hl 4 rfl) ?_
                  refine lv_bipush (v := 100) hx hb dX11_reaches_43 (by decide) ?_
                  refine lv_icmp_ge (tgt := 119) hx hb dX11_reaches_45 (by decide) (fun c45 => ?_) (fun c45 => ?_)
                  · have c45 : 100 ≤ k := (ix_nle (a := 100) (b := k) (rfl : (100 : Int32) = nI 100) rfl (by omega) (by omega)).mp c45
                    have hk1 : k = 100 := by omega
                    rw [hk1] at hmf
                    have hc2 := mm_ct_le f2 100
                    have h101b : (mm_ct f2 100 + if mo2 = true then 0 else 1) ≤ 101 := by split <;> omega
                    have hvrb : vr + 1 ≤ mm_ct f2 100 + if mo2 = true then 0 else 1 := by rw [hvr, if_pos c33]; cases hm : mo2 with | false => (rw [(hmf hm).1]; exact Nat.le_refl _) | true => exact hmt hm
                    have hcl2 : mo2 = false → ∀ k9 i9, k9 < 100 → i9 < 100 → ¬ f2 k9 = 0 → ¬ F 18 (100 * k9 + i9) = 0 → ¬ f2 i9 = 0 := fun h => by rw [(hmf h).1]; exact (hmf h).2
                    refine lv_goto (tgt := 32) hx hb dX11_reaches_119 (by decide) ?_
                    exact ih32 (mm_ct f2 100 + if mo2 = true then 0 else 1) f2 mo2 (by omega) h101b rfl hI2 (fun h => hcl2 h) _ _ hH41 hS41  _ (lv_sub hl [0, 1, 2, 3] rfl)
                  · have c45 : ¬ (100 ≤ k) := (not_congr (ix_nle (a := 100) (b := k) (rfl : (100 : Int32) = nI 100) rfl (by omega) (by omega))).mp c45
                    refine lv_iconst (v := 0) hx hb dX11_reaches_48 (by decide) ?_
                    refine lv_istore (lv' := [(5, .int 0), (0, .ref (β 0 0)), (1, .int (nI a)), (2, .int (nI b)), (3, .int (ix_b mo2)), (4, .int (nI k))]) hx hb dX11_reaches_49 hl (by decide) rfl (fun ls hl => ?_)
                    have lp51 : ∀ (fu51 : Nat) (i : Nat) (f3 : Nat → Int32) (mo3 : Bool), 100 + 1 ≤ i + fu51 → (i ≤ 100) → (mm_rI F a f3) → (mo3 = true → mm_ct f 100 + 1 ≤ mm_ct f3 100) → (mo3 = false → f3 = f ∧ (∀ k9 i9, k9 < k → i9 < 100 → ¬ f k9 = 0 → ¬ F 18 (100 * k9 + i9) = 0 → ¬ f i9 = 0) ∧ ∀ i9, i9 < i → ¬ f k = 0 → ¬ F 18 (100 * k + i9) = 0 → ¬ f i9 = 0) → ∀ (H51 : Heap) (locs51 : List Loc), ix_H G.1 A β (mm_N G.2.1 β (va_up F 19 f3) L) H51 → va_S A s.heap H51 locs51 → ∀ ls, lv_has ls 6 [(0, .ref (β 0 0)), (1, .int (nI a)), (2, .int (nI b)), (3, .int (ix_b mo3)), (4, .int (nI k)), (5, .int (nI i))] → W p l e ({ frames := 0, cells := 0, slots := 0, locals := 0 } : Room) s m ([.ref (β 0 0), .int (nI a), .int (nI b)] : List Value).toArray below meth c H51 locs51 0 0 (MQ below (ix_Q (some (.int (ix_b (ix_d (mm_reach F a b))))) (fun (H9 : Heap) => ∃ f, ix_H G.1 (ix_A β (mm_N G.2.1 β F L) sz) β (mm_N G.2.1 β (va_up F 19 f) L) H9) A) ([.ref (β 0 0), .int (nI a), .int (nI b)] : List Value).toArray s 0 0 A) (F0 m 51 ls []) := by
                      intro fu51
                      induction fu51 with
                      | zero =>
                        intro i f3 mo3 hfu hi hI3 hmt3 hmf3 H51 locs51 hH51 hS51  ls hl
                        exact absurd hfu (by omega)
                      | succ fu51 ih51 =>
                        intro i f3 mo3 hfu hi hI3 hmt3 hmf3 H51 locs51 hH51 hS51  ls hl
                        refine lv_iload hx hb dX11_reaches_51 (lv_at hl 5 rfl) ?_
                        refine lv_bipush (v := 100) hx hb dX11_reaches_53 (by decide) ?_
                        refine lv_icmp_ge (tgt := 113) hx hb dX11_reaches_55 (by decide) (fun c55 => ?_) (fun c55 => ?_)
                        · have c55 : 100 ≤ i := (ix_nle (a := 100) (b := i) (rfl : (100 : Int32) = nI 100) rfl (by omega) (by omega)).mp c55
                          have hmf4 : mo3 = false → f3 = f ∧ ∀ k9 i9, k9 < (k + 1) → i9 < 100 → ¬ f k9 = 0 → ¬ F 18 (100 * k9 + i9) = 0 → ¬ f i9 = 0 := fun h => ⟨(hmf3 h).1, fun k9 i9 h1 h2 h3 h4 => if e : k9 = k then (hmf3 h).2.2 i9 (by omega) (by rw [← e]; exact h3) (by rw [← e]; exact h4) else (hmf3 h).2.1 k9 i9 (by omega) h2 h3 h4⟩
                          refine lv_iinc (v := nI (k + 1)) (lv' := [(4, .int (nI (k + 1))), (0, .ref (β 0 0)), (1, .int (nI a)), (2, .int (nI b)), (3, .int (ix_b mo3)), (5, .int (nI i))]) hx hb dX11_reaches_113 hl (k := 4) rfl ((ix_nadd rfl (rfl : (1 : Int32) = nI 1))) (by decide) rfl (fun ls hl => ?_)
                          refine lv_goto (tgt := 41) hx hb dX11_reaches_116 (by decide) ?_
                          exact ih41 (k + 1) f3 mo3 (by omega) (by omega) hI3 hmt3 hmf4 _ _ hH51 hS51  _ (lv_sub hl [1, 2, 3, 4, 0] rfl)
                        · have c55 : ¬ (100 ≤ i) := (not_congr (ix_nle (a := 100) (b := i) (rfl : (100 : Int32) = nI 100) rfl (by omega) (by omega))).mp c55
                          refine lv_aload_n hx hb dX11_reaches_58 rfl (lv_at hl 0 rfl) ?_
                          refine ix_get S hC hH51 (fs := mm_obj β (va_up F 19 f3) L) (rfl : mm_N G.2.1 β (va_up F 19 f3) L 0 0 = _) rfl rfl in_X11 19 (by decide) q851 (fun _ h9 => h9) rfl dX11_reaches_59 ?_
                          refine lv_iload hx hb dX11_reaches_62 (lv_at hl 4 rfl) ?_
                          refine ix_zald (n := 100) S hC hH51 (rfl : mm_N G.2.1 β (va_up F 19 f3) L 19 0 = _) rfl (j := k) rfl (by omega) (by omega) dX11_reaches_64 ?_
                          refine ix_reI (y := f3 k) (by rw [va_up_self]) ?_
                          refine lv_if_eq (tgt := 113) hx hb dX11_reaches_65 (by decide) (fun c65 => ?_) (fun c65 => ?_)
                          · have hmf4 : mo3 = false → f3 = f ∧ ∀ k9 i9, k9 < (k + 1) → i9 < 100 → ¬ f k9 = 0 → ¬ F 18 (100 * k9 + i9) = 0 → ¬ f i9 = 0 := fun h => ⟨(hmf3 h).1, fun k9 i9 h1 h2 h3 h4 => if e : k9 = k then absurd (by rw [← (hmf3 h).1, e]; exact c65) h3 else (hmf3 h).2.1 k9 i9 (by omega) h2 h3 h4⟩
                            refine lv_iinc (v := nI (k + 1)) (lv' := [(4, .int (nI (k + 1))), (0, .ref (β 0 0)), (1, .int (nI a)), (2, .int (nI b)), (3, .int (ix_b mo3)), (5, .int (nI i))]) hx hb dX11_reaches_113 hl (k := 4) rfl ((ix_nadd rfl (rfl : (1 : Int32) = nI 1))) (by decide) rfl (fun ls hl => ?_)
                            refine lv_goto (tgt := 41) hx hb dX11_reaches_116 (by decide) ?_
                            exact ih41 (k + 1) f3 mo3 (by omega) (by omega) hI3 hmt3 hmf4 _ _ hH51 hS51  _ (lv_sub hl [1, 2, 3, 4, 0] rfl)
                          · refine lv_aload_n hx hb dX11_reaches_68 rfl (lv_at hl 0 rfl) ?_
                            refine ix_get S hC hH51 (fs := mm_obj β (va_up F 19 f3) L) (rfl : mm_N G.2.1 β (va_up F 19 f3) L 0 0 = _) rfl rfl in_X11 18 (by decide) q850 (fun _ h9 => h9) rfl dX11_reaches_69 ?_
                            refine lv_bipush (v := 100) hx hb dX11_reaches_72 (by decide) ?_
                            refine lv_iload hx hb dX11_reaches_74 (lv_at hl 4 rfl) ?_
                            refine lv_imul hx hb dX11_reaches_76 ?_
                            refine lv_iload hx hb dX11_reaches_77 (lv_at hl 5 rfl) ?_
                            refine lv_iadd hx hb dX11_reaches_79 ?_
                            refine ix_zald (n := 10000) S hC hH51 (rfl : mm_N G.2.1 β (va_up F 19 f3) L 18 0 = _) rfl (j := (100 * k) + i) (ix_nadd (ix_nmul (rfl : (100 : Int32) = nI 100) rfl) rfl) (by omega) (by omega) dX11_reaches_80 ?_
                            refine ix_reI (y := F 18 (100 * k + i)) (rfl) ?_
                            refine lv_if_eq (tgt := 107) hx hb dX11_reaches_81 (by decide) (fun c81 => ?_) (fun c81 => ?_)
                            · have hI5 := hI3
                              have hmt5 := hmt3
                              have hmf5 : mo3 = false → f3 = f ∧ (∀ k9 i9, k9 < k → i9 < 100 → ¬ f k9 = 0 → ¬ F 18 (100 * k9 + i9) = 0 → ¬ f i9 = 0) ∧ ∀ i9, i9 < i + 1 → ¬ f k = 0 → ¬ F 18 (100 * k + i9) = 0 → ¬ f i9 = 0 := fun h => ⟨(hmf3 h).1, (hmf3 h).2.1, lt_s (hmf3 h).2.2 (fun _ h4 => absurd c81 h4)⟩
                              refine lv_iinc (v := nI (i + 1)) (lv' := [(5, .int (nI (i + 1))), (0, .ref (β 0 0)), (1, .int (nI a)), (2, .int (nI b)), (3, .int (ix_b mo3)), (4, .int (nI k))]) hx hb dX11_reaches_107 hl (k := 5) rfl ((ix_nadd rfl (rfl : (1 : Int32) = nI 1))) (by decide) rfl (fun ls hl => ?_)
                              refine lv_goto (tgt := 51) hx hb dX11_reaches_110 (by decide) ?_
                              exact ih51 (i + 1) f3 mo3 (by omega) (by omega) hI5 hmt5 hmf5 _ _ hH51 hS51  _ (lv_sub hl [1, 2, 3, 4, 5, 0] rfl)
                            · refine lv_aload_n hx hb dX11_reaches_84 rfl (lv_at hl 0 rfl) ?_
                              refine ix_get S hC hH51 (fs := mm_obj β (va_up F 19 f3) L) (rfl : mm_N G.2.1 β (va_up F 19 f3) L 0 0 = _) rfl rfl in_X11 19 (by decide) q851 (fun _ h9 => h9) rfl dX11_reaches_85 ?_
                              refine lv_iload hx hb dX11_reaches_88 (lv_at hl 5 rfl) ?_
                              refine ix_zald (n := 100) S hC hH51 (rfl : mm_N G.2.1 β (va_up F 19 f3) L 19 0 = _) rfl (j := i) rfl (by omega) (by omega) dX11_reaches_90 ?_
                              refine ix_reI (y := f3 i) (by rw [va_up_self]) ?_
                              refine lv_if_eq (tgt := 97) hx hb dX11_reaches_91 (by decide) (fun c91 => ?_) (fun c91 => ?_)
                              · have hI5 : mm_rI F a (va_up f3 i 1) := mm_rI_s hI3 (by omega) (by omega) c65 c81
                                have hmt5 : true = true → mm_ct f 100 + 1 ≤ mm_ct (va_up f3 i 1) 100 := fun _ => by rw [mm_ct_up c91 100 (by omega)]; cases hm : mo3 with | false => (rw [(hmf3 hm).1]; exact Nat.le_refl _) | true => exact Nat.le_trans (hmt3 hm) (Nat.le_succ _)
                                have hmf5 : true = false → va_up f3 i 1 = f ∧ (∀ k9 i9, k9 < k → i9 < 100 → ¬ f k9 = 0 → ¬ F 18 (100 * k9 + i9) = 0 → ¬ f i9 = 0) ∧ ∀ i9, i9 < i + 1 → ¬ f k = 0 → ¬ F 18 (100 * k + i9) = 0 → ¬ f i9 = 0 := fun h => by cases h
                                refine lv_aload_n hx hb dX11_reaches_97 rfl (lv_at hl 0 rfl) ?_
                                refine ix_get S hC hH51 (fs := mm_obj β (va_up F 19 f3) L) (rfl : mm_N G.2.1 β (va_up F 19 f3) L 0 0 = _) rfl rfl in_X11 19 (by decide) q851 (fun _ h9 => h9) rfl dX11_reaches_98 ?_
                                refine lv_iload hx hb dX11_reaches_101 (lv_at hl 5 rfl) ?_
                                refine lv_iconst (v := 1) hx hb dX11_reaches_103 (by decide) ?_
                                refine ix_zast (n := 100) S hC hH51 hS51 (rfl : mm_N G.2.1 β (va_up F 19 f3) L 19 0 = _) rfl (j := i) rfl (by omega) (by omega) (rfl) dX11_reaches_104 (fun H_1 locs_2 hH hS hz => ?_)
                                have hH : ix_H G.1 A β (mm_N G.2.1 β (va_up F 19 (va_up f3 i 1)) L) H_1 := mm_r19 (hH.to (mm_upZ 19 rfl))
                                refine lv_iconst (v := 1) hx hb dX11_reaches_105 (by decide) ?_
                                refine lv_istore_n (lv' := [(3, .int 1), (0, .ref (β 0 0)), (1, .int (nI a)), (2, .int (nI b)), (4, .int (nI k)), (5, .int (nI i))]) hx hb dX11_reaches_106 rfl hl (by decide) rfl (fun ls hl => ?_)
                                refine lv_iinc (v := nI (i + 1)) (lv' := [(5, .int (nI (i + 1))), (3, .int 1), (0, .ref (β 0 0)), (1, .int (nI a)), (2, .int (nI b)), (4, .int (nI k))]) hx hb dX11_reaches_107 hl (k := 5) rfl ((ix_nadd rfl (rfl : (1 : Int32) = nI 1))) (by decide) rfl (fun ls hl => ?_)
                                refine lv_goto (tgt := 51) hx hb dX11_reaches_110 (by decide) ?_
                                exact ih51 (i + 1) (va_up f3 i 1) true (by omega) (by omega) hI5 hmt5 hmf5 _ _ hH hS  _ (lv_sub hl [2, 3, 4, 1, 5, 0] rfl)
                              · have hI5 := hI3
                                have hmt5 := hmt3
                                have hmf5 : mo3 = false → f3 = f ∧ (∀ k9 i9, k9 < k → i9 < 100 → ¬ f k9 = 0 → ¬ F 18 (100 * k9 + i9) = 0 → ¬ f i9 = 0) ∧ ∀ i9, i9 < i + 1 → ¬ f k = 0 → ¬ F 18 (100 * k + i9) = 0 → ¬ f i9 = 0 := fun h => ⟨(hmf3 h).1, (hmf3 h).2.1, lt_s (hmf3 h).2.2 (fun _ _ h5 => c91 (by rw [(hmf3 h).1]; exact h5))⟩
                                refine lv_goto (tgt := 107) hx hb dX11_reaches_94 (by decide) ?_
                                refine lv_iinc (v := nI (i + 1)) (lv' := [(5, .int (nI (i + 1))), (0, .ref (β 0 0)), (1, .int (nI a)), (2, .int (nI b)), (3, .int (ix_b mo3)), (4, .int (nI k))]) hx hb dX11_reaches_107 hl (k := 5) rfl ((ix_nadd rfl (rfl : (1 : Int32) = nI 1))) (by decide) rfl (fun ls hl => ?_)
                                refine lv_goto (tgt := 51) hx hb dX11_reaches_110 (by decide) ?_
                                exact ih51 (i + 1) f3 mo3 (by omega) (by omega) hI5 hmt5 hmf5 _ _ hH51 hS51  _ (lv_sub hl [1, 2, 3, 4, 5, 0] rfl)
                    exact lp51 (100 + 1) 0 f2 mo2 (by omega) (by omega) hI2 hmt (fun h => ⟨(hmf h).1, (hmf h).2, fun i9 h9 => absurd h9 (by omega)⟩) _ _ hH41 hS41  _ (lv_sub hl [1, 2, 3, 4, 5, 0] rfl)
              exact lp41 (100 + 1) 0 f false (by omega) (by omega) hI (fun h => by cases h) (fun _ => ⟨rfl, fun k9 i9 h => absurd h (by omega)⟩) _ _ hH32 hS32  _ (lv_sub hl [2, 3, 4, 1, 0] rfl)
        exact lp32 (101 + 1) (mm_ct f 100) f true (by omega) (Nat.le_trans (mm_ct_le _ _) (by omega)) rfl hIa (fun h => by cases h) _ _ hH2 hS2  _ (lv_sub hl [1, 2, 3, 0] rfl)
      · have c5 : ¬ (100 ≤ k) := (not_congr (ix_nle (a := 100) (b := k) (rfl : (100 : Int32) = nI 100) rfl (by omega) (by omega))).mp c5
        refine lv_aload_n hx hb dX11_reaches_8 rfl (lv_at hl 0 rfl) ?_
        refine ix_get S hC hH2 (fs := mm_obj β (va_up F 19 f) L) (rfl : mm_N G.2.1 β (va_up F 19 f) L 0 0 = _) rfl rfl in_X11 19 (by decide) q851 (fun _ h9 => h9) rfl dX11_reaches_9 ?_
        refine lv_iload_n hx hb dX11_reaches_12 rfl (lv_at hl 3 rfl) ?_
        have jn13 : ∀ (v : Int32), (v = if k = a then 1 else 0) → (narrow .boolean (.int v) = .int v) → ∀ ls, lv_has ls 6 [(0, .ref (β 0 0)), (1, .int (nI a)), (2, .int (nI b)), (3, .int (nI k))] → W p l e ({ frames := 0, cells := 0, slots := 0, locals := 0 } : Room) s m ([.ref (β 0 0), .int (nI a), .int (nI b)] : List Value).toArray below meth c H2 locs2 0 0 (MQ below (ix_Q (some (.int (ix_b (ix_d (mm_reach F a b))))) (fun (H9 : Heap) => ∃ f, ix_H G.1 (ix_A β (mm_N G.2.1 β F L) sz) β (mm_N G.2.1 β (va_up F 19 f) L) H9) A) ([.ref (β 0 0), .int (nI a), .int (nI b)] : List Value).toArray s 0 0 A) (F0 m 23 ls [.int v, .int (nI k), .ref (β 19 0)]) := by
          intro v hv hvn ls hl
          refine ix_zast (n := 100) S hC hH2 hS2 (rfl : mm_N G.2.1 β (va_up F 19 f) L 19 0 = _) rfl (j := k) rfl (by omega) (by omega) (hvn) dX11_reaches_23 (fun H_3 locs_4 hH hS hz => ?_)
          have hH : ix_H G.1 A β (mm_N G.2.1 β (va_up F 19 (va_up f k v)) L) H_3 := mm_r19 (hH.to (mm_upZ 19 rfl))
          refine lv_iinc (v := nI (k + 1)) (lv' := [(3, .int (nI (k + 1))), (0, .ref (β 0 0)), (1, .int (nI a)), (2, .int (nI b))]) hx hb dX11_reaches_24 hl (k := 3) rfl ((ix_nadd rfl (rfl : (1 : Int32) = nI 1))) (by decide) rfl (fun ls hl => ?_)
          refine lv_goto (tgt := 2) hx hb dX11_reaches_27 (by decide) ?_
          exact ih2 (k + 1) (va_up f k v) (by omega) (by omega) (lt_s (fun i h => by rw [va_up_ne _ _ (by omega)]; exact hf i h) (by rw [va_up_self, hv])) _ _ hH hS  _ (lv_sub hl [1, 2, 3, 0] rfl)
        refine lv_iload_n hx hb dX11_reaches_13 rfl (lv_at hl 3 rfl) ?_
        refine lv_iload_n hx hb dX11_reaches_14 rfl (lv_at hl 1 rfl) ?_
        refine lv_icmp_ne (tgt := 22) hx hb dX11_reaches_15 (by decide) (fun c15 => ?_) (fun c15 => ?_)
        · have c15 : ¬ (k = a) := (not_congr (ix_neq (a := k) (b := a) rfl rfl (by omega) (by omega))).mp c15
          refine lv_iconst (v := 0) hx hb dX11_reaches_22 (by decide) ?_
          exact jn13 0 (by simp [c15]) rfl _ (lv_sub hl [0, 1, 2, 3] rfl)
        · have c15 : k = a := (ix_neq (a := k) (b := a) rfl rfl (by omega) (by omega)).mp c15
          refine lv_iconst (v := 1) hx hb dX11_reaches_18 (by decide) ?_
          refine lv_goto (tgt := 23) hx hb dX11_reaches_19 (by decide) ?_
          exact jn13 1 (by simp [c15]) rfl _ (lv_sub hl [0, 1, 2, 3] rfl)
  exact lp2 (100 + 1) 0 (F 19) (by omega) (by omega) (fun i h => absurd h (by omega)) _ _ hH hS  _ (lv_sub hl [1, 2, 3, 0] rfl)
