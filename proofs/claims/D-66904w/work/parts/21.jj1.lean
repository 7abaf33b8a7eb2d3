/-! THE LIBRARY's LISTS: what only reads -/
theorem jj_ix_any {g : Nat → Bool} : ∀ {n : Nat}, ix_find g n = none → ix_any g n = false
  | 0, _ => rfl
  | n + 1, h => by
    simp only [ix_find] at h
    cases hb : ix_find g n with
    | none =>
      rw [hb] at h
      simp only [ix_any, jj_ix_any hb, Bool.false_or]
      cases hg : g n with
      | false => rfl
      | true => simp [hg] at h
    | some k => rw [hb] at h; cases h
theorem jj_ix_som {g : Nat → Bool} {k : Nat} : ∀ {n : Nat}, ix_find g n = some k → k < n ∧ g k = true ∧ ∀ i, i < k → g i = false
  | 0, h => by cases h
  | n + 1, h => by
    simp only [ix_find] at h
    cases hb : ix_find g n with
    | none =>
      rw [hb] at h
      by_cases hg : g n = true
      · rw [if_pos hg] at h
        cases h
        refine ⟨Nat.lt_succ_self _, hg, fun i hi => ?_⟩
        cases hgi : g i with
        | false => rfl
        | true =>
          have h2 := jj_ix_any hb
          have h3 := (ix_any_iff (g := g)).mpr ⟨_, hi, hgi⟩
          rw [h2] at h3; cases h3
      · rw [if_neg hg] at h; cases h
    | some x =>
      rw [hb] at h
      cases h
      obtain ⟨h1, h2, h3⟩ := jj_ix_som hb
      exact ⟨by omega, h2, h3⟩
theorem jj_ix_lt {f : Nat → Option Nat} {q n : Nat} (hn : n < 2 ^ 31) (h : jj_ix f q n < 0) : 0 = ix_b (ix_any (fun k => decide (f k = some q)) n) := by
  unfold jj_ix at h
  cases hb : ix_find (fun k => decide (f k = some q)) n with
  | none => rw [jj_ix_any hb]; rfl
  | some k =>
    rw [hb] at h
    have := (jj_ix_som hb).1
    exact absurd h (nI_pos (by omega))
theorem jj_ix_ge {f : Nat → Option Nat} {q n : Nat} (hn : n < 2 ^ 31) (h : ¬ jj_ix f q n < 0) : 1 = ix_b (ix_any (fun k => decide (f k = some q)) n) := by
  unfold jj_ix at h
  cases hb : ix_find (fun k => decide (f k = some q)) n with
  | none => rw [hb] at h; exact absurd (by decide) h
  | some k =>
    obtain ⟨h1, h2, -⟩ := jj_ix_som hb
    rw [(ix_any_iff (n := n)).mpr ⟨k, h1, h2⟩]; rfl
set_option maxHeartbeats 4000000 in
set_option maxRecDepth 100000 in
theorem jj_newLength (l : Launch) (G : ix_G) (β : ix_B) (N : ix_N) (sz : Nat) (a g q : Nat) (hagq : a + g + q ≤ 100000) (hg1 : 1 ≤ g) : Met l yJ3_newLength (ws_ yJ3_newLength cJ3_newLength 4 (some .int)) ({ frames := 1, cells := 0, slots := 0, locals := 40 } : Room) (ix_P G β N sz [.int (nI a), .int (nI g), .int (nI q)]) (ix_R (some (.int (nI (a + jj_mx g q))))) 0 0 (fun _ => False) := by
  refine ix_reader (by decide +kernel) (Nat.le_of_ble_eq_true rfl) ?_
  intro p e s m below meth c S hr hlocks hC hH hS ls hl
  have hAz : ∀ q, ix_z G q → ix_z G q := fun _ h => h
  have hx := S.1
  have hb := S.2.1
  have hts := S.2.2.2.2
  have S : CallFix p m c cJ3_newLength 4 s ([.int (nI a), .int (nI g), .int (nI q)] : List Value).toArray lw_all "jdk/internal/util/ArraysSupport" := S
  have hl : lv_has ls 4 [(0, .int (nI a)), (1, .int (nI g)), (2, .int (nI q))] := hl
  have hmx := jj_mx_b g q
  refine lv_iload_n hx hb dJ3_newLength_0 rfl (lv_at hl 0 rfl) ?_
  refine lv_iload_n hx hb dJ3_newLength_1 rfl (lv_at hl 1 rfl) ?_
  refine lv_iload_n hx hb dJ3_newLength_2 rfl (lv_at hl 2 rfl) ?_
  refine va_mmax hx hb (by rw [S.2.2.1]; exact hl.1.symm) S.2.2.2.1 (hts _ q276) (hts _ q277) (hts _ q37) (hts _ q278) (Nat.le_of_ble_eq_true rfl) (Nat.le_of_ble_eq_true rfl) (Nat.le_refl _) (Nat.le_refl _) dJ3_newLength_3 ?_
  refine lv_iadd hx hb dJ3_newLength_6 ?_
  refine ix_reI (y := nI (a + jj_mx g q)) (ix_nadd rfl (jj_mx_i (by omega) (by omega))) ?_
  refine lv_istore_n (lv' := [(3, .int (nI (a + jj_mx g q))), (0, .int (nI a)), (1, .int (nI g)), (2, .int (nI q))]) hx hb dJ3_newLength_7 rfl hl (by decide) rfl (fun ls hl => ?_)
  refine lv_iconst (v := 0) hx hb dJ3_newLength_8 (by decide) ?_
  refine lv_iload_n hx hb dJ3_newLength_9 rfl (lv_at hl 0 rfl) ?_
  refine lv_icmp_ge (tgt := 21) hx hb dJ3_newLength_10 (by decide) (fun c10 => ?_) (fun c10 => ?_)
  · have c10 : (a + jj_mx g q) ≤ 0 := (ix_nle (a := (a + jj_mx g q)) (b := 0) rfl (rfl : (0 : Int32) = nI 0) (by omega) (by omega)).mp c10
    exfalso; omega
  · have c10 : ¬ ((a + jj_mx g q) ≤ 0) := (not_congr (ix_nle (a := (a + jj_mx g q)) (b := 0) rfl (rfl : (0 : Int32) = nI 0) (by omega) (by omega))).mp c10
    refine lv_iload_n hx hb dJ3_newLength_13 rfl (lv_at hl 0 rfl) ?_
    refine lv_ldc hx hb S.2.2.2.1 (hts _ q279) dJ3_newLength_14 ?_
    refine lv_icmp_gt (tgt := 21) hx hb dJ3_newLength_16 (by decide) (fun c16 => ?_) (fun c16 => ?_)
    · have c16 : 2147483639 < (a + jj_mx g q) := (ix_nlt (a := 2147483639) (b := (a + jj_mx g q)) (rfl : (2147483639 : Int32) = nI 2147483639) rfl (by omega) (by omega)).mp c16
      exfalso; omega
    · have c16 : ¬ (2147483639 < (a + jj_mx g q)) := (not_congr (ix_nlt (a := 2147483639) (b := (a + jj_mx g q)) (rfl : (2147483639 : Int32) = nI 2147483639) rfl (by omega) (by omega))).mp c16
      refine lv_iload_n hx hb dJ3_newLength_19 rfl (lv_at hl 0 rfl) ?_
      exact ix_rI S hr hlocks (rfl) dJ3_newLength_20
set_option maxHeartbeats 4000000 in
set_option maxRecDepth 100000 in
theorem jj_check2 (l : Launch) (G : ix_G) (β : ix_B) (N : ix_N) (sz : Nat) (j n : Nat) (hj : j < n) (hn : n < 2 ^ 31) : Met l yJ7_checkIndex (ws_ yJ7_checkIndex cJ7_checkIndex 3 (some .int)) ({ frames := 0, cells := 0, slots := 0, locals := 0 } : Room) (ix_P G β N sz [.int (nI j), .int (nI n), .null]) (ix_R (some (.int (nI j)))) 0 0 (fun _ => False) := by
  refine ix_reader (by decide +kernel) (Nat.le_of_ble_eq_true rfl) ?_
  intro p e s m below meth c S hr hlocks hC hH hS ls hl
  have hAz : ∀ q, ix_z G q → ix_z G q := fun _ h => h
  have hx := S.1
  have hb := S.2.1
  have hts := S.2.2.2.2
  have S : CallFix p m c cJ7_checkIndex 3 s ([.int (nI j), .int (nI n), .null] : List Value).toArray lw_all "jdk/internal/util/Preconditions" := S
  have hl : lv_has ls 3 [(0, .int (nI j)), (1, .int (nI n)), (2, .null)] := hl
  refine lv_iload_n hx hb dJ7_checkIndex_0 rfl (lv_at hl 0 rfl) ?_
  refine lv_if_lt (tgt := 9) hx hb dJ7_checkIndex_1 (by decide) (fun c1 => ?_) (fun c1 => ?_)
  · exact absurd c1 (nI_pos (by omega))
  · refine lv_iload_n hx hb dJ7_checkIndex_4 rfl (lv_at hl 0 rfl) ?_
    refine lv_iload_n hx hb dJ7_checkIndex_5 rfl (lv_at hl 1 rfl) ?_
    refine lv_icmp_lt (tgt := 16) hx hb dJ7_checkIndex_6 (by decide) (fun c6 => ?_) (fun c6 => ?_)
    · have c6 : j < n := (ix_nlt (a := j) (b := n) rfl rfl (by omega) (by omega)).mp c6
      refine lv_iload_n hx hb dJ7_checkIndex_16 rfl (lv_at hl 0 rfl) ?_
      exact ix_rI S hr hlocks (rfl) dJ7_checkIndex_17
    · have c6 : ¬ (j < n) := (not_congr (ix_nlt (a := j) (b := n) rfl rfl (by omega) (by omega))).mp c6
      exact absurd hj c6
set_option maxHeartbeats 4000000 in
set_option maxRecDepth 100000 in
theorem jj_check1 (l : Launch) (G : ix_G) (β : ix_B) (N : ix_N) (sz : Nat) (j n : Nat) (hj : j < n) (hn : n < 2 ^ 31) : Met l yJ6_checkIndex (ws_ yJ6_checkIndex cJ6_checkIndex 2 (some .int)) ({ frames := 1, cells := 0, slots := 0, locals := 40 } : Room) (ix_P G β N sz [.int (nI j), .int (nI n)]) (ix_R (some (.int (nI j)))) 0 0 (fun _ => False) := by
  refine ix_reader (by decide +kernel) (Nat.le_of_ble_eq_true rfl) ?_
  intro p e s m below meth c S hr hlocks hC hH hS ls hl
  have hAz : ∀ q, ix_z G q → ix_z G q := fun _ h => h
  have hx := S.1
  have hb := S.2.1
  have hts := S.2.2.2.2
  have S : CallFix p m c cJ6_checkIndex 2 s ([.int (nI j), .int (nI n)] : List Value).toArray lw_all "java/util/Objects" := S
  have hl : lv_has ls 2 [(0, .int (nI j)), (1, .int (nI n))] := hl
  refine lv_iload_n hx hb dJ6_checkIndex_0 rfl (lv_at hl 0 rfl) ?_
  refine lv_iload_n hx hb dJ6_checkIndex_1 rfl (lv_at hl 1 rfl) ?_
  refine lv_null hx hb dJ6_checkIndex_2 ?_
  refine ix_rd (W.runS (As := [.int (nI j), .int (nI n), .null]) (rest := []) S (jj_check2 l G β N s.heap.size j n (by omega) (by omega)) (va_cwS 3 hts (lw_S q343 q344 q41 q345) rfl rfl rfl (by decide +kernel) ⟨Nat.le_of_ble_eq_true rfl, Nat.le_of_ble_eq_true rfl⟩) (ix_pre hC hS hAz hH rfl) rfl rfl hl.1 rfl (lv_room (Nat.le_of_ble_eq_true rfl)) dJ6_checkIndex_3 ⟨Nat.le_refl _, Nat.le_refl _⟩) ?_
  refine W.eq (g2 := F0 m 6 ls [.int (nI j)]) rfl ?_
  exact ix_rI S hr hlocks (rfl) dJ6_checkIndex_6
set_option maxHeartbeats 4000000 in
set_option maxRecDepth 100000 in
theorem jj_size (l : Launch) (G : ix_G) (β : ix_B) (N : ix_N) (sz : Nat) (li : Nat) (mc : Int32) (n : Nat) (ea : Nat) (hl0 : N 1 li = some (.inr (11, [.int mc, .ref ea, .int (nI n)]))) : Met l yJ2_size (ws_ yJ2_size cJ2_size 1 (some .int)) ({ frames := 0, cells := 0, slots := 0, locals := 0 } : Room) (ix_P G β N sz [.ref (β 1 li)]) (ix_R (some (.int (nI n)))) 0 0 (fun _ => False) := by
  refine ix_reader (by decide +kernel) (Nat.le_of_ble_eq_true rfl) ?_
  intro p e s m below meth c S hr hlocks hC hH hS ls hl
  have hAz : ∀ q, ix_z G q → ix_z G q := fun _ h => h
  have hx := S.1
  have hb := S.2.1
  have hts := S.2.2.2.2
  have S : CallFix p m c cJ2_size 1 s ([.ref (β 1 li)] : List Value).toArray lw_all "java/util/ArrayList" := S
  have hl : lv_has ls 1 [(0, .ref (β 1 li))] := hl
  refine lv_aload_n hx hb dJ2_size_0 rfl (lv_at hl 0 rfl) ?_
  refine ix_get S hC hH (k := 1) (i := li) (fs := [.int mc, .ref ea, .int (nI n)]) hl0 rfl rfl in_J2 2 (by decide) q76 (fun _ h9 => h9) rfl dJ2_size_1 ?_
  exact ix_rI S hr hlocks (rfl) dJ2_size_4
set_option maxHeartbeats 4000000 in
set_option maxRecDepth 100000 in
theorem jj_elementData (l : Launch) (G : ix_G) (β : ix_B) (N : ix_N) (sz : Nat) (li : Nat) (mc : Int32) (n : Nat) (cap : Nat) (f : Nat → Option Nat) (j : Nat) (r : Option Nat) (hl0 : N 1 li = some (.inr (11, [.int mc, .ref (β 2 li), .int (nI n)]))) (ha0 : N 2 li = some (.inl (G.2.1 3, cap, .inr (.inr (.inr (.inr f)))))) (hj : j < cap) (hcap : cap ≤ 1000) (hfj : f j = r) : Met l yJ2_elementData (ws_ yJ2_elementData cJ2_elementData 2 (some (.object "java/lang/Object"))) ({ frames := 0, cells := 0, slots := 0, locals := 0 } : Room) (ix_P G β N sz [.ref (β 1 li), .int (nI j)]) (ix_R (some (va_rf r))) 0 0 (fun _ => False) := by
  refine ix_reader (by decide +kernel) (Nat.le_of_ble_eq_true rfl) ?_
  intro p e s m below meth c S hr hlocks hC hH hS ls hl
  have hAz : ∀ q, ix_z G q → ix_z G q := fun _ h => h
  have hx := S.1
  have hb := S.2.1
  have hts := S.2.2.2.2
  have S : CallFix p m c cJ2_elementData 2 s ([.ref (β 1 li), .int (nI j)] : List Value).toArray lw_all "java/util/ArrayList" := S
  have hl : lv_has ls 2 [(0, .ref (β 1 li)), (1, .int (nI j))] := hl
  refine lv_aload_n hx hb dJ2_elementData_0 rfl (lv_at hl 0 rfl) ?_
  refine ix_get S hC hH (k := 1) (i := li) (fs := [.int mc, .ref (β 2 li), .int (nI n)]) hl0 rfl rfl in_J2 1 (by decide) q73 (fun _ h9 => h9) rfl dJ2_elementData_1 ?_
  refine lv_iload_n hx hb dJ2_elementData_4 rfl (lv_at hl 1 rfl) ?_
  refine ix_aald (n := cap) S hC hH ha0 rfl rfl rfl (by omega) (by omega) (hfj) dJ2_elementData_5 ?_
  exact ix_rA S hr hlocks (Or.inl ⟨_, rfl⟩) (rfl) (va_rf_or _) dJ2_elementData_6
set_option maxHeartbeats 4000000 in
set_option maxRecDepth 100000 in
theorem jj_get (l : Launch) (G : ix_G) (β : ix_B) (N : ix_N) (sz : Nat) (li : Nat) (mc : Int32) (n : Nat) (cap : Nat) (f : Nat → Option Nat) (j : Nat) (r : Option Nat) (hl0 : N 1 li = some (.inr (11, [.int mc, .ref (β 2 li), .int (nI n)]))) (ha0 : N 2 li = some (.inl (G.2.1 3, cap, .inr (.inr (.inr (.inr f)))))) (hj : j < n) (hn : n ≤ cap) (hcap : cap ≤ 1000) (hfj : f j = r) : Met l yJ2_get (ws_ yJ2_get cJ2_get 2 (some (.object "java/lang/Object"))) ({ frames := 2, cells := 0, slots := 0, locals := 80 } : Room) (ix_P G β N sz [.ref (β 1 li), .int (nI j)]) (ix_R (some (va_rf r))) 0 0 (fun _ => False) := by
  refine ix_reader (by decide +kernel) (Nat.le_of_ble_eq_true rfl) ?_
  intro p e s m below meth c S hr hlocks hC hH hS ls hl
  have hAz : ∀ q, ix_z G q → ix_z G q := fun _ h => h
  have hx := S.1
  have hb := S.2.1
  have hts := S.2.2.2.2
  have S : CallFix p m c cJ2_get 2 s ([.ref (β 1 li), .int (nI j)] : List Value).toArray lw_all "java/util/ArrayList" := S
  have hl : lv_has ls 2 [(0, .ref (β 1 li)), (1, .int (nI j))] := hl
  refine lv_iload_n hx hb dJ2_get_0 rfl (lv_at hl 1 rfl) ?_
  refine lv_aload_n hx hb dJ2_get_1 rfl (lv_at hl 0 rfl) ?_
  refine ix_get S hC hH (k := 1) (i := li) (fs := [.int mc, .ref (β 2 li), .int (nI n)]) hl0 rfl rfl in_J2 2 (by decide) q76 (fun _ h9 => h9) rfl dJ2_get_2 ?_
  refine ix_rd (W.runS (As := [.int (nI j), .int (nI n)]) (rest := []) S (jj_check1 l G β N s.heap.size j n (by omega) (by omega)) (va_cwS 2 hts (lw_S q340 q341 q40 q342) rfl rfl rfl (by decide +kernel) ⟨Nat.le_of_ble_eq_true rfl, Nat.le_of_ble_eq_true rfl⟩) (ix_pre hC hS hAz hH rfl) rfl rfl hl.1 rfl (lv_room (Nat.le_of_ble_eq_true rfl)) dJ2_get_5 ⟨Nat.le_refl _, Nat.le_refl _⟩) ?_
  refine W.eq (g2 := F0 m 8 ls [.int (nI j)]) rfl ?_
  refine lv_pop hx hb dJ2_get_8 rfl ?_
  refine lv_aload_n hx hb dJ2_get_9 rfl (lv_at hl 0 rfl) ?_
  refine lv_iload_n hx hb dJ2_get_10 rfl (lv_at hl 1 rfl) ?_
  refine ix_rd (W.runV (As := [.int (nI j)]) (rest := []) S (jj_elementData l G β N s.heap.size li mc n cap f j r hl0 ha0 (by omega) (by omega) hfj) (cwV 1 hts (lw_V q346 q347 q348 q24 q349) rfl rfl rfl (by decide +kernel) ⟨Nat.le_of_ble_eq_true rfl, Nat.le_of_ble_eq_true rfl⟩) (ix_preV hC hS hAz hH (ix_recv (k := 1) (i := li) hC hH hl0 rfl) rfl) rfl rfl hl.1 rfl (lv_room (Nat.le_of_ble_eq_true rfl)) dJ2_get_11 ⟨Nat.le_refl _, Nat.le_refl _⟩) ?_
  refine W.eq (g2 := F0 m 14 ls [va_rf r]) rfl ?_
  exact ix_rA S hr hlocks (Or.inl ⟨_, rfl⟩) (rfl) (va_rf_or _) dJ2_get_14
set_option maxHeartbeats 4000000 in
set_option maxRecDepth 100000 in
theorem jj_equals (l : Launch) (G : ix_G) (β : ix_B) (N : ix_N) (sz : Nat) (x y : Nat) : Met l yJ15_equals (ws_ yJ15_equals cJ15_equals 2 (some .boolean)) ({ frames := 0, cells := 0, slots := 0, locals := 0 } : Room) (ix_P G β N sz [.ref x, .ref y]) (ix_R (some (.int (ix_b (decide (x = y)))))) 0 0 (fun _ => False) := by
  refine ix_readerF (by decide +kernel) (Nat.le_of_ble_eq_true rfl) ?_
  intro p e s m below meth c S hr hlocks hC hH hS ls hl
  have hAz : ∀ q, ix_z G q → ix_z G q := fun _ h => h
  have hx := S.1
  have hb := S.2.1
  have hts := S.2.2.2.2
  have S : CallFix p m c cJ15_equals 2 s ([.ref x, .ref y] : List Value).toArray lw_all "java/lang/Object" := S
  have hl : lv_has ls 2 [(0, .ref x), (1, .ref y)] := hl
  refine lv_aload_n hx hb dJ15_equals_0 rfl (lv_at hl 0 rfl) ?_
  refine lv_aload_n hx hb dJ15_equals_1 rfl (lv_at hl 1 rfl) ?_
  refine lv_acmp_ne (rx := some x) (ry := some y) (tgt := 9) hx hb dJ15_equals_2 (by decide) (fun c2 => ?_) (fun c2 => ?_)
  · refine lv_iconst (v := 0) hx hb dJ15_equals_9 (by decide) ?_
    exact ix_rZ S hr hlocks (by simp at c2; simp [ix_b, c2]) dJ15_equals_10
  · refine lv_iconst (v := 1) hx hb dJ15_equals_5 (by decide) ?_
    refine lv_goto (tgt := 10) hx hb dJ15_equals_6 (by decide) ?_
    exact ix_rZ S hr hlocks (by simp at c2; simp [ix_b, c2]) dJ15_equals_10
set_option maxHeartbeats 4000000 in
set_option maxRecDepth 100000 in
theorem jj_indexOfR (l : Launch) (G : ix_G) (β : ix_B) (N : ix_N) (sz : Nat) (li : Nat) (mc : Int32) (n : Nat) (cap : Nat) (f : Nat → Option Nat) (ej : Nat × Nat) (fs9 : List Value) (hl0 : N 1 li = some (.inr (11, [.int mc, .ref (β 2 li), .int (nI n)]))) (ha0 : N 2 li = some (.inl (G.2.1 3, cap, .inr (.inr (.inr (.inr f)))))) (hn : n ≤ cap) (hcap : cap ≤ 1000) (hfe : ∀ j, j < n → ∃ y, f j = some y) (he0 : N ej.1 ej.2 = some (.inr (1, fs9))) : Met l yJ2_indexOfRange (ws_ yJ2_indexOfRange cJ2_indexOfRange 6 (some .int)) ({ frames := 1, cells := 0, slots := 0, locals := 40 } : Room) (ix_P G β N sz [.ref (β 1 li), .ref (β ej.1 ej.2), .int 0, .int (nI n)]) (ix_R (some (.int (jj_ix f (β ej.1 ej.2) n)))) 0 0 (fun _ => False) := by
  refine ix_reader (by decide +kernel) (Nat.le_of_ble_eq_true rfl) ?_
  intro p e s m below meth c S hr hlocks hC hH hS ls hl
  have hAz : ∀ q, ix_z G q → ix_z G q := fun _ h => h
  have hx := S.1
  have hb := S.2.1
  have hts := S.2.2.2.2
  have S : CallFix p m c cJ2_indexOfRange 6 s ([.ref (β 1 li), .ref (β ej.1 ej.2), .int 0, .int (nI n)] : List Value).toArray lw_all "java/util/ArrayList" := S
  have hl : lv_has ls 6 [(0, .ref (β 1 li)), (1, .ref (β ej.1 ej.2)), (2, .int 0), (3, .int (nI n))] := hl
  refine lv_aload_n hx hb dJ2_indexOfRange_0 rfl (lv_at hl 0 rfl) ?_
  refine ix_get S hC hH (k := 1) (i := li) (fs := [.int mc, .ref (β 2 li), .int (nI n)]) hl0 rfl rfl in_J2 1 (by decide) q73 (fun _ h9 => h9) rfl dJ2_indexOfRange_1 ?_
  refine lv_astore (lv' := [(4, .ref (β 2 li)), (0, .ref (β 1 li)), (1, .ref (β ej.1 ej.2)), (2, .int 0), (3, .int (nI n))]) hx hb dJ2_indexOfRange_4 hl (by decide) rfl (fun ls hl => ?_)
  refine lv_aload_n hx hb dJ2_indexOfRange_6 rfl (lv_at hl 2 rfl) ?_
  refine lv_ifnonnull (tgt := 39) hx hb dJ2_indexOfRange_7 (by decide) ?_
  refine lv_iload_n hx hb dJ2_indexOfRange_39 rfl (lv_at hl 3 rfl) ?_
  refine lv_istore (lv' := [(5, .int 0), (4, .ref (β 2 li)), (0, .ref (β 1 li)), (1, .ref (β ej.1 ej.2)), (2, .int 0), (3, .int (nI n))]) hx hb dJ2_indexOfRange_40 hl (by decide) rfl (fun ls hl => ?_)
  have lp42 : ∀ (fu42 : Nat) (k : Nat), n + 1 ≤ k + fu42 → (k ≤ n) → (∀ i, i < k → (fun k => decide (f k = some (β ej.1 ej.2))) i = false) → ∀ ls, lv_has ls 6 [(0, .ref (β 1 li)), (1, .ref (β ej.1 ej.2)), (2, .int 0), (3, .int (nI n)), (4, .ref (β 2 li)), (5, .int (nI k))] → W p l e ({ frames := 1, cells := 0, slots := 0, locals := 40 } : Room) s m ([.ref (β 1 li), .ref (β ej.1 ej.2), .int 0, .int (nI n)] : List Value).toArray below meth c s.heap ([]) 0 0 (MQ below (ix_R (some (.int (jj_ix f (β ej.1 ej.2) n)))) ([.ref (β 1 li), .ref (β ej.1 ej.2), .int 0, .int (nI n)] : List Value).toArray s 0 0 (fun _ => False)) (F0 m 42 ls []) := by
    intro fu42
    induction fu42 with
    | zero =>
      intro k hfu hk hno ls hl
      exact absurd hfu (by omega)
    | succ fu42 ih42 =>
      intro k hfu hk hno ls hl
      refine lv_iload hx hb dJ2_indexOfRange_42 (lv_at hl 5 rfl) ?_
      refine lv_iload_n hx hb dJ2_indexOfRange_44 rfl (lv_at hl 3 rfl) ?_
      refine lv_icmp_ge (tgt := 69) hx hb dJ2_indexOfRange_45 (by decide) (fun c45 => ?_) (fun c45 => ?_)
      · have c45 : n ≤ k := (ix_nle (a := n) (b := k) rfl rfl (by omega) (by omega)).mp c45
        refine lv_iconst (v := (-1)) hx hb dJ2_indexOfRange_69 (by decide) ?_
        exact ix_rI S hr hlocks (by rw [jj_ix, ix_find_none (fun i h => hno i (by omega))]) dJ2_indexOfRange_70
      · have c45 : ¬ (n ≤ k) := (not_congr (ix_nle (a := n) (b := k) rfl rfl (by omega) (by omega))).mp c45
        refine lv_aload_n hx hb dJ2_indexOfRange_48 rfl (lv_at hl 1 rfl) ?_
        refine lv_aload hx hb dJ2_indexOfRange_49 (lv_at hl 4 rfl) ?_
        refine lv_iload hx hb dJ2_indexOfRange_51 (lv_at hl 5 rfl) ?_
        obtain ⟨y, hy⟩ := hfe k (by omega)
        refine ix_aald (n := cap) S hC hH ha0 rfl rfl rfl (by omega) (by omega) (hy) dJ2_indexOfRange_53 ?_
        refine ix_rd3 (va_runU (As := [.ref y]) (rest := []) S (jj_equals l G β N s.heap.size (β ej.1 ej.2) y) (va_cwU (own := "java/util/ArrayList") (index := 93) (C := "InitiatorRows$Job") (owner := "java/lang/Object") (x := ⟨"java/lang/Object", "equals", "(Ljava/lang/Object;)Z"⟩) (y := yJ15_equals) 1 hts (lw_app (lw_in _ [470, 472, 479, 471, 1040] (by decide +kernel) (by decide +kernel)) (lw_meth q489)) rfl rfl rfl rfl (by decide +kernel) ⟨Nat.le_of_ble_eq_true rfl, Nat.le_of_ble_eq_true rfl⟩) (ix_preV hC hS hAz hH (ix_recv hC hH he0 rfl) rfl) rfl rfl hl.1 rfl (lv_room (Nat.le_of_ble_eq_true rfl)) dJ2_indexOfRange_54 ⟨Nat.le_refl _, Nat.le_refl _⟩) ?_
        refine W.eq (g2 := F0 m 57 ls [.int (ix_b (decide (β ej.1 ej.2 = y)))]) rfl ?_
        refine lv_if_eq (tgt := 63) hx hb dJ2_indexOfRange_57 (by decide) (fun c57 => ?_) (fun c57 => ?_)
        · have c57 : (decide (β ej.1 ej.2 = y)) = false := ix_b_eq.mp c57
          refine lv_iinc (v := nI (k + 1)) (lv' := [(5, .int (nI (k + 1))), (0, .ref (β 1 li)), (1, .ref (β ej.1 ej.2)), (2, .int 0), (3, .int (nI n)), (4, .ref (β 2 li))]) hx hb dJ2_indexOfRange_63 hl (k := 5) rfl ((ix_nadd rfl (rfl : (1 : Int32) = nI 1))) (by decide) rfl (fun ls hl => ?_)
          refine lv_goto (tgt := 42) hx hb dJ2_indexOfRange_66 (by decide) ?_
          exact ih42 (k + 1) (by omega) (by omega) (lt_s hno (by simp [hy, Ne.symm (of_decide_eq_false c57)])) _ (lv_sub hl [1, 2, 3, 4, 5, 0] rfl)
        · have c57 : (decide (β ej.1 ej.2 = y)) = true := ix_b_ne.mp c57
          refine lv_iload hx hb dJ2_indexOfRange_60 (lv_at hl 5 rfl) ?_
          exact ix_rI S hr hlocks (by rw [jj_ix, ix_find_some hno (by omega) (by simp [hy, (of_decide_eq_true c57).symm])]) dJ2_indexOfRange_62
  exact lp42 (n + 1) 0 (by omega) (by omega) (fun i h => absurd h (by omega)) _ (lv_sub hl [2, 3, 4, 5, 1, 0] rfl)
set_option maxHeartbeats 4000000 in
set_option maxRecDepth 100000 in
theorem jj_indexOf (l : Launch) (G : ix_G) (β : ix_B) (N : ix_N) (sz : Nat) (li : Nat) (mc : Int32) (n : Nat) (cap : Nat) (f : Nat → Option Nat) (ej : Nat × Nat) (fs9 : List Value) (hl0 : N 1 li = some (.inr (11, [.int mc, .ref (β 2 li), .int (nI n)]))) (ha0 : N 2 li = some (.inl (G.2.1 3, cap, .inr (.inr (.inr (.inr f)))))) (hn : n ≤ cap) (hcap : cap ≤ 1000) (hfe : ∀ j, j < n → ∃ y, f j = some y) (he0 : N ej.1 ej.2 = some (.inr (1, fs9))) : Met l yJ2_indexOf (ws_ yJ2_indexOf cJ2_indexOf 2 (some .int)) ({ frames := 2, cells := 0, slots := 0, locals := 80 } : Room) (ix_P G β N sz [.ref (β 1 li), .ref (β ej.1 ej.2)]) (ix_R (some (.int (jj_ix f (β ej.1 ej.2) n)))) 0 0 (fun _ => False) := by
  refine ix_reader (by decide +kernel) (Nat.le_of_ble_eq_true rfl) ?_
  intro p e s m below meth c S hr hlocks hC hH hS ls hl
  have hAz : ∀ q, ix_z G q → ix_z G q := fun _ h => h
  have hx := S.1
  have hb := S.2.1
  have hts := S.2.2.2.2
  have S : CallFix p m c cJ2_indexOf 2 s ([.ref (β 1 li), .ref (β ej.1 ej.2)] : List Value).toArray lw_all "java/util/ArrayList" := S
  have hl : lv_has ls 2 [(0, .ref (β 1 li)), (1, .ref (β ej.1 ej.2))] := hl
  refine lv_aload_n hx hb dJ2_indexOf_0 rfl (lv_at hl 0 rfl) ?_
  refine lv_aload_n hx hb dJ2_indexOf_1 rfl (lv_at hl 1 rfl) ?_
  refine lv_iconst (v := 0) hx hb dJ2_indexOf_2 (by decide) ?_
  refine lv_aload_n hx hb dJ2_indexOf_3 rfl (lv_at hl 0 rfl) ?_
  refine ix_get S hC hH (k := 1) (i := li) (fs := [.int mc, .ref (β 2 li), .int (nI n)]) hl0 rfl rfl in_J2 2 (by decide) q76 (fun _ h9 => h9) rfl dJ2_indexOf_4 ?_
  refine ix_rd (W.runV (As := [.ref (β ej.1 ej.2), .int 0, .int (nI n)]) (rest := []) S (jj_indexOfR l G β N s.heap.size li mc n cap f ej fs9 hl0 ha0 hn hcap hfe he0) (cwV 3 hts (lw_V q465 q466 q467 q24 q468) rfl rfl rfl (by decide +kernel) ⟨Nat.le_of_ble_eq_true rfl, Nat.le_of_ble_eq_true rfl⟩) (ix_preV hC hS hAz hH (ix_recv (k := 1) (i := li) hC hH hl0 rfl) rfl) rfl rfl hl.1 rfl (lv_room (Nat.le_of_ble_eq_true rfl)) dJ2_indexOf_7 ⟨Nat.le_refl _, Nat.le_refl _⟩) ?_
  refine W.eq (g2 := F0 m 10 ls [.int (jj_ix f (β ej.1 ej.2) n)]) rfl ?_
  exact ix_rI S hr hlocks (rfl) dJ2_indexOf_10
set_option maxHeartbeats 4000000 in
set_option maxRecDepth 100000 in
theorem jj_contains (l : Launch) (G : ix_G) (β : ix_B) (N : ix_N) (sz : Nat) (li : Nat) (mc : Int32) (n : Nat) (cap : Nat) (f : Nat → Option Nat) (ej : Nat × Nat) (fs9 : List Value) (hl0 : N 1 li = some (.inr (11, [.int mc, .ref (β 2 li), .int (nI n)]))) (ha0 : N 2 li = some (.inl (G.2.1 3, cap, .inr (.inr (.inr (.inr f)))))) (hn : n ≤ cap) (hcap : cap ≤ 1000) (hfe : ∀ j, j < n → ∃ y, f j = some y) (he0 : N ej.1 ej.2 = some (.inr (1, fs9))) : Met l yJ2_contains (ws_ yJ2_contains cJ2_contains 2 (some .boolean)) ({ frames := 3, cells := 0, slots := 0, locals := 120 } : Room) (ix_P G β N sz [.ref (β 1 li), .ref (β ej.1 ej.2)]) (ix_R (some (.int (ix_b (ix_any (fun k => decide (f k = some (β ej.1 ej.2))) n))))) 0 0 (fun _ => False) := by
  refine ix_reader (by decide +kernel) (Nat.le_of_ble_eq_true rfl) ?_
  intro p e s m below meth c S hr hlocks hC hH hS ls hl
  have hAz : ∀ q, ix_z G q → ix_z G q := fun _ h => h
  have hx := S.1
  have hb := S.2.1
  have hts := S.2.2.2.2
  have S : CallFix p m c cJ2_contains 2 s ([.ref (β 1 li), .ref (β ej.1 ej.2)] : List Value).toArray lw_all "java/util/ArrayList" := S
  have hl : lv_has ls 2 [(0, .ref (β 1 li)), (1, .ref (β ej.1 ej.2))] := hl
  refine lv_aload_n hx hb dJ2_contains_0 rfl (lv_at hl 0 rfl) ?_
  refine lv_aload_n hx hb dJ2_contains_1 rfl (lv_at hl 1 rfl) ?_
  refine ix_rd (W.runV (As := [.ref (β ej.1 ej.2)]) (rest := []) S (jj_indexOf l G β N s.heap.size li mc n cap f ej fs9 hl0 ha0 hn hcap hfe he0) (cwV 1 hts (lw_V q461 q462 q463 q24 q464) rfl rfl rfl (by decide +kernel) ⟨Nat.le_of_ble_eq_true rfl, Nat.le_of_ble_eq_true rfl⟩) (ix_preV hC hS hAz hH (ix_recv (k := 1) (i := li) hC hH hl0 rfl) rfl) rfl rfl hl.1 rfl (lv_room (Nat.le_of_ble_eq_true rfl)) dJ2_contains_2 ⟨Nat.le_refl _, Nat.le_refl _⟩) ?_
  refine W.eq (g2 := F0 m 5 ls [.int (jj_ix f (β ej.1 ej.2) n)]) rfl ?_
  refine lv_if_lt (tgt := 12) hx hb dJ2_contains_5 (by decide) (fun c5 => ?_) (fun c5 => ?_)
  · refine lv_iconst (v := 0) hx hb dJ2_contains_12 (by decide) ?_
    exact ix_rZ S hr hlocks (jj_ix_lt (by omega) c5) dJ2_contains_13
  · refine lv_iconst (v := 1) hx hb dJ2_contains_8 (by decide) ?_
    refine lv_goto (tgt := 13) hx hb dJ2_contains_9 (by decide) ?_
    exact ix_rZ S hr hlocks (jj_ix_ge (by omega) c5) dJ2_contains_13
