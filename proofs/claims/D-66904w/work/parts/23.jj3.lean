/-! THE LIBRARY's LISTS: remove, add at a place, the iterator -/
theorem jj_n4 {N : ix_N} {li : Nat} {a b c d : Option va_E} : ix_u (ix_u (ix_u (ix_u N 1 li a) 2 li b) 1 li c) 2 li d = ix_u (ix_u N 2 li d) 1 li c := by
  rw [ix_uc (f := ix_u (ix_u N 1 li a) 2 li b) (by omega), ix_uu, ix_uc (f := N) (by omega), ix_uu]
theorem jj_n5 {N : ix_N} {li : Nat} {a c d : Option va_E} : ix_u (ix_u (ix_u N 1 li a) 1 li c) 2 li d = ix_u (ix_u N 2 li d) 1 li c := by
  rw [ix_uu, ix_uc (by omega)]
theorem jj_n6 {N : ix_N} {li : Nat} {a b c d : Option va_E} : ix_u (ix_u (ix_u (ix_u N 1 li a) 2 li b) 2 li c) 1 li d = ix_u (ix_u N 2 li c) 1 li d := by
  rw [ix_uu, ix_uc (f := N) (by omega), ix_uu]
theorem jj_n7 {N : ix_N} {li : Nat} {a b c d e f : Option va_E} : ix_u (ix_u (ix_u (ix_u (ix_u (ix_u N 1 li a) 2 li b) 1 li c) 2 li d) 2 li e) 1 li f = ix_u (ix_u N 2 li e) 1 li f := by
  rw [ix_uu (k := 2), ix_uc (f := ix_u (ix_u N 1 li a) 2 li b) (by omega), ix_uu, ix_uu, ix_uc (f := N) (by omega), ix_uu]
theorem jj_cpy_at {α : Type} {f g : Nat → α} {sp dp n k : Nat} : va_cpy f g sp dp n k = if dp ≤ k ∧ k < dp + n then f (sp + (k - dp)) else g k := by
  unfold va_cpy
  rfl
theorem jj_cp_id {f : Nat → Option Nat} {cap : Nat} (hnone : ∀ j, cap ≤ j → f j = none) : va_cpy f (fun _ => none) 0 0 cap = f := by
  funext k
  rw [jj_cpy_at]
  by_cases h : k < cap
  · rw [if_pos ⟨by omega, by omega⟩]
    congr 1; omega
  · rw [if_neg (by omega), hnone k (by omega)]
theorem jj_rm_a {f : Nat → Option Nat} {k n : Nat} (hk : k < n) (hnone : ∀ j, n ≤ j → f j = none) : va_up (va_cpy f f (k + 1) k (n - 1 - k)) (n - 1) none = jj_rm f k n := by
  funext i
  simp only [va_up, jj_cpy_at, jj_rm]
  by_cases h1 : i = n - 1
  · rw [if_pos h1]
    by_cases h2 : i < k
    · omega
    · rw [if_neg h2, if_neg (by omega)]
  · rw [if_neg h1]
    by_cases h2 : i < k
    · rw [if_neg (by omega), if_pos h2]
    · rw [if_neg h2]
      by_cases h3 : i + 1 < n
      · rw [if_pos (by omega), if_pos h3]; congr 1; omega
      · rw [if_neg (by omega), if_neg h3, hnone i (by omega)]
theorem jj_rm_b {f : Nat → Option Nat} {k n : Nat} (hk : k < n) (h : n - 1 ≤ k) (hnone : ∀ j, n ≤ j → f j = none) : va_up f (n - 1) none = jj_rm f k n := by
  funext i
  simp only [va_up, jj_rm]
  by_cases h1 : i = n - 1
  · rw [if_pos h1, if_neg (by omega), if_neg (by omega)]
  · rw [if_neg h1]
    by_cases h2 : i < k
    · rw [if_pos h2]
    · rw [if_neg h2, if_neg (by omega), hnone i (by omega)]
theorem jj_in_a {f : Nat → Option Nat} {j n q : Nat} (hj : j ≤ n) (hnone : ∀ j, n ≤ j → f j = none) : va_up (va_cpy f f j (j + 1) (n - j)) j (some q) = jj_in f j n q := by
  funext i
  simp only [va_up, jj_cpy_at, jj_in]
  by_cases h1 : i = j
  · rw [if_pos h1, if_neg (by omega), if_pos h1]
  · rw [if_neg h1]
    by_cases h2 : i < j
    · rw [if_neg (by omega), if_pos h2]
    · rw [if_neg h2, if_neg h1]
      by_cases h3 : i < n + 1
      · rw [if_pos (by omega), if_pos h3]; congr 1; omega
      · rw [if_neg (by omega), if_neg h3, hnone i (by omega)]
theorem jj_in_0 {q : Nat} : va_up (va_cpy (fun _ => none) (fun _ => none) 0 (0 + 1) (0 - 0)) 0 (some q) = va_up (fun _ => none) 0 (some q) := by
  funext i
  simp only [va_up, jj_cpy_at, ite_self]
set_option maxHeartbeats 4000000 in
set_option maxRecDepth 100000 in
theorem jj_fastRemove (l : Launch) (G : ix_G) (β : ix_B) (N : ix_N) (sz : Nat) (li : Nat) (mc : Int32) (n : Nat) (cap k : Nat) (f : Nat → Option Nat) (hl0 : N 1 li = some (.inr (11, [.int mc, .ref (β 2 li), .int (nI n)]))) (ha0 : N 2 li = some (.inl (G.2.1 3, cap, .inr (.inr (.inr (.inr f)))))) (hk : k < n) (hn : n ≤ cap) (hcap : cap ≤ 1000) (hnone : ∀ j, n ≤ j → f j = none) (hE : ∀ j y, f j = some y → jj_e β N y) : Met l yJ2_fastRemove (ws_ yJ2_fastRemove cJ2_fastRemove 4 (none)) ({ frames := 1, cells := 0, slots := 0, locals := 40 } : Room) (ix_P G β N sz [.ref (β 1 li), .ref (β 2 li), .int (nI k)]) (ix_Q (none) (fun (H9 : Heap) => ix_H G.1 (ix_A β N sz) β (ix_u (ix_u N 2 li (some (.inl (G.2.1 3, cap, .inr (.inr (.inr (.inr (jj_rm f k n)))))))) 1 li (some (.inr (11, [.int ((mc + 1)), .ref (β 2 li), .int (nI ((n - 1)))])))) H9) (ix_A β N sz)) 0 0 (ix_A β N sz) := by
  refine ix_writer (by decide +kernel) (Nat.le_of_ble_eq_true rfl) ?_
  intro p e s m below meth c A S hr hlocks hnm hC hsz hH hS hA0 hAz hAe ls hl
  have hx := S.1
  have hb := S.2.1
  have hts := S.2.2.2.2
  have S : CallFix p m c cJ2_fastRemove 4 s ([.ref (β 1 li), .ref (β 2 li), .int (nI k)] : List Value).toArray lw_all "java/util/ArrayList" := S
  have hl : lv_has ls 4 [(0, .ref (β 1 li)), (1, .ref (β 2 li)), (2, .int (nI k))] := hl
  refine lv_aload_n hx hb dJ2_fastRemove_0 rfl (lv_at hl 0 rfl) ?_
  refine lv_dup hx hb dJ2_fastRemove_1 rfl ?_
  refine ix_get S hC hH (k := 1) (i := li) (fs := [.int mc, .ref (β 2 li), .int (nI n)]) hl0 rfl rfl in_J2 0 (by decide) q80 (u_same (hts _ q79)) rfl dJ2_fastRemove_2 ?_
  refine lv_iconst (v := 1) hx hb dJ2_fastRemove_5 (by decide) ?_
  refine lv_iadd hx hb dJ2_fastRemove_6 ?_
  refine ix_put S hC hH hS (k := 1) (i := li) (fs := [.int mc, .ref (β 2 li), .int (nI n)]) hl0 rfl rfl in_J2 tyJ2 tyJ2_ok nmJ2 0 (by decide) q80 (u_same (hts _ q79)) rfl (rfl) (rfl) (show 0 < 3 by decide) dJ2_fastRemove_7 (fun H_1 locs_2 hH hS hz => ?_)
  have hH : ix_H G.1 A β (ix_u N 1 li (some (.inr (11, [.int (mc + 1), .ref (β 2 li), .int (nI n)])))) H_1 := hH
  refine lv_aload_n hx hb dJ2_fastRemove_10 rfl (lv_at hl 0 rfl) ?_
  refine ix_get S hC hH (k := 1) (i := li) (fs := [.int (mc + 1), .ref (β 2 li), .int (nI n)]) ix_us rfl rfl in_J2 2 (by decide) q76 (fun _ h9 => h9) rfl dJ2_fastRemove_11 ?_
  refine lv_iconst (v := 1) hx hb dJ2_fastRemove_14 (by decide) ?_
  refine lv_isub hx hb dJ2_fastRemove_15 ?_
  refine ix_reI (y := nI (n - 1)) (ix_nsub rfl rfl (by omega)) ?_
  refine lv_dup hx hb dJ2_fastRemove_16 rfl ?_
  refine lv_istore_n (lv' := [(3, .int (nI (n - 1))), (0, .ref (β 1 li)), (1, .ref (β 2 li)), (2, .int (nI k))]) hx hb dJ2_fastRemove_17 rfl hl (by decide) rfl (fun ls hl => ?_)
  refine lv_iload_n hx hb dJ2_fastRemove_18 rfl (lv_at hl 3 rfl) ?_
  refine lv_icmp_le (tgt := 34) hx hb dJ2_fastRemove_19 (by decide) (fun c19 => ?_) (fun c19 => ?_)
  · have c19 : (n - 1) ≤ k := (ix_nle (a := (n - 1)) (b := k) rfl rfl (by omega) (by omega)).mp c19
    refine lv_aload_n hx hb dJ2_fastRemove_34 rfl (lv_at hl 2 rfl) ?_
    refine lv_aload_n hx hb dJ2_fastRemove_35 rfl (lv_at hl 1 rfl) ?_
    refine lv_iload_n hx hb dJ2_fastRemove_36 rfl (lv_at hl 0 rfl) ?_
    refine lv_dup_x1 hx hb dJ2_fastRemove_37 rfl rfl ?_
    refine ix_put S hC hH hS (k := 1) (i := li) (fs := [.int (mc + 1), .ref (β 2 li), .int (nI n)]) ix_us rfl rfl in_J2 tyJ2 tyJ2_ok nmJ2 2 (by decide) q76 (fun _ h9 => h9) rfl (rfl) (rfl) (show 2 < 3 by decide) dJ2_fastRemove_38 (fun H_3 locs_4 hH hS hz => ?_)
    have hH : ix_H G.1 A β (ix_u (ix_u N 1 li (some (.inr (11, [.int (mc + 1), .ref (β 2 li), .int (nI n)])))) 1 li (some (.inr (11, [.int (mc + 1), .ref (β 2 li), .int (nI (n - 1))])))) H_3 := hH
    refine lv_null hx hb dJ2_fastRemove_41 ?_
    refine ix_aastN (n := cap) S hC hH hS ((ix_un (by omega)).trans ((ix_un (by omega)).trans ha0)) rfl rfl (j := (n - 1)) rfl (by omega) (by omega) dJ2_fastRemove_42 (fun H_5 locs_6 hH hS hz => ?_)
    have hH : ix_H G.1 A β (ix_u (ix_u (ix_u N 1 li (some (.inr (11, [.int (mc + 1), .ref (β 2 li), .int (nI n)])))) 1 li (some (.inr (11, [.int (mc + 1), .ref (β 2 li), .int (nI (n - 1))])))) 2 li (some (.inl (G.2.1 3, cap, .inr (.inr (.inr (.inr (va_up f ((n - 1)) none)))))))) H_5 := hH
    exact ix_wV S hr hlocks hS (by rw [← hAe]; first | (rw [jj_n4, jj_rm_a hk hnone] at hH; exact hH) | (rw [jj_n5, jj_rm_b hk (by omega) hnone] at hH; exact hH)) (by omega) (by omega) dJ2_fastRemove_43
  · have c19 : ¬ ((n - 1) ≤ k) := (not_congr (ix_nle (a := (n - 1)) (b := k) rfl rfl (by omega) (by omega))).mp c19
    refine lv_aload_n hx hb dJ2_fastRemove_22 rfl (lv_at hl 2 rfl) ?_
    refine lv_iload_n hx hb dJ2_fastRemove_23 rfl (lv_at hl 3 rfl) ?_
    refine lv_iconst (v := 1) hx hb dJ2_fastRemove_24 (by decide) ?_
    refine lv_iadd hx hb dJ2_fastRemove_25 ?_
    refine lv_aload_n hx hb dJ2_fastRemove_26 rfl (lv_at hl 2 rfl) ?_
    refine lv_iload_n hx hb dJ2_fastRemove_27 rfl (lv_at hl 3 rfl) ?_
    refine lv_iload_n hx hb dJ2_fastRemove_28 rfl (lv_at hl 0 rfl) ?_
    refine lv_iload_n hx hb dJ2_fastRemove_29 rfl (lv_at hl 3 rfl) ?_
    refine lv_isub hx hb dJ2_fastRemove_30 ?_
    refine ix_copy S hC hH hS q634 hl.1 (sj := k + 1) (dj := k) (nj := ((n - 1)) - k) ((ix_un (by omega)).trans ha0) ((ix_un (by omega)).trans ha0) rfl rfl (ix_nadd rfl (rfl : (1 : Int32) = nI 1)) rfl (ix_nsub (a := (n - 1)) (b := k) rfl rfl (by omega)) (by omega) (by omega) (by omega) (by omega) (fun i _ y h => jj_any hC hH ((hE _ y h).upd (by rw [hl0]; exact jj_no_11) (fun _ _ _ => rfl))) (Nat.le_of_ble_eq_true rfl) (Nat.le_of_ble_eq_true rfl) dJ2_fastRemove_31 (fun H_7 locs_8 hH hS hz => ?_)
    have hH : ix_H G.1 A β (ix_u (ix_u N 1 li (some (.inr (11, [.int (mc + 1), .ref (β 2 li), .int (nI n)])))) 2 li (some (.inl (G.2.1 3, cap, .inr (.inr (.inr (.inr (va_cpy f f (k + 1) k (((n - 1)) - k))))))))) H_7 := hH
    refine lv_aload_n hx hb dJ2_fastRemove_34 rfl (lv_at hl 2 rfl) ?_
    refine lv_aload_n hx hb dJ2_fastRemove_35 rfl (lv_at hl 1 rfl) ?_
    refine lv_iload_n hx hb dJ2_fastRemove_36 rfl (lv_at hl 0 rfl) ?_
    refine lv_dup_x1 hx hb dJ2_fastRemove_37 rfl rfl ?_
    refine ix_put S hC hH hS (k := 1) (i := li) (fs := [.int (mc + 1), .ref (β 2 li), .int (nI n)]) ((ix_un (by omega)).trans ix_us) rfl rfl in_J2 tyJ2 tyJ2_ok nmJ2 2 (by decide) q76 (fun _ h9 => h9) rfl (rfl) (rfl) (show 2 < 3 by decide) dJ2_fastRemove_38 (fun H_9 locs_10 hH hS hz => ?_)
    have hH : ix_H G.1 A β (ix_u (ix_u (ix_u N 1 li (some (.inr (11, [.int (mc + 1), .ref (β 2 li), .int (nI n)])))) 2 li (some (.inl (G.2.1 3, cap, .inr (.inr (.inr (.inr (va_cpy f f (k + 1) k (((n - 1)) - k))))))))) 1 li (some (.inr (11, [.int (mc + 1), .ref (β 2 li), .int (nI (n - 1))])))) H_9 := hH
    refine lv_null hx hb dJ2_fastRemove_41 ?_
    refine ix_aastN (n := cap) S hC hH hS ((ix_un (by omega)).trans ix_us) rfl rfl (j := (n - 1)) rfl (by omega) (by omega) dJ2_fastRemove_42 (fun H_11 locs_12 hH hS hz => ?_)
    have hH : ix_H G.1 A β (ix_u (ix_u (ix_u (ix_u N 1 li (some (.inr (11, [.int (mc + 1), .ref (β 2 li), .int (nI n)])))) 2 li (some (.inl (G.2.1 3, cap, .inr (.inr (.inr (.inr (va_cpy f f (k + 1) k (((n - 1)) - k))))))))) 1 li (some (.inr (11, [.int (mc + 1), .ref (β 2 li), .int (nI (n - 1))])))) 2 li (some (.inl (G.2.1 3, cap, .inr (.inr (.inr (.inr (va_up (va_cpy f f (k + 1) k (((n - 1)) - k)) ((n - 1)) none)))))))) H_11 := hH
    exact ix_wV S hr hlocks hS (by rw [← hAe]; first | (rw [jj_n4, jj_rm_a hk hnone] at hH; exact hH) | (rw [jj_n5, jj_rm_b hk (by omega) hnone] at hH; exact hH)) (by omega) (by omega) dJ2_fastRemove_43
set_option maxHeartbeats 4000000 in
set_option maxRecDepth 100000 in
theorem jj_remove (l : Launch) (G : ix_G) (β : ix_B) (N : ix_N) (sz : Nat) (li : Nat) (mc : Int32) (n : Nat) (cap k : Nat) (f : Nat → Option Nat) (ej : Nat × Nat) (fs9 : List Value) (hl0 : N 1 li = some (.inr (11, [.int mc, .ref (β 2 li), .int (nI n)]))) (ha0 : N 2 li = some (.inl (G.2.1 3, cap, .inr (.inr (.inr (.inr f)))))) (hk : k < n) (hn : n ≤ cap) (hcap : cap ≤ 1000) (hnone : ∀ j, n ≤ j → f j = none) (hE : ∀ j y, f j = some y → jj_e β N y) (he0 : N ej.1 ej.2 = some (.inr (1, fs9))) (hfe : ∀ j, j < n → ∃ y, f j = some y) (hfk : f k = some (β ej.1 ej.2)) (hfi : ∀ i, i < k → ¬ f i = some (β ej.1 ej.2)) : Met l yJ2_remove (ws_ yJ2_remove cJ2_remove 5 (some .boolean)) ({ frames := 2, cells := 0, slots := 0, locals := 80 } : Room) (ix_P G β N sz [.ref (β 1 li), .ref (β ej.1 ej.2)]) (ix_Q (some (.int (ix_b true))) (fun (H9 : Heap) => ix_H G.1 (ix_A β N sz) β (ix_u (ix_u N 2 li (some (.inl (G.2.1 3, cap, .inr (.inr (.inr (.inr (jj_rm f k n)))))))) 1 li (some (.inr (11, [.int ((mc + 1)), .ref (β 2 li), .int (nI ((n - 1)))])))) H9) (ix_A β N sz)) 0 0 (ix_A β N sz) := by
  refine ix_writer (by decide +kernel) (Nat.le_of_ble_eq_true rfl) ?_
  intro p e s m below meth c A S hr hlocks hnm hC hsz hH hS hA0 hAz hAe ls hl
  have hx := S.1
  have hb := S.2.1
  have hts := S.2.2.2.2
  have S : CallFix p m c cJ2_remove 5 s ([.ref (β 1 li), .ref (β ej.1 ej.2)] : List Value).toArray lw_all "java/util/ArrayList" := S
  have hl : lv_has ls 5 [(0, .ref (β 1 li)), (1, .ref (β ej.1 ej.2))] := hl
  refine lv_aload_n hx hb dJ2_remove_0 rfl (lv_at hl 0 rfl) ?_
  refine ix_get S hC hH (k := 1) (i := li) (fs := [.int mc, .ref (β 2 li), .int (nI n)]) hl0 rfl rfl in_J2 1 (by decide) q73 (fun _ h9 => h9) rfl dJ2_remove_1 ?_
  refine lv_astore_n (lv' := [(2, .ref (β 2 li)), (0, .ref (β 1 li)), (1, .ref (β ej.1 ej.2))]) hx hb dJ2_remove_4 rfl hl (by decide) rfl (fun ls hl => ?_)
  refine lv_aload_n hx hb dJ2_remove_5 rfl (lv_at hl 1 rfl) ?_
  refine ix_get S hC hH (k := 1) (i := li) (fs := [.int mc, .ref (β 2 li), .int (nI n)]) hl0 rfl rfl in_J2 2 (by decide) q76 (fun _ h9 => h9) rfl dJ2_remove_6 ?_
  refine lv_istore_n (lv' := [(3, .int (nI n)), (2, .ref (β 2 li)), (0, .ref (β 1 li)), (1, .ref (β ej.1 ej.2))]) hx hb dJ2_remove_9 rfl hl (by decide) rfl (fun ls hl => ?_)
  refine lv_iconst (v := 0) hx hb dJ2_remove_10 (by decide) ?_
  refine lv_istore (lv' := [(4, .int 0), (3, .int (nI n)), (2, .ref (β 2 li)), (0, .ref (β 1 li)), (1, .ref (β ej.1 ej.2))]) hx hb dJ2_remove_11 hl (by decide) rfl (fun ls hl => ?_)
  refine lv_aload_n hx hb dJ2_remove_13 rfl (lv_at hl 4 rfl) ?_
  refine lv_ifnonnull (tgt := 39) hx hb dJ2_remove_14 (by decide) ?_
  have lp39 : ∀ (fu39 : Nat) (j : Nat), n + 1 ≤ j + fu39 → (j ≤ k) → ∀ ls, lv_has ls 5 [(0, .ref (β 1 li)), (1, .ref (β ej.1 ej.2)), (2, .ref (β 2 li)), (3, .int (nI n)), (4, .int (nI j))] → W p l e ({ frames := 2, cells := 0, slots := 0, locals := 80 } : Room) s m ([.ref (β 1 li), .ref (β ej.1 ej.2)] : List Value).toArray below meth c s.heap ([]) 0 0 (MQ below (ix_Q (some (.int (ix_b true))) (fun (H9 : Heap) => ix_H G.1 (ix_A β N sz) β (ix_u (ix_u N 2 li (some (.inl (G.2.1 3, cap, .inr (.inr (.inr (.inr (jj_rm f k n)))))))) 1 li (some (.inr (11, [.int ((mc + 1)), .ref (β 2 li), .int (nI ((n - 1)))])))) H9) A) ([.ref (β 1 li), .ref (β ej.1 ej.2)] : List Value).toArray s 0 0 A) (F0 m 39 ls []) := by
    intro fu39
    induction fu39 with
    | zero =>
      intro j hfu hj ls hl
      exact absurd hfu (by omega)
    | succ fu39 ih39 =>
      intro j hfu hj ls hl
      refine lv_iload hx hb dJ2_remove_39 (lv_at hl 4 rfl) ?_
      refine lv_iload_n hx hb dJ2_remove_41 rfl (lv_at hl 3 rfl) ?_
      refine lv_icmp_ge (tgt := 65) hx hb dJ2_remove_42 (by decide) (fun c42 => ?_) (fun c42 => ?_)
      · have c42 : n ≤ j := (ix_nle (a := n) (b := j) rfl rfl (by omega) (by omega)).mp c42
        exfalso; omega
      · have c42 : ¬ (n ≤ j) := (not_congr (ix_nle (a := n) (b := j) rfl rfl (by omega) (by omega))).mp c42
        refine lv_aload_n hx hb dJ2_remove_45 rfl (lv_at hl 1 rfl) ?_
        refine lv_aload_n hx hb dJ2_remove_46 rfl (lv_at hl 2 rfl) ?_
        refine lv_iload hx hb dJ2_remove_47 (lv_at hl 4 rfl) ?_
        obtain ⟨y, hy⟩ := hfe j (by omega)
        refine ix_aald (n := cap) S hC hH ha0 rfl rfl rfl (by omega) (by omega) (hy) dJ2_remove_49 ?_
        refine ix_rd3 (va_runU (As := [.ref y]) (rest := []) S (jj_equals l G β N s.heap.size (β ej.1 ej.2) y) (va_cwU (own := "java/util/ArrayList") (index := 93) (C := "InitiatorRows$Job") (owner := "java/lang/Object") (x := ⟨"java/lang/Object", "equals", "(Ljava/lang/Object;)Z"⟩) (y := yJ15_equals) 1 hts (lw_app (lw_in _ [470, 472, 479, 471, 1040] (by decide +kernel) (by decide +kernel)) (lw_meth q489)) rfl rfl rfl rfl (by decide +kernel) ⟨Nat.le_of_ble_eq_true rfl, Nat.le_of_ble_eq_true rfl⟩) (ix_preV hC hS hAz hH (ix_recv hC hH he0 rfl) rfl) rfl rfl hl.1 rfl (lv_room (Nat.le_of_ble_eq_true rfl)) dJ2_remove_50 ⟨by first | exact Nat.le_of_ble_eq_true rfl | (show _ ≤ 0; omega), by first | exact Nat.le_of_ble_eq_true rfl | (show _ ≤ 0; omega)⟩) ?_
        refine W.eq (g2 := F0 m 53 ls [.int (ix_b (decide (β ej.1 ej.2 = y)))]) rfl ?_
        refine lv_if_eq (tgt := 59) hx hb dJ2_remove_53 (by decide) (fun c53 => ?_) (fun c53 => ?_)
        · have c53 : (decide (β ej.1 ej.2 = y)) = false := ix_b_eq.mp c53
          refine lv_iinc (v := nI (j + 1)) (lv' := [(4, .int (nI (j + 1))), (0, .ref (β 1 li)), (1, .ref (β ej.1 ej.2)), (2, .ref (β 2 li)), (3, .int (nI n))]) hx hb dJ2_remove_59 hl (k := 4) rfl ((ix_nadd rfl (rfl : (1 : Int32) = nI 1))) (by decide) rfl (fun ls hl => ?_)
          refine lv_goto (tgt := 39) hx hb dJ2_remove_62 (by decide) ?_
          exact ih39 (j + 1) (by omega) (by have hjk : ¬ j = k := (fun z => by subst z; rw [hfk] at hy; cases hy; exact of_decide_eq_false c53 rfl); omega) _ (lv_sub hl [1, 2, 3, 4, 0] rfl)
        · have c53 : (decide (β ej.1 ej.2 = y)) = true := ix_b_ne.mp c53
          have hjk : j = k := (Nat.lt_or_ge j k).elim (fun hlt => absurd (hy.trans (by rw [← of_decide_eq_true c53])) (hfi j hlt)) (fun h9 => by omega)
          refine lv_goto (tgt := 67) hx hb dJ2_remove_56 (by decide) ?_
          refine lv_aload_n hx hb dJ2_remove_67 rfl (lv_at hl 0 rfl) ?_
          refine lv_aload_n hx hb dJ2_remove_68 rfl (lv_at hl 2 rfl) ?_
          refine lv_iload hx hb dJ2_remove_69 (lv_at hl 4 rfl) ?_
          have hsub := ix_sub hH hS hA0
          refine ix_wr3 (va_runV (As := [.ref (β 2 li), .int (nI j)]) (rest := []) S (jj_fastRemove l G β N s.heap.size li mc n cap k f hl0 ha0 (by omega) hn hcap hnone hE) (cwV 2 hts (lw_V q630 q632 qs7 q24 q633) rfl rfl rfl (by decide +kernel) ⟨Nat.le_of_ble_eq_true rfl, Nat.le_of_ble_eq_true rfl⟩) (ix_preV hC hS hAz hH (ix_recv (k := 1) (i := li) hC hH hl0 rfl) (by rw [hjk])) rfl rfl hl.1 rfl (lv_room (Nat.le_of_ble_eq_true rfl)) dJ2_remove_71 ⟨by first | exact Nat.le_of_ble_eq_true rfl | (show _ ≤ 0; omega), by first | exact Nat.le_of_ble_eq_true rfl | (show _ ≤ 0; omega)⟩) hS (hsub) (hsub) (fun H_1 locs_2 hB hz hk hS => ?_)
          have hH := hB.weaken hsub
          refine W.eq (g2 := F0 m 74 ls []) rfl ?_
          refine lv_iconst (v := 1) hx hb dJ2_remove_74 (by decide) ?_
          exact ix_wZ S hr hlocks hS (rfl) (by rw [← hAe]; exact hH) (by omega) (by omega) dJ2_remove_75
  exact lp39 (n + 1) 0 (by omega) (by omega) _ (lv_sub hl [3, 4, 2, 1, 0] rfl)
set_option maxHeartbeats 4000000 in
set_option maxRecDepth 100000 in
theorem jj_range (l : Launch) (G : ix_G) (β : ix_B) (N : ix_N) (sz : Nat) (li : Nat) (ea : Nat) (mc : Int32) (n j : Nat) (hl0 : N 1 li = some (.inr (11, [.int mc, .ref ea, .int (nI n)]))) (hj : j ≤ n) (hn : n < 2 ^ 31) : Met l yJ2_rangeCheckForAdd (ws_ yJ2_rangeCheckForAdd cJ2_rangeCheckForAdd 2 (none)) ({ frames := 0, cells := 0, slots := 0, locals := 0 } : Room) (ix_P G β N sz [.ref (β 1 li), .int (nI j)]) (ix_R (none)) 0 0 (fun _ => False) := by
  refine ix_reader (by decide +kernel) (Nat.le_of_ble_eq_true rfl) ?_
  intro p e s m below meth c S hr hlocks hC hH hS ls hl
  have hAz : ∀ q, ix_z G q → ix_z G q := fun _ h => h
  have hx := S.1
  have hb := S.2.1
  have hts := S.2.2.2.2
  have S : CallFix p m c cJ2_rangeCheckForAdd 2 s ([.ref (β 1 li), .int (nI j)] : List Value).toArray lw_all "java/util/ArrayList" := S
  have hl : lv_has ls 2 [(0, .ref (β 1 li)), (1, .int (nI j))] := hl
  refine lv_iload_n hx hb dJ2_rangeCheckForAdd_0 rfl (lv_at hl 1 rfl) ?_
  refine lv_aload_n hx hb dJ2_rangeCheckForAdd_1 rfl (lv_at hl 0 rfl) ?_
  refine ix_get S hC hH (k := 1) (i := li) (fs := [.int mc, .ref ea, .int (nI n)]) hl0 rfl rfl in_J2 2 (by decide) q76 (fun _ h9 => h9) rfl dJ2_rangeCheckForAdd_2 ?_
  refine lv_icmp_gt (tgt := 12) hx hb dJ2_rangeCheckForAdd_5 (by decide) (fun c5 => ?_) (fun c5 => ?_)
  · have c5 : n < j := (ix_nlt (a := n) (b := j) rfl rfl (by omega) (by omega)).mp c5
    exfalso; omega
  · have c5 : ¬ (n < j) := (not_congr (ix_nlt (a := n) (b := j) rfl rfl (by omega) (by omega))).mp c5
    refine lv_iload_n hx hb dJ2_rangeCheckForAdd_8 rfl (lv_at hl 1 rfl) ?_
    refine lv_if_ge (tgt := 25) hx hb dJ2_rangeCheckForAdd_9 (by decide) (fun c9 => ?_) (fun c9 => ?_)
    · have c9 : ¬ (nI j < 0) := Int32.not_lt.mpr c9
      exact ix_rV S hr hlocks dJ2_rangeCheckForAdd_25
    · have c9 : nI j < 0 := Int32.not_le.mp c9
      exact absurd c9 (nI_pos (by omega))
set_option maxHeartbeats 4000000 in
set_option maxRecDepth 100000 in
theorem jj_addI_f (l : Launch) (G : ix_G) (β : ix_B) (N : ix_N) (sz : Nat) (li : Nat) (mc : Int32) (n : Nat) (cap : Nat) (f : Nat → Option Nat) (q j : Nat) (hl0 : N 1 li = some (.inr (11, [.int mc, .ref (β 2 li), .int (nI n)]))) (ha0 : N 2 li = some (.inl (G.2.1 3, cap, .inr (.inr (.inr (.inr f)))))) (hj : j ≤ n) (hn : n < cap) (hcap : cap ≤ 1000) (hE : ∀ j y, f j = some y → jj_e β N y) (hq : jj_e β N q) (hnone : ∀ j, n ≤ j → f j = none) : Met l yJ2_add_3 (ws_ yJ2_add_3 cJ2_add_3 5 (none)) ({ frames := 5, cells := 1, slots := 200, locals := 200 } : Room) (ix_P G β N sz [.ref (β 1 li), .int (nI j), .ref q]) (ix_Q (none) (fun (H9 : Heap) => ∃ b : ix_B, (∀ x y, ¬ (x = 2 ∧ y = li) → b x y = β x y) ∧ ix_H G.1 (ix_A β N sz) b (ix_u (ix_u N 2 li (some (.inl (G.2.1 3, cap, .inr (.inr (.inr (.inr (jj_in f j n q)))))))) 1 li (some (.inr (11, [.int ((mc + 1)), .ref (b 2 li), .int (nI ((n + 1)))])))) H9) (ix_A β N sz)) 1 200 (ix_A β N sz) := by
  refine ix_writer (by decide +kernel) (Nat.le_of_ble_eq_true rfl) ?_
  intro p e s m below meth c A S hr hlocks hnm hC hsz hH hS hA0 hAz hAe ls hl
  have hx := S.1
  have hb := S.2.1
  have hts := S.2.2.2.2
  have S : CallFix p m c cJ2_add_3 5 s ([.ref (β 1 li), .int (nI j), .ref q] : List Value).toArray lw_all "java/util/ArrayList" := S
  have hl : lv_has ls 5 [(0, .ref (β 1 li)), (1, .int (nI j)), (2, .ref q)] := hl
  refine lv_aload_n hx hb dJ2_add_3_0 rfl (lv_at hl 0 rfl) ?_
  refine lv_iload_n hx hb dJ2_add_3_1 rfl (lv_at hl 1 rfl) ?_
  refine ix_rd (W.runV (As := [.int (nI j)]) (rest := []) S (jj_range l G β N s.heap.size li (β 2 li) mc n j hl0 (by omega) (by omega)) (cwV 1 hts (lw_V q660 q662 qs8 q24 q663) rfl rfl rfl (by decide +kernel) ⟨Nat.le_of_ble_eq_true rfl, Nat.le_of_ble_eq_true rfl⟩) (ix_preV hC hS hAz hH (ix_recv (k := 1) (i := li) hC hH hl0 rfl) rfl) rfl rfl hl.1 rfl (lv_room (Nat.le_of_ble_eq_true rfl)) dJ2_add_3_2 ⟨by first | exact Nat.le_of_ble_eq_true rfl | (show _ ≤ 1; omega), by first | exact Nat.le_of_ble_eq_true rfl | (show _ ≤ 200; omega)⟩) ?_
  refine W.eq (g2 := F0 m 5 ls []) rfl ?_
  refine lv_aload_n hx hb dJ2_add_3_5 rfl (lv_at hl 0 rfl) ?_
  refine lv_dup hx hb dJ2_add_3_6 rfl ?_
  refine ix_get S hC hH (k := 1) (i := li) (fs := [.int mc, .ref (β 2 li), .int (nI n)]) hl0 rfl rfl in_J2 0 (by decide) q80 (u_same (hts _ q79)) rfl dJ2_add_3_7 ?_
  refine lv_iconst (v := 1) hx hb dJ2_add_3_10 (by decide) ?_
  refine lv_iadd hx hb dJ2_add_3_11 ?_
  refine ix_put S hC hH hS (k := 1) (i := li) (fs := [.int mc, .ref (β 2 li), .int (nI n)]) hl0 rfl rfl in_J2 tyJ2 tyJ2_ok nmJ2 0 (by decide) q80 (u_same (hts _ q79)) rfl (rfl) (rfl) (show 0 < 3 by decide) dJ2_add_3_12 (fun H_1 locs_2 hH hS hz => ?_)
  have hH : ix_H G.1 A β (ix_u N 1 li (some (.inr (11, [.int (mc + 1), .ref (β 2 li), .int (nI n)])))) H_1 := hH
  have hq : jj_e β (ix_u N 1 li (some (.inr (11, [.int (mc + 1), .ref (β 2 li), .int (nI n)])))) q := hq.upd (by rw [hl0]; exact jj_no_11) (fun _ _ _ => rfl)
  have hE : ∀ j y, f j = some y → jj_e β (ix_u N 1 li (some (.inr (11, [.int (mc + 1), .ref (β 2 li), .int (nI n)])))) y := fun j y h => (hE j y h).upd (by rw [hl0]; exact jj_no_11) (fun _ _ _ => rfl)
  refine lv_aload_n hx hb dJ2_add_3_15 rfl (lv_at hl 0 rfl) ?_
  refine ix_get S hC hH (k := 1) (i := li) (fs := [.int (mc + 1), .ref (β 2 li), .int (nI n)]) ix_us rfl rfl in_J2 2 (by decide) q76 (fun _ h9 => h9) rfl dJ2_add_3_16 ?_
  refine lv_dup hx hb dJ2_add_3_19 rfl ?_
  refine lv_istore_n (lv' := [(3, .int (nI n)), (0, .ref (β 1 li)), (1, .int (nI j)), (2, .ref q)]) hx hb dJ2_add_3_20 rfl hl (by decide) rfl (fun ls hl => ?_)
  refine lv_aload_n hx hb dJ2_add_3_21 rfl (lv_at hl 1 rfl) ?_
  refine ix_get S hC hH (k := 1) (i := li) (fs := [.int (mc + 1), .ref (β 2 li), .int (nI n)]) ix_us rfl rfl in_J2 1 (by decide) q73 (fun _ h9 => h9) rfl dJ2_add_3_22 ?_
  refine lv_dup hx hb dJ2_add_3_25 rfl ?_
  refine lv_astore (lv' := [(4, .ref (β 2 li)), (3, .int (nI n)), (0, .ref (β 1 li)), (1, .int (nI j)), (2, .ref q)]) hx hb dJ2_add_3_26 hl (by decide) rfl (fun ls hl => ?_)
  refine ix_alen S hC hH ((ix_un (by omega)).trans ha0) rfl rfl dJ2_add_3_28 ?_
  refine lv_icmp_ne (tgt := 38) hx hb dJ2_add_3_29 (by decide) (fun c29 => ?_) (fun c29 => ?_)
  · have c29 : ¬ (n = cap) := (not_congr (ix_neq (a := n) (b := cap) rfl rfl (by omega) (by omega))).mp c29
    refine lv_aload hx hb dJ2_add_3_38 (lv_at hl 0 rfl) ?_
    refine lv_iload_n hx hb dJ2_add_3_40 rfl (lv_at hl 3 rfl) ?_
    refine lv_aload hx hb dJ2_add_3_41 (lv_at hl 0 rfl) ?_
    refine lv_iload_n hx hb dJ2_add_3_43 rfl (lv_at hl 3 rfl) ?_
    refine lv_iconst (v := 1) hx hb dJ2_add_3_44 (by decide) ?_
    refine lv_iadd hx hb dJ2_add_3_45 ?_
    refine lv_iload_n hx hb dJ2_add_3_46 rfl (lv_at hl 1 rfl) ?_
    refine lv_iload_n hx hb dJ2_add_3_47 rfl (lv_at hl 3 rfl) ?_
    refine lv_isub hx hb dJ2_add_3_48 ?_
    refine ix_copy S hC hH hS q634 hl.1 (sj := j) (dj := j + 1) (nj := n - j) ((ix_un (by omega)).trans ha0) ((ix_un (by omega)).trans ha0) rfl rfl rfl (ix_nadd rfl (rfl : (1 : Int32) = nI 1)) (ix_nsub (a := n) (b := j) rfl rfl (by omega)) (by omega) (by omega) (by omega) (by omega) (fun i _ y h => jj_any hC hH (hE _ y h)) (Nat.le_of_ble_eq_true rfl) (Nat.le_of_ble_eq_true rfl) dJ2_add_3_49 (fun H_3 locs_4 hH hS hz => ?_)
    have hH : ix_H G.1 A β (ix_u (ix_u N 1 li (some (.inr (11, [.int (mc + 1), .ref (β 2 li), .int (nI n)])))) 2 li (some (.inl (G.2.1 3, cap, .inr (.inr (.inr (.inr (va_cpy f f j (j + 1) (n - j))))))))) H_3 := hH
    have hq : jj_e β (ix_u (ix_u N 1 li (some (.inr (11, [.int (mc + 1), .ref (β 2 li), .int (nI n)])))) 2 li (some (.inl (G.2.1 3, cap, .inr (.inr (.inr (.inr (va_cpy f f j (j + 1) (n - j))))))))) q := hq.upd (by rw [((ix_un (by omega)).trans ha0)]; exact jj_no_a) (fun _ _ _ => rfl)
    have hE : ∀ j y, f j = some y → jj_e β (ix_u (ix_u N 1 li (some (.inr (11, [.int (mc + 1), .ref (β 2 li), .int (nI n)])))) 2 li (some (.inl (G.2.1 3, cap, .inr (.inr (.inr (.inr (va_cpy f f j (j + 1) (n - j))))))))) y := fun j y h => (hE j y h).upd (by rw [((ix_un (by omega)).trans ha0)]; exact jj_no_a) (fun _ _ _ => rfl)
    refine lv_aload hx hb dJ2_add_3_52 (lv_at hl 0 rfl) ?_
    refine lv_iload_n hx hb dJ2_add_3_54 rfl (lv_at hl 3 rfl) ?_
    refine lv_aload_n hx hb dJ2_add_3_55 rfl (lv_at hl 4 rfl) ?_
    refine ix_aast (n := cap) S hC hH hS ix_us rfl rfl ((jj_any hC hH hq)) (j := j) rfl (by omega) (by omega) dJ2_add_3_56 (fun H_5 locs_6 hH hS hz => ?_)
    have hH : ix_H G.1 A β (ix_u (ix_u (ix_u N 1 li (some (.inr (11, [.int (mc + 1), .ref (β 2 li), .int (nI n)])))) 2 li (some (.inl (G.2.1 3, cap, .inr (.inr (.inr (.inr (va_cpy f f j (j + 1) (n - j))))))))) 2 li (some (.inl (G.2.1 3, cap, .inr (.inr (.inr (.inr (va_up (va_cpy f f j (j + 1) (n - j)) j (some q))))))))) H_5 := hH
    have hq : jj_e β (ix_u (ix_u (ix_u N 1 li (some (.inr (11, [.int (mc + 1), .ref (β 2 li), .int (nI n)])))) 2 li (some (.inl (G.2.1 3, cap, .inr (.inr (.inr (.inr (va_cpy f f j (j + 1) (n - j))))))))) 2 li (some (.inl (G.2.1 3, cap, .inr (.inr (.inr (.inr (va_up (va_cpy f f j (j + 1) (n - j)) j (some q))))))))) q := hq.upd (by rw [ix_us]; exact jj_no_a) (fun _ _ _ => rfl)
    have hE : ∀ j y, f j = some y → jj_e β (ix_u (ix_u (ix_u N 1 li (some (.inr (11, [.int (mc + 1), .ref (β 2 li), .int (nI n)])))) 2 li (some (.inl (G.2.1 3, cap, .inr (.inr (.inr (.inr (va_cpy f f j (j + 1) (n - j))))))))) 2 li (some (.inl (G.2.1 3, cap, .inr (.inr (.inr (.inr (va_up (va_cpy f f j (j + 1) (n - j)) j (some q))))))))) y := fun j y h => (hE j y h).upd (by rw [ix_us]; exact jj_no_a) (fun _ _ _ => rfl)
    refine lv_aload_n hx hb dJ2_add_3_57 rfl (lv_at hl 2 rfl) ?_
    refine lv_iload_n hx hb dJ2_add_3_58 rfl (lv_at hl 1 rfl) ?_
    refine lv_iconst (v := 1) hx hb dJ2_add_3_59 (by decide) ?_
    refine lv_iadd hx hb dJ2_add_3_60 ?_
    refine ix_reI (y := nI (n + 1)) (nI_1 _) ?_
    refine ix_put S hC hH hS (k := 1) (i := li) (fs := [.int (mc + 1), .ref (β 2 li), .int (nI n)]) ((ix_un (by omega)).trans ((ix_un (by omega)).trans ix_us)) rfl rfl in_J2 tyJ2 tyJ2_ok nmJ2 2 (by decide) q76 (fun _ h9 => h9) rfl (rfl) (rfl) (show 2 < 3 by decide) dJ2_add_3_61 (fun H_7 locs_8 hH hS hz => ?_)
    have hH : ix_H G.1 A β (ix_u (ix_u (ix_u (ix_u N 1 li (some (.inr (11, [.int (mc + 1), .ref (β 2 li), .int (nI n)])))) 2 li (some (.inl (G.2.1 3, cap, .inr (.inr (.inr (.inr (va_cpy f f j (j + 1) (n - j))))))))) 2 li (some (.inl (G.2.1 3, cap, .inr (.inr (.inr (.inr (va_up (va_cpy f f j (j + 1) (n - j)) j (some q))))))))) 1 li (some (.inr (11, [.int (mc + 1), .ref (β 2 li), .int (nI (n + 1))])))) H_7 := hH
    have hq : jj_e β (ix_u (ix_u (ix_u (ix_u N 1 li (some (.inr (11, [.int (mc + 1), .ref (β 2 li), .int (nI n)])))) 2 li (some (.inl (G.2.1 3, cap, .inr (.inr (.inr (.inr (va_cpy f f j (j + 1) (n - j))))))))) 2 li (some (.inl (G.2.1 3, cap, .inr (.inr (.inr (.inr (va_up (va_cpy f f j (j + 1) (n - j)) j (some q))))))))) 1 li (some (.inr (11, [.int (mc + 1), .ref (β 2 li), .int (nI (n + 1))])))) q := hq.upd (by rw [((ix_un (by omega)).trans ((ix_un (by omega)).trans ix_us))]; exact jj_no_11) (fun _ _ _ => rfl)
    have hE : ∀ j y, f j = some y → jj_e β (ix_u (ix_u (ix_u (ix_u N 1 li (some (.inr (11, [.int (mc + 1), .ref (β 2 li), .int (nI n)])))) 2 li (some (.inl (G.2.1 3, cap, .inr (.inr (.inr (.inr (va_cpy f f j (j + 1) (n - j))))))))) 2 li (some (.inl (G.2.1 3, cap, .inr (.inr (.inr (.inr (va_up (va_cpy f f j (j + 1) (n - j)) j (some q))))))))) 1 li (some (.inr (11, [.int (mc + 1), .ref (β 2 li), .int (nI (n + 1))])))) y := fun j y h => (hE j y h).upd (by rw [((ix_un (by omega)).trans ((ix_un (by omega)).trans ix_us))]; exact jj_no_11) (fun _ _ _ => rfl)
    exact ix_wV S hr hlocks hS (⟨β, fun _ _ _ => rfl, by rw [← hAe]; rw [jj_n6, jj_in_a hj hnone] at hH; exact hH⟩) (by omega) (by omega) dJ2_add_3_64
  · have c29 : n = cap := (ix_neq (a := n) (b := cap) rfl rfl (by omega) (by omega)).mp c29
    exfalso; omega
set_option maxHeartbeats 4000000 in
set_option maxRecDepth 100000 in
theorem jj_addI_0 (l : Launch) (G : ix_G) (β : ix_B) (N : ix_N) (sz : Nat) (li : Nat) (mc : Int32) (q : Nat) (hl0 : N 1 li = some (.inr (11, [.int mc, .ref (G.2.2.1 4), .int (nI 0)]))) (hq : jj_e β N q) (hd2 : jj_no (N 2 li)) : Met l yJ2_add_3 (ws_ yJ2_add_3 cJ2_add_3 5 (none)) ({ frames := 5, cells := 1, slots := 200, locals := 200 } : Room) (ix_P G β N sz [.ref (β 1 li), .int (nI 0), .ref q]) (ix_Q (none) (fun (H9 : Heap) => ∃ b : ix_B, (∀ x y, ¬ (x = 2 ∧ y = li) → b x y = β x y) ∧ ix_H G.1 (ix_A β N sz) b (ix_u (ix_u N 2 li (some (.inl (G.2.1 3, 10, .inr (.inr (.inr (.inr (va_up (fun _ => none) 0 (some q))))))))) 1 li (some (.inr (11, [.int ((mc + 1)), .ref (b 2 li), .int (nI ((0 + 1)))])))) H9) (ix_A β N sz)) 1 200 (ix_A β N sz) := by
  refine ix_writer (by decide +kernel) (Nat.le_of_ble_eq_true rfl) ?_
  intro p e s m below meth c A S hr hlocks hnm hC hsz hH hS hA0 hAz hAe ls hl
  have hx := S.1
  have hb := S.2.1
  have hts := S.2.2.2.2
  have S : CallFix p m c cJ2_add_3 5 s ([.ref (β 1 li), .int (nI 0), .ref q] : List Value).toArray lw_all "java/util/ArrayList" := S
  have hl : lv_has ls 5 [(0, .ref (β 1 li)), (1, .int (nI 0)), (2, .ref q)] := hl
  refine lv_aload_n hx hb dJ2_add_3_0 rfl (lv_at hl 0 rfl) ?_
  refine lv_iload_n hx hb dJ2_add_3_1 rfl (lv_at hl 1 rfl) ?_
  refine ix_rd (W.runV (As := [.int (nI 0)]) (rest := []) S (jj_range l G β N s.heap.size li (G.2.2.1 4) mc 0 0 hl0 (by omega) (by omega)) (cwV 1 hts (lw_V q660 q662 qs8 q24 q663) rfl rfl rfl (by decide +kernel) ⟨Nat.le_of_ble_eq_true rfl, Nat.le_of_ble_eq_true rfl⟩) (ix_preV hC hS hAz hH (ix_recv (k := 1) (i := li) hC hH hl0 rfl) rfl) rfl rfl hl.1 rfl (lv_room (Nat.le_of_ble_eq_true rfl)) dJ2_add_3_2 ⟨by first | exact Nat.le_of_ble_eq_true rfl | (show _ ≤ 1; omega), by first | exact Nat.le_of_ble_eq_true rfl | (show _ ≤ 200; omega)⟩) ?_
  refine W.eq (g2 := F0 m 5 ls []) rfl ?_
  refine lv_aload_n hx hb dJ2_add_3_5 rfl (lv_at hl 0 rfl) ?_
  refine lv_dup hx hb dJ2_add_3_6 rfl ?_
  refine ix_get S hC hH (k := 1) (i := li) (fs := [.int mc, .ref (G.2.2.1 4), .int (nI 0)]) hl0 rfl rfl in_J2 0 (by decide) q80 (u_same (hts _ q79)) rfl dJ2_add_3_7 ?_
  refine lv_iconst (v := 1) hx hb dJ2_add_3_10 (by decide) ?_
  refine lv_iadd hx hb dJ2_add_3_11 ?_
  refine ix_put S hC hH hS (k := 1) (i := li) (fs := [.int mc, .ref (G.2.2.1 4), .int (nI 0)]) hl0 rfl rfl in_J2 tyJ2 tyJ2_ok nmJ2 0 (by decide) q80 (u_same (hts _ q79)) rfl (rfl) (rfl) (show 0 < 3 by decide) dJ2_add_3_12 (fun H_1 locs_2 hH hS hz => ?_)
  have hH : ix_H G.1 A β (ix_u N 1 li (some (.inr (11, [.int (mc + 1), .ref (G.2.2.1 4), .int (nI 0)])))) H_1 := hH
  have hq : jj_e β (ix_u N 1 li (some (.inr (11, [.int (mc + 1), .ref (G.2.2.1 4), .int (nI 0)])))) q := hq.upd (by rw [hl0]; exact jj_no_11) (fun _ _ _ => rfl)
  refine lv_aload_n hx hb dJ2_add_3_15 rfl (lv_at hl 0 rfl) ?_
  refine ix_get S hC hH (k := 1) (i := li) (fs := [.int (mc + 1), .ref (G.2.2.1 4), .int (nI 0)]) ix_us rfl rfl in_J2 2 (by decide) q76 (fun _ h9 => h9) rfl dJ2_add_3_16 ?_
  refine lv_dup hx hb dJ2_add_3_19 rfl ?_
  refine lv_istore_n (lv' := [(3, .int (nI 0)), (0, .ref (β 1 li)), (1, .int (nI 0)), (2, .ref q)]) hx hb dJ2_add_3_20 rfl hl (by decide) rfl (fun ls hl => ?_)
  refine lv_aload_n hx hb dJ2_add_3_21 rfl (lv_at hl 1 rfl) ?_
  refine ix_get S hC hH (k := 1) (i := li) (fs := [.int (mc + 1), .ref (G.2.2.1 4), .int (nI 0)]) ix_us rfl rfl in_J2 1 (by decide) q73 (fun _ h9 => h9) rfl dJ2_add_3_22 ?_
  refine lv_dup hx hb dJ2_add_3_25 rfl ?_
  refine lv_astore (lv' := [(4, .ref (G.2.2.1 4)), (3, .int (nI 0)), (0, .ref (β 1 li)), (1, .int (nI 0)), (2, .ref q)]) hx hb dJ2_add_3_26 hl (by decide) rfl (fun ls hl => ?_)
  refine ix_lenEmpty S hC hS hAz dJ2_add_3_28 ?_
  refine lv_icmp_ne (tgt := 38) hx hb dJ2_add_3_29 (by decide) (fun c29 => ?_) (fun c29 => ?_)
  · have c29 : ¬ (0 = 0) := (not_congr (ix_neq (a := 0) (b := 0) rfl rfl (by omega) (by omega))).mp c29
    exact absurd rfl c29
  · have c29 : 0 = 0 := (ix_neq (a := 0) (b := 0) rfl rfl (by omega) (by omega)).mp c29
    refine lv_aload_n hx hb dJ2_add_3_32 rfl (lv_at hl 2 rfl) ?_
    have hsub := ix_sub hH hS hA0
    refine ix_wrr3 (va_runV (As := []) (rest := []) S (jj_grow_0 l G β (ix_u N 1 li (some (.inr (11, [.int (mc + 1), .ref (G.2.2.1 4), .int (nI 0)])))) H_1.size li (mc + 1) ix_us) (cwV 0 hts (lw_V q265 q267 qs1 q24 q268) rfl rfl rfl (by decide +kernel) ⟨Nat.le_of_ble_eq_true rfl, Nat.le_of_ble_eq_true rfl⟩) (ix_preV hC hS hAz hH (ix_recv (k := 1) (i := li) hC hH ix_us rfl) rfl) rfl rfl hl.1 rfl (lv_room (Nat.le_of_ble_eq_true rfl)) dJ2_add_3_33 ⟨by first | exact Nat.le_of_ble_eq_true rfl | (show _ ≤ 1; omega), by first | exact Nat.le_of_ble_eq_true rfl | (show _ ≤ 200; omega)⟩) hS (hsub) (hsub) (fun ra H_3 locs_4 hB hz hk hS => ?_)
    obtain ⟨b3, hb3, hbf3, hH⟩ := hB
    have hH := hH.weaken hsub
    have ea_5 : β 1 li = b3 1 li := (show β 1 li = β 1 li from rfl).trans (hbf3 1 li (by omega)).symm
    have hq : jj_e b3 (ix_u (ix_u N 1 li (some (.inr (11, [.int (mc + 1), .ref (G.2.2.1 4), .int (nI 0)])))) 2 li (some (.inl (G.2.1 3, 10, .inr (.inr (.inr (.inr ((fun _ => none))))))))) q := hq.upd hd2 hbf3
    have hq : jj_e b3 (ix_u (ix_u (ix_u N 1 li (some (.inr (11, [.int (mc + 1), .ref (G.2.2.1 4), .int (nI 0)])))) 2 li (some (.inl (G.2.1 3, 10, .inr (.inr (.inr (.inr ((fun _ => none))))))))) 1 li (some (.inr (11, [.int (mc + 1), .ref (b3 2 li), .int (nI 0)])))) q := hq.upd (by rw [((ix_un (by omega)).trans ix_us)]; exact jj_no_11) (fun _ _ _ => rfl)
    have hra : ra = b3 2 li := hb3.symm
    refine W.eq (g2 := F0 m 36 ls [.ref ra]) rfl ?_
    refine lv_astore (lv' := [(4, .ref ra), (3, .int (nI 0)), (0, .ref (β 1 li)), (1, .int (nI 0)), (2, .ref q)]) hx hb dJ2_add_3_36 hl (by decide) rfl (fun ls hl => ?_)
    refine lv_aload hx hb dJ2_add_3_38 (lv_at hl 0 rfl) ?_
    refine lv_iload_n hx hb dJ2_add_3_40 rfl (lv_at hl 3 rfl) ?_
    refine lv_aload hx hb dJ2_add_3_41 (lv_at hl 0 rfl) ?_
    refine lv_iload_n hx hb dJ2_add_3_43 rfl (lv_at hl 3 rfl) ?_
    refine lv_iconst (v := 1) hx hb dJ2_add_3_44 (by decide) ?_
    refine lv_iadd hx hb dJ2_add_3_45 ?_
    refine lv_iload_n hx hb dJ2_add_3_46 rfl (lv_at hl 1 rfl) ?_
    refine lv_iload_n hx hb dJ2_add_3_47 rfl (lv_at hl 3 rfl) ?_
    refine lv_isub hx hb dJ2_add_3_48 ?_
    refine ix_copy S hC hH hS q634 hl.1 (sj := 0) (dj := 0 + 1) (nj := 0 - 0) ((ix_un (by omega)).trans ix_us) ((ix_un (by omega)).trans ix_us) hra hra rfl (ix_nadd rfl (rfl : (1 : Int32) = nI 1)) (ix_nsub (a := 0) (b := 0) rfl rfl (by omega)) (by omega) (by omega) (by omega) (by omega) (fun i hi y h => absurd hi (by omega)) (Nat.le_of_ble_eq_true rfl) (Nat.le_of_ble_eq_true rfl) dJ2_add_3_49 (fun H_6 locs_7 hH hS hz => ?_)
    have hH : ix_H G.1 A b3 (ix_u (ix_u (ix_u (ix_u N 1 li (some (.inr (11, [.int (mc + 1), .ref (G.2.2.1 4), .int (nI 0)])))) 2 li (some (.inl (G.2.1 3, 10, .inr (.inr (.inr (.inr ((fun _ => none))))))))) 1 li (some (.inr (11, [.int (mc + 1), .ref (b3 2 li), .int (nI 0)])))) 2 li (some (.inl (G.2.1 3, 10, .inr (.inr (.inr (.inr (va_cpy ((fun _ => none)) ((fun _ => none)) 0 (0 + 1) (0 - 0))))))))) H_6 := hH
    have hq : jj_e b3 (ix_u (ix_u (ix_u (ix_u N 1 li (some (.inr (11, [.int (mc + 1), .ref (G.2.2.1 4), .int (nI 0)])))) 2 li (some (.inl (G.2.1 3, 10, .inr (.inr (.inr (.inr ((fun _ => none))))))))) 1 li (some (.inr (11, [.int (mc + 1), .ref (b3 2 li), .int (nI 0)])))) 2 li (some (.inl (G.2.1 3, 10, .inr (.inr (.inr (.inr (va_cpy ((fun _ => none)) ((fun _ => none)) 0 (0 + 1) (0 - 0))))))))) q := hq.upd (by rw [((ix_un (by omega)).trans ix_us)]; exact jj_no_a) (fun _ _ _ => rfl)
    refine lv_aload hx hb dJ2_add_3_52 (lv_at hl 0 rfl) ?_
    refine lv_iload_n hx hb dJ2_add_3_54 rfl (lv_at hl 3 rfl) ?_
    refine lv_aload_n hx hb dJ2_add_3_55 rfl (lv_at hl 4 rfl) ?_
    refine ix_aast (n := 10) S hC hH hS ix_us rfl hra ((jj_any hC hH hq)) (j := 0) rfl (by omega) (by omega) dJ2_add_3_56 (fun H_8 locs_9 hH hS hz => ?_)
    have hH : ix_H G.1 A b3 (ix_u (ix_u (ix_u (ix_u (ix_u N 1 li (some (.inr (11, [.int (mc + 1), .ref (G.2.2.1 4), .int (nI 0)])))) 2 li (some (.inl (G.2.1 3, 10, .inr (.inr (.inr (.inr ((fun _ => none))))))))) 1 li (some (.inr (11, [.int (mc + 1), .ref (b3 2 li), .int (nI 0)])))) 2 li (some (.inl (G.2.1 3, 10, .inr (.inr (.inr (.inr (va_cpy ((fun _ => none)) ((fun _ => none)) 0 (0 + 1) (0 - 0))))))))) 2 li (some (.inl (G.2.1 3, 10, .inr (.inr (.inr (.inr (va_up (va_cpy ((fun _ => none)) ((fun _ => none)) 0 (0 + 1) (0 - 0)) 0 (some q))))))))) H_8 := hH
    have hq : jj_e b3 (ix_u (ix_u (ix_u (ix_u (ix_u N 1 li (some (.inr (11, [.int (mc + 1), .ref (G.2.2.1 4), .int (nI 0)])))) 2 li (some (.inl (G.2.1 3, 10, .inr (.inr (.inr (.inr ((fun _ => none))))))))) 1 li (some (.inr (11, [.int (mc + 1), .ref (b3 2 li), .int (nI 0)])))) 2 li (some (.inl (G.2.1 3, 10, .inr (.inr (.inr (.inr (va_cpy ((fun _ => none)) ((fun _ => none)) 0 (0 + 1) (0 - 0))))))))) 2 li (some (.inl (G.2.1 3, 10, .inr (.inr (.inr (.inr (va_up (va_cpy ((fun _ => none)) ((fun _ => none)) 0 (0 + 1) (0 - 0)) 0 (some q))))))))) q := hq.upd (by rw [ix_us]; exact jj_no_a) (fun _ _ _ => rfl)
    refine lv_aload_n hx hb dJ2_add_3_57 rfl (lv_at hl 2 rfl) ?_
    refine lv_iload_n hx hb dJ2_add_3_58 rfl (lv_at hl 1 rfl) ?_
    refine lv_iconst (v := 1) hx hb dJ2_add_3_59 (by decide) ?_
    refine lv_iadd hx hb dJ2_add_3_60 ?_
    refine ix_reI (y := nI (0 + 1)) (nI_1 _) ?_
    refine ix_put S hC hH hS (k := 1) (i := li) (fs := [.int (mc + 1), .ref (b3 2 li), .int (nI 0)]) ((ix_un (by omega)).trans ((ix_un (by omega)).trans ix_us)) ea_5 rfl in_J2 tyJ2 tyJ2_ok nmJ2 2 (by decide) q76 (fun _ h9 => h9) rfl (rfl) (rfl) (show 2 < 3 by decide) dJ2_add_3_61 (fun H_10 locs_11 hH hS hz => ?_)
    have hH : ix_H G.1 A b3 (ix_u (ix_u (ix_u (ix_u (ix_u (ix_u N 1 li (some (.inr (11, [.int (mc + 1), .ref (G.2.2.1 4), .int (nI 0)])))) 2 li (some (.inl (G.2.1 3, 10, .inr (.inr (.inr (.inr ((fun _ => none))))))))) 1 li (some (.inr (11, [.int (mc + 1), .ref (b3 2 li), .int (nI 0)])))) 2 li (some (.inl (G.2.1 3, 10, .inr (.inr (.inr (.inr (va_cpy ((fun _ => none)) ((fun _ => none)) 0 (0 + 1) (0 - 0))))))))) 2 li (some (.inl (G.2.1 3, 10, .inr (.inr (.inr (.inr (va_up (va_cpy ((fun _ => none)) ((fun _ => none)) 0 (0 + 1) (0 - 0)) 0 (some q))))))))) 1 li (some (.inr (11, [.int (mc + 1), .ref (b3 2 li), .int (nI (0 + 1))])))) H_10 := hH
    have hq : jj_e b3 (ix_u (ix_u (ix_u (ix_u (ix_u (ix_u N 1 li (some (.inr (11, [.int (mc + 1), .ref (G.2.2.1 4), .int (nI 0)])))) 2 li (some (.inl (G.2.1 3, 10, .inr (.inr (.inr (.inr ((fun _ => none))))))))) 1 li (some (.inr (11, [.int (mc + 1), .ref (b3 2 li), .int (nI 0)])))) 2 li (some (.inl (G.2.1 3, 10, .inr (.inr (.inr (.inr (va_cpy ((fun _ => none)) ((fun _ => none)) 0 (0 + 1) (0 - 0))))))))) 2 li (some (.inl (G.2.1 3, 10, .inr (.inr (.inr (.inr (va_up (va_cpy ((fun _ => none)) ((fun _ => none)) 0 (0 + 1) (0 - 0)) 0 (some q))))))))) 1 li (some (.inr (11, [.int (mc + 1), .ref (b3 2 li), .int (nI (0 + 1))])))) q := hq.upd (by rw [((ix_un (by omega)).trans ((ix_un (by omega)).trans ix_us))]; exact jj_no_11) (fun _ _ _ => rfl)
    exact ix_wV S hr hlocks hS (⟨b3, hbf3, by rw [← hAe]; rw [jj_n7, jj_in_0] at hH; exact hH⟩) (by omega) (by omega) dJ2_add_3_64
set_option maxHeartbeats 4000000 in
set_option maxRecDepth 100000 in
theorem jj_addI_1 (l : Launch) (G : ix_G) (β : ix_B) (N : ix_N) (sz : Nat) (li : Nat) (mc : Int32) (cap : Nat) (f : Nat → Option Nat) (q : Nat) (hl0 : N 1 li = some (.inr (11, [.int mc, .ref (β 2 li), .int (nI cap)]))) (ha0 : N 2 li = some (.inl (G.2.1 3, cap, .inr (.inr (.inr (.inr f)))))) (hc1 : 1 ≤ cap) (hc2 : cap ≤ 100) (hE : ∀ j y, f j = some y → jj_e β N y) (hq : jj_e β N q) (h90 : N 90 0 = none) (j : Nat) (hj : j ≤ cap) (hnone : ∀ j, cap ≤ j → f j = none) : Met l yJ2_add_3 (ws_ yJ2_add_3 cJ2_add_3 5 (none)) ({ frames := 5, cells := 1, slots := 200, locals := 200 } : Room) (ix_P G β N sz [.ref (β 1 li), .int (nI j), .ref q]) (ix_Q (none) (fun (H9 : Heap) => ∃ b : ix_B, (∀ x y, ¬ (x = 2 ∧ y = li) → b x y = β x y) ∧ ix_H G.1 (ix_A β N sz) b (ix_u (ix_u N 2 li (some (.inl (G.2.1 3, (cap + jj_mx 1 (cap / 2)), .inr (.inr (.inr (.inr (jj_in f j cap q)))))))) 1 li (some (.inr (11, [.int ((mc + 1)), .ref (b 2 li), .int (nI ((cap + 1)))])))) H9) (ix_A β N sz)) 1 200 (ix_A β N sz) := by
  refine ix_writer (by decide +kernel) (Nat.le_of_ble_eq_true rfl) ?_
  intro p e s m below meth c A S hr hlocks hnm hC hsz hH hS hA0 hAz hAe ls hl
  have hx := S.1
  have hb := S.2.1
  have hts := S.2.2.2.2
  have S : CallFix p m c cJ2_add_3 5 s ([.ref (β 1 li), .int (nI j), .ref q] : List Value).toArray lw_all "java/util/ArrayList" := S
  have hl : lv_has ls 5 [(0, .ref (β 1 li)), (1, .int (nI j)), (2, .ref q)] := hl
  have hmx := jj_mx_b 1 (cap / 2)
  refine lv_aload_n hx hb dJ2_add_3_0 rfl (lv_at hl 0 rfl) ?_
  refine lv_iload_n hx hb dJ2_add_3_1 rfl (lv_at hl 1 rfl) ?_
  refine ix_rd (W.runV (As := [.int (nI j)]) (rest := []) S (jj_range l G β N s.heap.size li (β 2 li) mc cap j hl0 (by omega) (by omega)) (cwV 1 hts (lw_V q660 q662 qs8 q24 q663) rfl rfl rfl (by decide +kernel) ⟨Nat.le_of_ble_eq_true rfl, Nat.le_of_ble_eq_true rfl⟩) (ix_preV hC hS hAz hH (ix_recv (k := 1) (i := li) hC hH hl0 rfl) rfl) rfl rfl hl.1 rfl (lv_room (Nat.le_of_ble_eq_true rfl)) dJ2_add_3_2 ⟨by first | exact Nat.le_of_ble_eq_true rfl | (show _ ≤ 1; omega), by first | exact Nat.le_of_ble_eq_true rfl | (show _ ≤ 200; omega)⟩) ?_
  refine W.eq (g2 := F0 m 5 ls []) rfl ?_
  refine lv_aload_n hx hb dJ2_add_3_5 rfl (lv_at hl 0 rfl) ?_
  refine lv_dup hx hb dJ2_add_3_6 rfl ?_
  refine ix_get S hC hH (k := 1) (i := li) (fs := [.int mc, .ref (β 2 li), .int (nI cap)]) hl0 rfl rfl in_J2 0 (by decide) q80 (u_same (hts _ q79)) rfl dJ2_add_3_7 ?_
  refine lv_iconst (v := 1) hx hb dJ2_add_3_10 (by decide) ?_
  refine lv_iadd hx hb dJ2_add_3_11 ?_
  refine ix_put S hC hH hS (k := 1) (i := li) (fs := [.int mc, .ref (β 2 li), .int (nI cap)]) hl0 rfl rfl in_J2 tyJ2 tyJ2_ok nmJ2 0 (by decide) q80 (u_same (hts _ q79)) rfl (rfl) (rfl) (show 0 < 3 by decide) dJ2_add_3_12 (fun H_1 locs_2 hH hS hz => ?_)
  have hH : ix_H G.1 A β (ix_u N 1 li (some (.inr (11, [.int (mc + 1), .ref (β 2 li), .int (nI cap)])))) H_1 := hH
  have hq : jj_e β (ix_u N 1 li (some (.inr (11, [.int (mc + 1), .ref (β 2 li), .int (nI cap)])))) q := hq.upd (by rw [hl0]; exact jj_no_11) (fun _ _ _ => rfl)
  have hE : ∀ j y, f j = some y → jj_e β (ix_u N 1 li (some (.inr (11, [.int (mc + 1), .ref (β 2 li), .int (nI cap)])))) y := fun j y h => (hE j y h).upd (by rw [hl0]; exact jj_no_11) (fun _ _ _ => rfl)
  refine lv_aload_n hx hb dJ2_add_3_15 rfl (lv_at hl 0 rfl) ?_
  refine ix_get S hC hH (k := 1) (i := li) (fs := [.int (mc + 1), .ref (β 2 li), .int (nI cap)]) ix_us rfl rfl in_J2 2 (by decide) q76 (fun _ h9 => h9) rfl dJ2_add_3_16 ?_
  refine lv_dup hx hb dJ2_add_3_19 rfl ?_
  refine lv_istore_n (lv' := [(3, .int (nI cap)), (0, .ref (β 1 li)), (1, .int (nI j)), (2, .ref q)]) hx hb dJ2_add_3_20 rfl hl (by decide) rfl (fun ls hl => ?_)
  refine lv_aload_n hx hb dJ2_add_3_21 rfl (lv_at hl 1 rfl) ?_
  refine ix_get S hC hH (k := 1) (i := li) (fs := [.int (mc + 1), .ref (β 2 li), .int (nI cap)]) ix_us rfl rfl in_J2 1 (by decide) q73 (fun _ h9 => h9) rfl dJ2_add_3_22 ?_
  refine lv_dup hx hb dJ2_add_3_25 rfl ?_
  refine lv_astore (lv' := [(4, .ref (β 2 li)), (3, .int (nI cap)), (0, .ref (β 1 li)), (1, .int (nI j)), (2, .ref q)]) hx hb dJ2_add_3_26 hl (by decide) rfl (fun ls hl => ?_)
  refine ix_alen S hC hH ((ix_un (by omega)).trans ha0) rfl rfl dJ2_add_3_28 ?_
  refine lv_icmp_ne (tgt := 38) hx hb dJ2_add_3_29 (by decide) (fun c29 => ?_) (fun c29 => ?_)
  · have c29 : ¬ (cap = cap) := (not_congr (ix_neq (a := cap) (b := cap) rfl rfl (by omega) (by omega))).mp c29
    exact absurd rfl c29
  · have c29 : cap = cap := (ix_neq (a := cap) (b := cap) rfl rfl (by omega) (by omega)).mp c29
    refine lv_aload_n hx hb dJ2_add_3_32 rfl (lv_at hl 2 rfl) ?_
    have hsub := ix_sub hH hS hA0
    refine ix_wrr3 (va_runV (As := []) (rest := []) S (jj_grow_1 l G β (ix_u N 1 li (some (.inr (11, [.int (mc + 1), .ref (β 2 li), .int (nI cap)])))) H_1.size li (mc + 1) cap f ix_us ((ix_un (by omega)).trans ha0) (by omega) (by omega) hE ((ix_un (by omega)).trans h90)) (cwV 0 hts (lw_V q265 q267 qs1 q24 q268) rfl rfl rfl (by decide +kernel) ⟨Nat.le_of_ble_eq_true rfl, Nat.le_of_ble_eq_true rfl⟩) (ix_preV hC hS hAz hH (ix_recv (k := 1) (i := li) hC hH ix_us rfl) rfl) rfl rfl hl.1 rfl (lv_room (Nat.le_of_ble_eq_true rfl)) dJ2_add_3_33 ⟨by first | exact Nat.le_of_ble_eq_true rfl | (show _ ≤ 1; omega), by first | exact Nat.le_of_ble_eq_true rfl | (show _ ≤ 200; omega)⟩) hS (hsub) (hsub) (fun ra H_3 locs_4 hB hz hk hS => ?_)
    obtain ⟨b3, hb3, hbf3, hH⟩ := hB
    have hH := hH.weaken hsub
    have ea_5 : β 1 li = b3 1 li := (show β 1 li = β 1 li from rfl).trans (hbf3 1 li (by omega)).symm
    have hq : jj_e b3 (ix_u (ix_u N 1 li (some (.inr (11, [.int (mc + 1), .ref (β 2 li), .int (nI cap)])))) 2 li (some (.inl (G.2.1 3, (cap + jj_mx 1 (cap / 2)), .inr (.inr (.inr (.inr (va_cpy f (fun _ => none) 0 0 cap)))))))) q := hq.upd (by rw [((ix_un (by omega)).trans ha0)]; exact jj_no_a) hbf3
    have hE : ∀ j y, f j = some y → jj_e b3 (ix_u (ix_u N 1 li (some (.inr (11, [.int (mc + 1), .ref (β 2 li), .int (nI cap)])))) 2 li (some (.inl (G.2.1 3, (cap + jj_mx 1 (cap / 2)), .inr (.inr (.inr (.inr (va_cpy f (fun _ => none) 0 0 cap)))))))) y := fun j y h => (hE j y h).upd (by rw [((ix_un (by omega)).trans ha0)]; exact jj_no_a) hbf3
    have hq : jj_e b3 (ix_u (ix_u (ix_u N 1 li (some (.inr (11, [.int (mc + 1), .ref (β 2 li), .int (nI cap)])))) 2 li (some (.inl (G.2.1 3, (cap + jj_mx 1 (cap / 2)), .inr (.inr (.inr (.inr (va_cpy f (fun _ => none) 0 0 cap)))))))) 1 li (some (.inr (11, [.int (mc + 1), .ref (b3 2 li), .int (nI cap)])))) q := hq.upd (by rw [((ix_un (by omega)).trans ix_us)]; exact jj_no_11) (fun _ _ _ => rfl)
    have hE : ∀ j y, f j = some y → jj_e b3 (ix_u (ix_u (ix_u N 1 li (some (.inr (11, [.int (mc + 1), .ref (β 2 li), .int (nI cap)])))) 2 li (some (.inl (G.2.1 3, (cap + jj_mx 1 (cap / 2)), .inr (.inr (.inr (.inr (va_cpy f (fun _ => none) 0 0 cap)))))))) 1 li (some (.inr (11, [.int (mc + 1), .ref (b3 2 li), .int (nI cap)])))) y := fun j y h => (hE j y h).upd (by rw [((ix_un (by omega)).trans ix_us)]; exact jj_no_11) (fun _ _ _ => rfl)
    have hra : ra = b3 2 li := hb3.symm
    refine W.eq (g2 := F0 m 36 ls [.ref ra]) rfl ?_
    refine lv_astore (lv' := [(4, .ref ra), (3, .int (nI cap)), (0, .ref (β 1 li)), (1, .int (nI j)), (2, .ref q)]) hx hb dJ2_add_3_36 hl (by decide) rfl (fun ls hl => ?_)
    refine lv_aload hx hb dJ2_add_3_38 (lv_at hl 0 rfl) ?_
    refine lv_iload_n hx hb dJ2_add_3_40 rfl (lv_at hl 3 rfl) ?_
    refine lv_aload hx hb dJ2_add_3_41 (lv_at hl 0 rfl) ?_
    refine lv_iload_n hx hb dJ2_add_3_43 rfl (lv_at hl 3 rfl) ?_
    refine lv_iconst (v := 1) hx hb dJ2_add_3_44 (by decide) ?_
    refine lv_iadd hx hb dJ2_add_3_45 ?_
    refine lv_iload_n hx hb dJ2_add_3_46 rfl (lv_at hl 1 rfl) ?_
    refine lv_iload_n hx hb dJ2_add_3_47 rfl (lv_at hl 3 rfl) ?_
    refine lv_isub hx hb dJ2_add_3_48 ?_
    refine ix_copy S hC hH hS q634 hl.1 (sj := j) (dj := j + 1) (nj := cap - j) ((ix_un (by omega)).trans ix_us) ((ix_un (by omega)).trans ix_us) hra hra rfl (ix_nadd rfl (rfl : (1 : Int32) = nI 1)) (ix_nsub (a := cap) (b := j) rfl rfl (by omega)) (by omega) (by omega) (by omega) (by omega) (fun i _ y h => jj_any hC hH (hE _ y (by rw [jj_cp_id hnone] at h; exact h))) (Nat.le_of_ble_eq_true rfl) (Nat.le_of_ble_eq_true rfl) dJ2_add_3_49 (fun H_6 locs_7 hH hS hz => ?_)
    have hH : ix_H G.1 A b3 (ix_u (ix_u (ix_u (ix_u N 1 li (some (.inr (11, [.int (mc + 1), .ref (β 2 li), .int (nI cap)])))) 2 li (some (.inl (G.2.1 3, (cap + jj_mx 1 (cap / 2)), .inr (.inr (.inr (.inr (va_cpy f (fun _ => none) 0 0 cap)))))))) 1 li (some (.inr (11, [.int (mc + 1), .ref (b3 2 li), .int (nI cap)])))) 2 li (some (.inl (G.2.1 3, (cap + jj_mx 1 (cap / 2)), .inr (.inr (.inr (.inr (va_cpy (va_cpy f (fun _ => none) 0 0 cap) (va_cpy f (fun _ => none) 0 0 cap) j (j + 1) (cap - j))))))))) H_6 := hH
    have hq : jj_e b3 (ix_u (ix_u (ix_u (ix_u N 1 li (some (.inr (11, [.int (mc + 1), .ref (β 2 li), .int (nI cap)])))) 2 li (some (.inl (G.2.1 3, (cap + jj_mx 1 (cap / 2)), .inr (.inr (.inr (.inr (va_cpy f (fun _ => none) 0 0 cap)))))))) 1 li (some (.inr (11, [.int (mc + 1), .ref (b3 2 li), .int (nI cap)])))) 2 li (some (.inl (G.2.1 3, (cap + jj_mx 1 (cap / 2)), .inr (.inr (.inr (.inr (va_cpy (va_cpy f (fun _ => none) 0 0 cap) (va_cpy f (fun _ => none) 0 0 cap) j (j + 1) (cap - j))))))))) q := hq.upd (by rw [((ix_un (by omega)).trans ix_us)]; exact jj_no_a) (fun _ _ _ => rfl)
    have hE : ∀ j y, f j = some y → jj_e b3 (ix_u (ix_u (ix_u (ix_u N 1 li (some (.inr (11, [.int (mc + 1), .ref (β 2 li), .int (nI cap)])))) 2 li (some (.inl (G.2.1 3, (cap + jj_mx 1 (cap / 2)), .inr (.inr (.inr (.inr (va_cpy f (fun _ => none) 0 0 cap)))))))) 1 li (some (.inr (11, [.int (mc + 1), .ref (b3 2 li), .int (nI cap)])))) 2 li (some (.inl (G.2.1 3, (cap + jj_mx 1 (cap / 2)), .inr (.inr (.inr (.inr (va_cpy (va_cpy f (fun _ => none) 0 0 cap) (va_cpy f (fun _ => none) 0 0 cap) j (j + 1) (cap - j))))))))) y := fun j y h => (hE j y h).upd (by rw [((ix_un (by omega)).trans ix_us)]; exact jj_no_a) (fun _ _ _ => rfl)
    refine lv_aload hx hb dJ2_add_3_52 (lv_at hl 0 rfl) ?_
    refine lv_iload_n hx hb dJ2_add_3_54 rfl (lv_at hl 3 rfl) ?_
    refine lv_aload_n hx hb dJ2_add_3_55 rfl (lv_at hl 4 rfl) ?_
    refine ix_aast (n := (cap + jj_mx 1 (cap / 2))) S hC hH hS ix_us rfl hra ((jj_any hC hH hq)) (j := j) rfl (by omega) (by omega) dJ2_add_3_56 (fun H_8 locs_9 hH hS hz => ?_)
    have hH : ix_H G.1 A b3 (ix_u (ix_u (ix_u (ix_u (ix_u N 1 li (some (.inr (11, [.int (mc + 1), .ref (β 2 li), .int (nI cap)])))) 2 li (some (.inl (G.2.1 3, (cap + jj_mx 1 (cap / 2)), .inr (.inr (.inr (.inr (va_cpy f (fun _ => none) 0 0 cap)))))))) 1 li (some (.inr (11, [.int (mc + 1), .ref (b3 2 li), .int (nI cap)])))) 2 li (some (.inl (G.2.1 3, (cap + jj_mx 1 (cap / 2)), .inr (.inr (.inr (.inr (va_cpy (va_cpy f (fun _ => none) 0 0 cap) (va_cpy f (fun _ => none) 0 0 cap) j (j + 1) (cap - j))))))))) 2 li (some (.inl (G.2.1 3, (cap + jj_mx 1 (cap / 2)), .inr (.inr (.inr (.inr (va_up (va_cpy (va_cpy f (fun _ => none) 0 0 cap) (va_cpy f (fun _ => none) 0 0 cap) j (j + 1) (cap - j)) j (some q))))))))) H_8 := hH
    have hq : jj_e b3 (ix_u (ix_u (ix_u (ix_u (ix_u N 1 li (some (.inr (11, [.int (mc + 1), .ref (β 2 li), .int (nI cap)])))) 2 li (some (.inl (G.2.1 3, (cap + jj_mx 1 (cap / 2)), .inr (.inr (.inr (.inr (va_cpy f (fun _ => none) 0 0 cap)))))))) 1 li (some (.inr (11, [.int (mc + 1), .ref (b3 2 li), .int (nI cap)])))) 2 li (some (.inl (G.2.1 3, (cap + jj_mx 1 (cap / 2)), .inr (.inr (.inr (.inr (va_cpy (va_cpy f (fun _ => none) 0 0 cap) (va_cpy f (fun _ => none) 0 0 cap) j (j + 1) (cap - j))))))))) 2 li (some (.inl (G.2.1 3, (cap + jj_mx 1 (cap / 2)), .inr (.inr (.inr (.inr (va_up (va_cpy (va_cpy f (fun _ => none) 0 0 cap) (va_cpy f (fun _ => none) 0 0 cap) j (j + 1) (cap - j)) j (some q))))))))) q := hq.upd (by rw [ix_us]; exact jj_no_a) (fun _ _ _ => rfl)
    have hE : ∀ j y, f j = some y → jj_e b3 (ix_u (ix_u (ix_u (ix_u (ix_u N 1 li (some (.inr (11, [.int (mc + 1), .ref (β 2 li), .int (nI cap)])))) 2 li (some (.inl (G.2.1 3, (cap + jj_mx 1 (cap / 2)), .inr (.inr (.inr (.inr (va_cpy f (fun _ => none) 0 0 cap)))))))) 1 li (some (.inr (11, [.int (mc + 1), .ref (b3 2 li), .int (nI cap)])))) 2 li (some (.inl (G.2.1 3, (cap + jj_mx 1 (cap / 2)), .inr (.inr (.inr (.inr (va_cpy (va_cpy f (fun _ => none) 0 0 cap) (va_cpy f (fun _ => none) 0 0 cap) j (j + 1) (cap - j))))))))) 2 li (some (.inl (G.2.1 3, (cap + jj_mx 1 (cap / 2)), .inr (.inr (.inr (.inr (va_up (va_cpy (va_cpy f (fun _ => none) 0 0 cap) (va_cpy f (fun _ => none) 0 0 cap) j (j + 1) (cap - j)) j (some q))))))))) y := fun j y h => (hE j y h).upd (by rw [ix_us]; exact jj_no_a) (fun _ _ _ => rfl)
    refine lv_aload_n hx hb dJ2_add_3_57 rfl (lv_at hl 2 rfl) ?_
    refine lv_iload_n hx hb dJ2_add_3_58 rfl (lv_at hl 1 rfl) ?_
    refine lv_iconst (v := 1) hx hb dJ2_add_3_59 (by decide) ?_
    refine lv_iadd hx hb dJ2_add_3_60 ?_
    refine ix_reI (y := nI (cap + 1)) (nI_1 _) ?_
    refine ix_put S hC hH hS (k := 1) (i := li) (fs := [.int (mc + 1), .ref (b3 2 li), .int (nI cap)]) ((ix_un (by omega)).trans ((ix_un (by omega)).trans ix_us)) ea_5 rfl in_J2 tyJ2 tyJ2_ok nmJ2 2 (by decide) q76 (fun _ h9 => h9) rfl (rfl) (rfl) (show 2 < 3 by decide) dJ2_add_3_61 (fun H_10 locs_11 hH hS hz => ?_)
    have hH : ix_H G.1 A b3 (ix_u (ix_u (ix_u (ix_u (ix_u (ix_u N 1 li (some (.inr (11, [.int (mc + 1), .ref (β 2 li), .int (nI cap)])))) 2 li (some (.inl (G.2.1 3, (cap + jj_mx 1 (cap / 2)), .inr (.inr (.inr (.inr (va_cpy f (fun _ => none) 0 0 cap)))))))) 1 li (some (.inr (11, [.int (mc + 1), .ref (b3 2 li), .int (nI cap)])))) 2 li (some (.inl (G.2.1 3, (cap + jj_mx 1 (cap / 2)), .inr (.inr (.inr (.inr (va_cpy (va_cpy f (fun _ => none) 0 0 cap) (va_cpy f (fun _ => none) 0 0 cap) j (j + 1) (cap - j))))))))) 2 li (some (.inl (G.2.1 3, (cap + jj_mx 1 (cap / 2)), .inr (.inr (.inr (.inr (va_up (va_cpy (va_cpy f (fun _ => none) 0 0 cap) (va_cpy f (fun _ => none) 0 0 cap) j (j + 1) (cap - j)) j (some q))))))))) 1 li (some (.inr (11, [.int (mc + 1), .ref (b3 2 li), .int (nI (cap + 1))])))) H_10 := hH
    have hq : jj_e b3 (ix_u (ix_u (ix_u (ix_u (ix_u (ix_u N 1 li (some (.inr (11, [.int (mc + 1), .ref (β 2 li), .int (nI cap)])))) 2 li (some (.inl (G.2.1 3, (cap + jj_mx 1 (cap / 2)), .inr (.inr (.inr (.inr (va_cpy f (fun _ => none) 0 0 cap)))))))) 1 li (some (.inr (11, [.int (mc + 1), .ref (b3 2 li), .int (nI cap)])))) 2 li (some (.inl (G.2.1 3, (cap + jj_mx 1 (cap / 2)), .inr (.inr (.inr (.inr (va_cpy (va_cpy f (fun _ => none) 0 0 cap) (va_cpy f (fun _ => none) 0 0 cap) j (j + 1) (cap - j))))))))) 2 li (some (.inl (G.2.1 3, (cap + jj_mx 1 (cap / 2)), .inr (.inr (.inr (.inr (va_up (va_cpy (va_cpy f (fun _ => none) 0 0 cap) (va_cpy f (fun _ => none) 0 0 cap) j (j + 1) (cap - j)) j (some q))))))))) 1 li (some (.inr (11, [.int (mc + 1), .ref (b3 2 li), .int (nI (cap + 1))])))) q := hq.upd (by rw [((ix_un (by omega)).trans ((ix_un (by omega)).trans ix_us))]; exact jj_no_11) (fun _ _ _ => rfl)
    have hE : ∀ j y, f j = some y → jj_e b3 (ix_u (ix_u (ix_u (ix_u (ix_u (ix_u N 1 li (some (.inr (11, [.int (mc + 1), .ref (β 2 li), .int (nI cap)])))) 2 li (some (.inl (G.2.1 3, (cap + jj_mx 1 (cap / 2)), .inr (.inr (.inr (.inr (va_cpy f (fun _ => none) 0 0 cap)))))))) 1 li (some (.inr (11, [.int (mc + 1), .ref (b3 2 li), .int (nI cap)])))) 2 li (some (.inl (G.2.1 3, (cap + jj_mx 1 (cap / 2)), .inr (.inr (.inr (.inr (va_cpy (va_cpy f (fun _ => none) 0 0 cap) (va_cpy f (fun _ => none) 0 0 cap) j (j + 1) (cap - j))))))))) 2 li (some (.inl (G.2.1 3, (cap + jj_mx 1 (cap / 2)), .inr (.inr (.inr (.inr (va_up (va_cpy (va_cpy f (fun _ => none) 0 0 cap) (va_cpy f (fun _ => none) 0 0 cap) j (j + 1) (cap - j)) j (some q))))))))) 1 li (some (.inr (11, [.int (mc + 1), .ref (b3 2 li), .int (nI (cap + 1))])))) y := fun j y h => (hE j y h).upd (by rw [((ix_un (by omega)).trans ((ix_un (by omega)).trans ix_us))]; exact jj_no_11) (fun _ _ _ => rfl)
    exact ix_wV S hr hlocks hS (⟨b3, hbf3, by rw [← hAe]; rw [jj_n7, jj_cp_id hnone, jj_in_a hj hnone] at hH; exact hH⟩) (by omega) (by omega) dJ2_add_3_64
set_option maxHeartbeats 4000000 in
set_option maxRecDepth 100000 in
theorem jj_itinit (l : Launch) (G : ix_G) (β : ix_B) (N : ix_N) (sz : Nat) (li : Nat) (mc : Int32) (n : Nat) (ea : Nat) (hi0 : N 13 0 = some (.inr (12, [.int 0, .int 0, .int 0, .null]))) (hl0 : N 1 li = some (.inr (11, [.int mc, .ref ea, .int (nI n)]))) : Met l yJ14_init (ws_ yJ14_init cJ14_init 2 (none)) ({ frames := 1, cells := 0, slots := 0, locals := 40 } : Room) (ix_P G β N sz [.ref (β 13 0), .ref (β 1 li)]) (ix_Q (none) (fun (H9 : Heap) => ix_H G.1 (ix_A β N sz) β (ix_u N 13 0 (some (.inr (12, [.int 0, .int ((-1)), .int mc, .ref (β 1 li)])))) H9) (ix_A β N sz)) 0 0 (ix_A β N sz) := by
  refine ix_writer (by decide +kernel) (Nat.le_of_ble_eq_true rfl) ?_
  intro p e s m below meth c A S hr hlocks hnm hC hsz hH hS hA0 hAz hAe ls hl
  have hx := S.1
  have hb := S.2.1
  have hts := S.2.2.2.2
  have S : CallFix p m c cJ14_init 2 s ([.ref (β 13 0), .ref (β 1 li)] : List Value).toArray lw_all "java/util/ArrayList$Itr" := S
  have hl : lv_has ls 2 [(0, .ref (β 13 0)), (1, .ref (β 1 li))] := hl
  refine lv_aload_n hx hb dJ14_init_0 rfl (lv_at hl 0 rfl) ?_
  refine lv_aload_n hx hb dJ14_init_1 rfl (lv_at hl 1 rfl) ?_
  refine ix_putF S hC hH hS (k := 13) (i := 0) (fs := [.int 0, .int 0, .int 0, .null]) hi0 rfl rfl in_J14 tyJ14 tyJ14_ok nmJ14 3 (by decide) q705 (fun _ h9 => h9) rfl hnm rfl (rfl) (rfl) (show 3 < 4 by decide) dJ14_init_2 (fun H_1 locs_2 hH hS hz => ?_)
  have hH : ix_H G.1 A β (ix_u N 13 0 (some (.inr (12, [.int 0, .int 0, .int 0, .ref (β 1 li)])))) H_1 := hH
  refine lv_aload_n hx hb dJ14_init_5 rfl (lv_at hl 0 rfl) ?_
  refine W.objInit hx hb S.2.2.2.1 (hts _ q701) (hts _ q57) (hts _ q58) rfl (by rw [S.2.2.1]; exact hl.1) rfl dJ14_init_6 (Nat.le_of_ble_eq_true rfl) (Nat.le_of_ble_eq_true rfl) ?_
  refine W.eq (g2 := F0 m 9 ls []) rfl ?_
  refine lv_aload_n hx hb dJ14_init_9 rfl (lv_at hl 0 rfl) ?_
  refine lv_iconst (v := (-1)) hx hb dJ14_init_10 (by decide) ?_
  refine ix_put S hC hH hS (k := 13) (i := 0) (fs := [.int 0, .int 0, .int 0, .ref (β 1 li)]) ix_us rfl rfl in_J14 tyJ14 tyJ14_ok nmJ14 1 (by decide) q703 (fun _ h9 => h9) rfl (rfl) (rfl) (show 1 < 4 by decide) dJ14_init_11 (fun H_3 locs_4 hH hS hz => ?_)
  have hH : ix_H G.1 A β (ix_u (ix_u N 13 0 (some (.inr (12, [.int 0, .int 0, .int 0, .ref (β 1 li)])))) 13 0 (some (.inr (12, [.int 0, .int ((-1)), .int 0, .ref (β 1 li)])))) H_3 := hH
  refine lv_aload_n hx hb dJ14_init_14 rfl (lv_at hl 0 rfl) ?_
  refine lv_aload_n hx hb dJ14_init_15 rfl (lv_at hl 0 rfl) ?_
  refine ix_get S hC hH (k := 13) (i := 0) (fs := [.int 0, .int ((-1)), .int 0, .ref (β 1 li)]) ix_us rfl rfl in_J14 3 (by decide) q705 (fun _ h9 => h9) rfl dJ14_init_16 ?_
  refine ix_get S hC hH (k := 1) (i := li) (fs := [.int mc, .ref ea, .int (nI n)]) ((ix_un (by omega)).trans ((ix_un (by omega)).trans hl0)) rfl rfl in_J2 0 (by decide) q78 (u_same (hts _ q79)) rfl dJ14_init_19 ?_
  refine ix_put S hC hH hS (k := 13) (i := 0) (fs := [.int 0, .int ((-1)), .int 0, .ref (β 1 li)]) ix_us rfl rfl in_J14 tyJ14 tyJ14_ok nmJ14 2 (by decide) q704 (fun _ h9 => h9) rfl (rfl) (rfl) (show 2 < 4 by decide) dJ14_init_22 (fun H_5 locs_6 hH hS hz => ?_)
  have hH : ix_H G.1 A β (ix_u (ix_u (ix_u N 13 0 (some (.inr (12, [.int 0, .int 0, .int 0, .ref (β 1 li)])))) 13 0 (some (.inr (12, [.int 0, .int ((-1)), .int 0, .ref (β 1 li)])))) 13 0 (some (.inr (12, [.int 0, .int ((-1)), .int mc, .ref (β 1 li)])))) H_5 := hH
  exact ix_wV S hr hlocks hS (by rw [← hAe]; rw [ix_uu, ix_uu] at hH; exact hH) (by omega) (by omega) dJ14_init_25
set_option maxHeartbeats 4000000 in
set_option maxRecDepth 100000 in
theorem jj_iterator (l : Launch) (G : ix_G) (β : ix_B) (N : ix_N) (sz : Nat) (li : Nat) (mc : Int32) (n : Nat) (ea : Nat) (hd13 : jj_no (N 13 0)) (hl0 : N 1 li = some (.inr (11, [.int mc, .ref ea, .int (nI n)]))) : Met l yJ2_iterator (ws_ yJ2_iterator cJ2_iterator 1 (some (.object "java/util/Iterator"))) ({ frames := 2, cells := 1, slots := 4, locals := 80 } : Room) (ix_P G β N sz [.ref (β 1 li)]) (ix_Qr (fun (a9 : Nat) (H9 : Heap) => ∃ b : ix_B, b 13 0 = a9 ∧ (∀ x y, ¬ (x = 13 ∧ y = 0) → b x y = β x y) ∧ ix_H G.1 (ix_A β N sz) b (ix_u N 13 0 (some (.inr (12, [.int 0, .int ((-1)), .int mc, .ref (b 1 li)])))) H9) (ix_A β N sz)) 1 4 (ix_A β N sz) := by
  refine ix_writerR (by decide +kernel) (Nat.le_of_ble_eq_true rfl) ?_
  intro p e s m below meth c A S hr hlocks hnm hC hsz hH hS hA0 hAz hAe ls hl
  have hx := S.1
  have hb := S.2.1
  have hts := S.2.2.2.2
  have S : CallFix p m c cJ2_iterator 1 s ([.ref (β 1 li)] : List Value).toArray lw_all "java/util/ArrayList" := S
  have hl : lv_has ls 1 [(0, .ref (β 1 li))] := hl
  refine ix_new S hC hH hS hA0 13 0 (fs := [.int 0, .int 0, .int 0, .null]) (ci := 12) rfl in_J14 tyJ14 tyJ14_ok q696 q697 q50 (fun j hj => by match j, hj with | 0, _ => rfl | 1, _ => rfl | 2, _ => rfl | 3, _ => rfl | n9 + 4, h9 => exact absurd h9 (by omega)) (Nat.le_of_ble_eq_true rfl) (Nat.le_of_ble_eq_true rfl) dJ2_iterator_0 (fun b_1 H_2 hb_ hbq hH hS hz => ?_)
  have ea_3 : β 1 li = b_1 1 li := (show β 1 li = β 1 li from rfl).trans (hb_ 1 li (by omega)).symm
  have hH : ix_H G.1 A b_1 (ix_u N 13 0 (some (.inr (12, [.int 0, .int 0, .int 0, .null])))) H_2 := hH
  refine lv_dup hx hb dJ2_iterator_3 rfl ?_
  refine lv_aload_n hx hb dJ2_iterator_4 rfl (lv_at hl 0 rfl) ?_
  have hsub := ix_sub hH hS hA0
  refine ix_wr3 (va_runI (As := [.ref (β 1 li)]) (rest := [.ref (b_1 13 0)]) S (jj_itinit l G b_1 (ix_u N 13 0 (some (.inr (12, [.int 0, .int 0, .int 0, .null])))) H_2.size li mc n ea ix_us ((ix_un (by omega)).trans hl0)) (cwI 1 hts (lw_meth q700) rfl rfl rfl (hts _ q50) (hts _ q698) (hts _ q699) rfl (by decide +kernel) ⟨Nat.le_of_ble_eq_true rfl, Nat.le_of_ble_eq_true rfl⟩) (ix_pre hC hS hAz hH (by rw [ea_3])) rfl rfl hl.1 rfl (lv_room (Nat.le_of_ble_eq_true rfl)) dJ2_iterator_5 ⟨by first | exact Nat.le_of_ble_eq_true rfl | (show _ ≤ 1; omega), by first | exact Nat.le_of_ble_eq_true rfl | (show _ ≤ 4; omega)⟩) hS (hsub) (hsub) (fun H_4 locs_5 hB hz hk hS => ?_)
  have hH := hB.weaken hsub
  refine W.eq (g2 := F0 m 8 ls [.ref (b_1 13 0)]) rfl ?_
  exact ix_wR S hr hlocks (Or.inl ⟨_, rfl⟩) hS (⟨_, rfl, hb_, by rw [← hAe]; rw [ix_uu] at hH; exact hH⟩) (by omega) (by omega) dJ2_iterator_8
set_option maxHeartbeats 4000000 in
set_option maxRecDepth 100000 in
theorem jj_hasNext (l : Launch) (G : ix_G) (β : ix_B) (N : ix_N) (sz : Nat) (li : Nat) (mc : Int32) (n : Nat) (k : Nat) (lr : Int32) (ea : Nat) (hi0 : N 13 0 = some (.inr (12, [.int (nI k), .int lr, .int mc, .ref (β 1 li)]))) (hl0 : N 1 li = some (.inr (11, [.int mc, .ref ea, .int (nI n)]))) (hk : k < 2 ^ 31) (hn : n < 2 ^ 31) : Met l yJ14_hasNext (ws_ yJ14_hasNext cJ14_hasNext 1 (some .boolean)) ({ frames := 0, cells := 0, slots := 0, locals := 0 } : Room) (ix_P G β N sz [.ref (β 13 0)]) (ix_R (some (.int (ix_b (decide (¬ k = n)))))) 0 0 (fun _ => False) := by
  refine ix_reader (by decide +kernel) (Nat.le_of_ble_eq_true rfl) ?_
  intro p e s m below meth c S hr hlocks hC hH hS ls hl
  have hAz : ∀ q, ix_z G q → ix_z G q := fun _ h => h
  have hx := S.1
  have hb := S.2.1
  have hts := S.2.2.2.2
  have S : CallFix p m c cJ14_hasNext 1 s ([.ref (β 13 0)] : List Value).toArray lw_all "java/util/ArrayList$Itr" := S
  have hl : lv_has ls 1 [(0, .ref (β 13 0))] := hl
  refine lv_aload_n hx hb dJ14_hasNext_0 rfl (lv_at hl 0 rfl) ?_
  refine ix_get S hC hH (k := 13) (i := 0) (fs := [.int (nI k), .int lr, .int mc, .ref (β 1 li)]) hi0 rfl rfl in_J14 0 (by decide) q702 (fun _ h9 => h9) rfl dJ14_hasNext_1 ?_
  refine lv_aload_n hx hb dJ14_hasNext_4 rfl (lv_at hl 0 rfl) ?_
  refine ix_get S hC hH (k := 13) (i := 0) (fs := [.int (nI k), .int lr, .int mc, .ref (β 1 li)]) hi0 rfl rfl in_J14 3 (by decide) q705 (fun _ h9 => h9) rfl dJ14_hasNext_5 ?_
  refine ix_getN S hC hH (k := 1) (i := li) (fs := [.int mc, .ref ea, .int (nI n)]) hl0 rfl rfl in_J2 2 (by decide) q75 (fun _ h9 => h9) rfl dJ14_hasNext_8 ?_
  refine lv_icmp_eq (tgt := 18) hx hb dJ14_hasNext_11 (by decide) (fun c11 => ?_) (fun c11 => ?_)
  · have c11 : k = n := (ix_neq (a := k) (b := n) rfl rfl (by omega) (by omega)).mp c11
    refine lv_iconst (v := 0) hx hb dJ14_hasNext_18 (by decide) ?_
    exact ix_rZ S hr hlocks (by simp [ix_b, c11]) dJ14_hasNext_19
  · have c11 : ¬ (k = n) := (not_congr (ix_neq (a := k) (b := n) rfl rfl (by omega) (by omega))).mp c11
    refine lv_iconst (v := 1) hx hb dJ14_hasNext_14 (by decide) ?_
    refine lv_goto (tgt := 19) hx hb dJ14_hasNext_15 (by decide) ?_
    exact ix_rZ S hr hlocks (by simp [ix_b, c11]) dJ14_hasNext_19
set_option maxHeartbeats 4000000 in
set_option maxRecDepth 100000 in
theorem jj_chk (l : Launch) (G : ix_G) (β : ix_B) (N : ix_N) (sz : Nat) (li : Nat) (mc : Int32) (n : Nat) (k : Nat) (lr : Int32) (ea : Nat) (hi0 : N 13 0 = some (.inr (12, [.int (nI k), .int lr, .int mc, .ref (β 1 li)]))) (hl0 : N 1 li = some (.inr (11, [.int mc, .ref ea, .int (nI n)]))) : Met l yJ14_checkForComodification (ws_ yJ14_checkForComodification cJ14_checkForComodification 1 (none)) ({ frames := 0, cells := 0, slots := 0, locals := 0 } : Room) (ix_P G β N sz [.ref (β 13 0)]) (ix_R (none)) 0 0 (fun _ => False) := by
  refine ix_reader (by decide +kernel) (Nat.le_of_ble_eq_true rfl) ?_
  intro p e s m below meth c S hr hlocks hC hH hS ls hl
  have hAz : ∀ q, ix_z G q → ix_z G q := fun _ h => h
  have hx := S.1
  have hb := S.2.1
  have hts := S.2.2.2.2
  have S : CallFix p m c cJ14_checkForComodification 1 s ([.ref (β 13 0)] : List Value).toArray lw_all "java/util/ArrayList$Itr" := S
  have hl : lv_has ls 1 [(0, .ref (β 13 0))] := hl
  refine lv_aload_n hx hb dJ14_checkForComodification_0 rfl (lv_at hl 0 rfl) ?_
  refine ix_get S hC hH (k := 13) (i := 0) (fs := [.int (nI k), .int lr, .int mc, .ref (β 1 li)]) hi0 rfl rfl in_J14 3 (by decide) q705 (fun _ h9 => h9) rfl dJ14_checkForComodification_1 ?_
  refine ix_get S hC hH (k := 1) (i := li) (fs := [.int mc, .ref ea, .int (nI n)]) hl0 rfl rfl in_J2 0 (by decide) q78 (u_same (hts _ q79)) rfl dJ14_checkForComodification_4 ?_
  refine lv_aload_n hx hb dJ14_checkForComodification_7 rfl (lv_at hl 0 rfl) ?_
  refine ix_get S hC hH (k := 13) (i := 0) (fs := [.int (nI k), .int lr, .int mc, .ref (β 1 li)]) hi0 rfl rfl in_J14 2 (by decide) q704 (fun _ h9 => h9) rfl dJ14_checkForComodification_8 ?_
  refine lv_icmp_eq (tgt := 22) hx hb dJ14_checkForComodification_11 (by decide) (fun c11 => ?_) (fun c11 => ?_)
  · exact ix_rV S hr hlocks dJ14_checkForComodification_22
  · exact absurd rfl c11
set_option maxHeartbeats 4000000 in
set_option maxRecDepth 100000 in
theorem jj_next (l : Launch) (G : ix_G) (β : ix_B) (N : ix_N) (sz : Nat) (li : Nat) (mc : Int32) (n : Nat) (cap k y : Nat) (lr : Int32) (f : Nat → Option Nat) (hi0 : N 13 0 = some (.inr (12, [.int (nI k), .int lr, .int mc, .ref (β 1 li)]))) (hl0 : N 1 li = some (.inr (11, [.int mc, .ref (β 2 li), .int (nI n)]))) (ha0 : N 2 li = some (.inl (G.2.1 3, cap, .inr (.inr (.inr (.inr f)))))) (hk : k < n) (hn : n ≤ cap) (hcap : cap ≤ 1000) (hfy : f k = some y) : Met l yJ14_next (ws_ yJ14_next cJ14_next 3 (some (.object "java/lang/Object"))) ({ frames := 1, cells := 0, slots := 0, locals := 40 } : Room) (ix_P G β N sz [.ref (β 13 0)]) (ix_Q (some (.ref y)) (fun (H9 : Heap) => ix_H G.1 (ix_A β N sz) β (ix_u N 13 0 (some (.inr (12, [.int (nI ((k + 1))), .int (nI k), .int mc, .ref (β 1 li)])))) H9) (ix_A β N sz)) 0 0 (ix_A β N sz) := by
  refine ix_writer (by decide +kernel) (Nat.le_of_ble_eq_true rfl) ?_
  intro p e s m below meth c A S hr hlocks hnm hC hsz hH hS hA0 hAz hAe ls hl
  have hx := S.1
  have hb := S.2.1
  have hts := S.2.2.2.2
  have S : CallFix p m c cJ14_next 3 s ([.ref (β 13 0)] : List Value).toArray lw_all "java/util/ArrayList$Itr" := S
  have hl : lv_has ls 3 [(0, .ref (β 13 0))] := hl
  refine lv_aload_n hx hb dJ14_next_0 rfl (lv_at hl 0 rfl) ?_
  refine ix_rd (W.runV (As := []) (rest := []) S (jj_chk l G β N s.heap.size li mc n k lr (β 2 li) hi0 hl0) (cwV 0 hts (lw_V q734 q735 q736 q50 q737) rfl rfl rfl (by decide +kernel) ⟨Nat.le_of_ble_eq_true rfl, Nat.le_of_ble_eq_true rfl⟩) (ix_preV hC hS hAz hH (ix_recv (k := 13) (i := 0) hC hH hi0 rfl) rfl) rfl rfl hl.1 rfl (lv_room (Nat.le_of_ble_eq_true rfl)) dJ14_next_1 ⟨by first | exact Nat.le_of_ble_eq_true rfl | (show _ ≤ 0; omega), by first | exact Nat.le_of_ble_eq_true rfl | (show _ ≤ 0; omega)⟩) ?_
  refine W.eq (g2 := F0 m 4 ls []) rfl ?_
  refine lv_aload_n hx hb dJ14_next_4 rfl (lv_at hl 0 rfl) ?_
  refine ix_get S hC hH (k := 13) (i := 0) (fs := [.int (nI k), .int lr, .int mc, .ref (β 1 li)]) hi0 rfl rfl in_J14 0 (by decide) q702 (fun _ h9 => h9) rfl dJ14_next_5 ?_
  refine lv_istore_n (lv' := [(1, .int (nI k)), (0, .ref (β 13 0))]) hx hb dJ14_next_8 rfl hl (by decide) rfl (fun ls hl => ?_)
  refine lv_iload_n hx hb dJ14_next_9 rfl (lv_at hl 0 rfl) ?_
  refine lv_aload_n hx hb dJ14_next_10 rfl (lv_at hl 1 rfl) ?_
  refine ix_get S hC hH (k := 13) (i := 0) (fs := [.int (nI k), .int lr, .int mc, .ref (β 1 li)]) hi0 rfl rfl in_J14 3 (by decide) q705 (fun _ h9 => h9) rfl dJ14_next_11 ?_
  refine ix_getN S hC hH (k := 1) (i := li) (fs := [.int mc, .ref (β 2 li), .int (nI n)]) hl0 rfl rfl in_J2 2 (by decide) q75 (fun _ h9 => h9) rfl dJ14_next_14 ?_
  refine lv_icmp_lt (tgt := 28) hx hb dJ14_next_17 (by decide) (fun c17 => ?_) (fun c17 => ?_)
  · have c17 : k < n := (ix_nlt (a := k) (b := n) rfl rfl (by omega) (by omega)).mp c17
    refine lv_aload_n hx hb dJ14_next_28 rfl (lv_at hl 1 rfl) ?_
    refine ix_get S hC hH (k := 13) (i := 0) (fs := [.int (nI k), .int lr, .int mc, .ref (β 1 li)]) hi0 rfl rfl in_J14 3 (by decide) q705 (fun _ h9 => h9) rfl dJ14_next_29 ?_
    refine ix_get S hC hH (k := 1) (i := li) (fs := [.int mc, .ref (β 2 li), .int (nI n)]) hl0 rfl rfl in_J2 1 (by decide) q74 (fun _ h9 => h9) rfl dJ14_next_32 ?_
    refine lv_astore_n (lv' := [(2, .ref (β 2 li)), (1, .int (nI k)), (0, .ref (β 13 0))]) hx hb dJ14_next_35 rfl hl (by decide) rfl (fun ls hl => ?_)
    refine lv_iload_n hx hb dJ14_next_36 rfl (lv_at hl 1 rfl) ?_
    refine lv_aload_n hx hb dJ14_next_37 rfl (lv_at hl 0 rfl) ?_
    refine ix_alen S hC hH ha0 rfl rfl dJ14_next_38 ?_
    refine lv_icmp_lt (tgt := 50) hx hb dJ14_next_39 (by decide) (fun c39 => ?_) (fun c39 => ?_)
    · have c39 : k < cap := (ix_nlt (a := k) (b := cap) rfl rfl (by omega) (by omega)).mp c39
      refine lv_aload_n hx hb dJ14_next_50 rfl (lv_at hl 2 rfl) ?_
      refine lv_iload_n hx hb dJ14_next_51 rfl (lv_at hl 1 rfl) ?_
      refine lv_iconst (v := 1) hx hb dJ14_next_52 (by decide) ?_
      refine lv_iadd hx hb dJ14_next_53 ?_
      refine ix_reI (y := nI (k + 1)) (nI_1 _) ?_
      refine ix_put S hC hH hS (k := 13) (i := 0) (fs := [.int (nI k), .int lr, .int mc, .ref (β 1 li)]) hi0 rfl rfl in_J14 tyJ14 tyJ14_ok nmJ14 0 (by decide) q702 (fun _ h9 => h9) rfl (rfl) (rfl) (show 0 < 4 by decide) dJ14_next_54 (fun H_1 locs_2 hH hS hz => ?_)
      have hH : ix_H G.1 A β (ix_u N 13 0 (some (.inr (12, [.int (nI (k + 1)), .int lr, .int mc, .ref (β 1 li)])))) H_1 := hH
      refine lv_aload_n hx hb dJ14_next_57 rfl (lv_at hl 0 rfl) ?_
      refine lv_aload_n hx hb dJ14_next_58 rfl (lv_at hl 2 rfl) ?_
      refine lv_iload_n hx hb dJ14_next_59 rfl (lv_at hl 1 rfl) ?_
      refine lv_dup_x1 hx hb dJ14_next_60 rfl rfl ?_
      refine ix_put S hC hH hS (k := 13) (i := 0) (fs := [.int (nI (k + 1)), .int lr, .int mc, .ref (β 1 li)]) ix_us rfl rfl in_J14 tyJ14 tyJ14_ok nmJ14 1 (by decide) q703 (fun _ h9 => h9) rfl (rfl) (rfl) (show 1 < 4 by decide) dJ14_next_61 (fun H_3 locs_4 hH hS hz => ?_)
      have hH : ix_H G.1 A β (ix_u (ix_u N 13 0 (some (.inr (12, [.int (nI (k + 1)), .int lr, .int mc, .ref (β 1 li)])))) 13 0 (some (.inr (12, [.int (nI (k + 1)), .int (nI k), .int mc, .ref (β 1 li)])))) H_3 := hH
      refine ix_aald (n := cap) S hC hH ((ix_un (by omega)).trans ((ix_un (by omega)).trans ha0)) rfl rfl rfl (by omega) (by omega) (hfy) dJ14_next_64 ?_
      exact ix_wA S hr hlocks (Or.inl ⟨_, rfl⟩) hS (rfl) (Or.inr ⟨_, rfl⟩) (by rw [← hAe]; rw [ix_uu] at hH; exact hH) (by omega) (by omega) dJ14_next_65
    · have c39 : ¬ (k < cap) := (not_congr (ix_nlt (a := k) (b := cap) rfl rfl (by omega) (by omega))).mp c39
      exfalso; omega
  · have c17 : ¬ (k < n) := (not_congr (ix_nlt (a := k) (b := n) rfl rfl (by omega) (by omega))).mp c17
    exfalso; omega
