/-! THE LIBRARY's LISTS: add, whatever the row's state; an enum constant's place -/
def jj_ref (η : Nat → Nat) (β : ix_B) (cap li : Nat) : Nat := if cap = 0 then η 4 else β 2 li
def jj_nc (cap n : Nat) : Nat := if n < cap then cap else jj_c cap
abbrev jj_LST (mc : Int32) (r n : Nat) : va_E := .inr (11, [.int mc, .ref r, .int (nI n)])
abbrev jj_ROW (dA : Nat → ClassId) (cap : Nat) (f : Nat → Option Nat) : va_E := .inl (dA 3, cap, .inr (.inr (.inr (.inr f))))
theorem jj_up_in {f : Nat → Option Nat} {n q : Nat} (hnone : ∀ j, n ≤ j → f j = none) : jj_in f n n q = va_up f n (some q) := by
  funext i
  simp only [va_up, jj_in]
  by_cases h : i = n
  · subst h
    rw [if_neg (by omega), if_pos rfl, if_pos rfl]
  · rw [if_neg h, if_neg h]
    by_cases h2 : i < n
    · rw [if_pos h2]
    · rw [if_neg h2, if_neg (by omega), hnone i (by omega)]
set_option maxHeartbeats 1000000 in
theorem jj_add (l : Launch) (G : ix_G) (β : ix_B) (N : ix_N) (sz li : Nat) (mc : Int32) (n cap : Nat) (f : Nat → Option Nat) (q : Nat) (hl0 : N 1 li = some (jj_LST mc (jj_ref G.2.2.1 β cap li) n)) (ha0 : ¬ cap = 0 → N 2 li = some (jj_ROW G.2.1 cap f)) (ha1 : cap = 0 → N 2 li = none) (hn : n ≤ cap) (hcap : cap ≤ 1000) (hnc : ¬ n < cap → cap ≤ 100) (hnone : ∀ j, n ≤ j → f j = none) (hE : ∀ j y, f j = some y → jj_e β N y) (hq : jj_e β N q) (h90 : N 90 0 = none) : Met l yJ2_add (ws_ yJ2_add cJ2_add 2 (some .boolean)) ({ frames := 6, cells := 1, slots := 200, locals := 240 } : Room) (ix_P G β N sz [.ref (β 1 li), .ref q]) (ix_Q (some (.int (ix_b true))) (fun (H9 : Heap) => ∃ b : ix_B, (∀ x y, ¬ (x = 2 ∧ y = li) → b x y = β x y) ∧ ix_H G.1 (ix_A β N sz) b (ix_u (ix_u N 2 li (some (jj_ROW G.2.1 (jj_nc cap n) (va_up f n (some q))))) 1 li (some (jj_LST (mc + 1) (b 2 li) (n + 1)))) H9) (ix_A β N sz)) 1 200 (ix_A β N sz) := by
  by_cases h0 : cap = 0
  · subst h0
    obtain rfl : n = 0 := by omega
    obtain rfl : f = fun _ => none := funext fun i => hnone i (by omega)
    exact jj_add_0 l G β N sz li mc q hl0 hq (by rw [ha1 rfl]; exact jj_no_n)
  · have hr : jj_ref G.2.2.1 β cap li = β 2 li := if_neg h0
    rw [hr] at hl0
    by_cases h1 : n < cap
    · have hc : jj_nc cap n = cap := if_pos h1
      rw [hc]
      exact jj_add_f l G β N sz li mc n cap f q hl0 (ha0 h0) h1 hcap hq
    · obtain rfl : n = cap := by omega
      have hc : jj_nc n n = n + jj_mx 1 (n / 2) := by rw [jj_nc, if_neg (by omega), jj_c, if_neg h0]
      rw [hc]
      have h := jj_add_1 l G β N sz li mc n f q hl0 (ha0 h0) (by omega) (hnc h1) hE hq h90
      rw [jj_cp_id hnone] at h
      exact h
set_option maxHeartbeats 1000000 in
theorem jj_addI (l : Launch) (G : ix_G) (β : ix_B) (N : ix_N) (sz li : Nat) (mc : Int32) (n cap : Nat) (f : Nat → Option Nat) (q j : Nat) (hj : j ≤ n) (hl0 : N 1 li = some (jj_LST mc (jj_ref G.2.2.1 β cap li) n)) (ha0 : ¬ cap = 0 → N 2 li = some (jj_ROW G.2.1 cap f)) (ha1 : cap = 0 → N 2 li = none) (hn : n ≤ cap) (hcap : cap ≤ 1000) (hnc : ¬ n < cap → cap ≤ 100) (hnone : ∀ j, n ≤ j → f j = none) (hE : ∀ j y, f j = some y → jj_e β N y) (hq : jj_e β N q) (h90 : N 90 0 = none) : Met l yJ2_add_3 (ws_ yJ2_add_3 cJ2_add_3 5 none) ({ frames := 5, cells := 1, slots := 200, locals := 200 } : Room) (ix_P G β N sz [.ref (β 1 li), .int (nI j), .ref q]) (ix_Q none (fun (H9 : Heap) => ∃ b : ix_B, (∀ x y, ¬ (x = 2 ∧ y = li) → b x y = β x y) ∧ ix_H G.1 (ix_A β N sz) b (ix_u (ix_u N 2 li (some (jj_ROW G.2.1 (jj_nc cap n) (jj_in f j n q)))) 1 li (some (jj_LST (mc + 1) (b 2 li) (n + 1)))) H9) (ix_A β N sz)) 1 200 (ix_A β N sz) := by
  by_cases h0 : cap = 0
  · subst h0
    obtain rfl : n = 0 := by omega
    obtain rfl : f = fun _ => none := funext fun i => hnone i (by omega)
    obtain rfl : j = 0 := by omega
    rw [jj_up_in (fun _ _ => rfl)]
    exact jj_addI_0 l G β N sz li mc q hl0 hq (by rw [ha1 rfl]; exact jj_no_n)
  · have hr : jj_ref G.2.2.1 β cap li = β 2 li := if_neg h0
    rw [hr] at hl0
    by_cases h1 : n < cap
    · have hc : jj_nc cap n = cap := if_pos h1
      rw [hc]
      exact jj_addI_f l G β N sz li mc n cap f q j hl0 (ha0 h0) hj h1 hcap hE hq hnone
    · obtain rfl : n = cap := by omega
      have hc : jj_nc n n = n + jj_mx 1 (n / 2) := by rw [jj_nc, if_neg (by omega), jj_c, if_neg h0]
      rw [hc]
      exact jj_addI_1 l G β N sz li mc n f q hl0 (ha0 h0) (by omega) (hnc h1) hE hq h90 j hj hnone
theorem jj_ordinal (l : Launch) (G : ix_G) (β : ix_B) (N : ix_N) (sz k : Nat) (hk : k < 4) : Met l yJ8_ordinal (ws_ yJ8_ordinal cJ8_ordinal 1 (some .int)) ({ frames := 0, cells := 0, slots := 0, locals := 0 } : Room) (ix_P G β N sz [.ref (G.2.2.1 k)]) (ix_R (some (.int (nI k)))) 0 0 (fun _ => False) := by
  refine ix_reader (by decide +kernel) (Nat.le_of_ble_eq_true rfl) ?_
  intro p e s m below meth c S hr hlocks hC hH hS ls hl
  have hx := S.1
  have hb := S.2.1
  have hl : lv_has ls 1 [(0, .ref (G.2.2.1 k))] := hl
  refine lv_aload_n hx hb dJ8_ordinal_0 rfl (lv_at hl 0 rfl) ?_
  refine va_getE (R := { frames := 0, cells := 0, slots := 0, locals := 0 }) S.1 S.2.1 hC.2.2.1.1 hk (ix_Sz (G := G) hS (fun q h => h)) S.2.2.2.1 (q := ("java/lang/Enum", "ordinal", "I", [0, 1, 2, 3])) (List.mem_singleton.mpr rfl) (S.2.2.2.2 _ q1070) (fun _ h9 => h9) dJ8_ordinal_1 ?_
  refine ix_reI (y := nI k) (match k, hk with | 0, _ => rfl | 1, _ => rfl | 2, _ => rfl | 3, _ => rfl | n9 + 4, h9 => absurd h9 (by omega)) ?_
  exact ix_rI S hr hlocks rfl dJ8_ordinal_4
