/-! THE REFERENCE's WORLD: F k = the ints of its field k (an array's cells, or the field itself at 0), L k = the longs; and what its methods answer, in plain words. -/
abbrev mm_F : Type := Nat → Nat → Int32
abbrev mm_L : Type := Nat → Nat → Int64
def mm_obj (β : ix_B) (F : mm_F) (L : mm_L) : List Value := [.int (F 0 0), .long (L 1 0), .ref (β 2 0), .ref (β 3 0), .ref (β 4 0), .int (F 5 0), .ref (β 6 0), .ref (β 7 0), .ref (β 8 0), .ref (β 9 0), .ref (β 10 0), .ref (β 11 0), .ref (β 12 0), .ref (β 13 0), .ref (β 14 0), .ref (β 15 0), .ref (β 16 0), .ref (β 17 0), .ref (β 18 0), .ref (β 19 0), .ref (β 20 0), .ref (β 21 0), .int (F 22 0), .long (L 23 0), .int (F 24 0)]
def mm_k : Nat → Nat × Nat
  | 2 => (0, 96)
  | 3 => (0, 12)
  | 4 => (2, 12)
  | 6 => (0, 36)
  | 7 => (0, 36)
  | 8 => (0, 36)
  | 9 => (0, 36)
  | 10 => (0, 4)
  | 11 => (0, 100)
  | 12 => (0, 100)
  | 13 => (0, 100)
  | 14 => (0, 100)
  | 15 => (0, 400)
  | 16 => (2, 100)
  | 17 => (2, 100)
  | 18 => (2, 10000)
  | 19 => (2, 100)
  | 20 => (1, 100)
  | 21 => (1, 100)
  | 30 => (1, 1)
  | _ => (3, 0)
def mm_N (dA : Nat → ClassId) (β : ix_B) (F : mm_F) (L : mm_L) : ix_N := fun k i => if i = 0 then (if k = 0 then some (.inr (14, mm_obj β F L)) else if (mm_k k).1 = 0 then some (.inl (dA 0, (mm_k k).2, .inl (F k))) else if (mm_k k).1 = 2 then some (.inl (dA 2, (mm_k k).2, .inl (F k))) else if (mm_k k).1 = 1 then some (.inl (dA 1, (mm_k k).2, .inr (.inl (L k)))) else none) else none
theorem mm_upI {dA : Nat → ClassId} {β : ix_B} {F : mm_F} {L : mm_L} (k : Nat) {f : Nat → Int32} (hk : (mm_k k).1 = 0) : ∀ a b e, mm_N dA β (va_up F k f) L a b = some e → ix_u (mm_N dA β F L) k 0 (some (.inl (dA 0, (mm_k k).2, .inl f))) a b = some e := by
  have h5 : (5 : Nat) ≠ k := by intro h; subst h; cases hk
  have h22 : (22 : Nat) ≠ k := by intro h; subst h; cases hk
  have h24 : (24 : Nat) ≠ k := by intro h; subst h; cases hk
  have h0 : (0 : Nat) ≠ k := by intro h; subst h; cases hk
  have ho : mm_obj β (va_up F k f) L = mm_obj β F L := by simp only [mm_obj, va_up_ne F f h5, va_up_ne F f h22, va_up_ne F f h24, va_up_ne F f h0]
  intro a b e h
  by_cases hb : b = 0
  · subst hb
    by_cases ha : a = k
    · subst ha
      rw [ix_us]
      simpa [mm_N, hk, Ne.symm h0, va_up_self] using h
    · rw [ix_un (fun z => ha z.1)]
      simpa only [mm_N, ho, va_up_ne F f ha] using h
  · simp [mm_N, hb] at h
theorem mm_upZ {dA : Nat → ClassId} {β : ix_B} {F : mm_F} {L : mm_L} (k : Nat) {f : Nat → Int32} (hk : (mm_k k).1 = 2) : ∀ a b e, mm_N dA β (va_up F k f) L a b = some e → ix_u (mm_N dA β F L) k 0 (some (.inl (dA 2, (mm_k k).2, .inl f))) a b = some e := by
  have h5 : (5 : Nat) ≠ k := by intro h; subst h; cases hk
  have h22 : (22 : Nat) ≠ k := by intro h; subst h; cases hk
  have h24 : (24 : Nat) ≠ k := by intro h; subst h; cases hk
  have h0 : (0 : Nat) ≠ k := by intro h; subst h; cases hk
  have ho : mm_obj β (va_up F k f) L = mm_obj β F L := by simp only [mm_obj, va_up_ne F f h5, va_up_ne F f h22, va_up_ne F f h24, va_up_ne F f h0]
  intro a b e h
  by_cases hb : b = 0
  · subst hb
    by_cases ha : a = k
    · subst ha
      rw [ix_us]
      simpa [mm_N, hk, Ne.symm h0, va_up_self] using h
    · rw [ix_un (fun z => ha z.1)]
      simpa only [mm_N, ho, va_up_ne F f ha] using h
  · simp [mm_N, hb] at h
theorem mm_upL {dA : Nat → ClassId} {β : ix_B} {F : mm_F} {L : mm_L} (k : Nat) {f : Nat → Int64} (hk : (mm_k k).1 = 1) : ∀ a b e, mm_N dA β F (va_up L k f) a b = some e → ix_u (mm_N dA β F L) k 0 (some (.inl (dA 1, (mm_k k).2, .inr (.inl f)))) a b = some e := by
  have h1 : (1 : Nat) ≠ k := by intro h; subst h; cases hk
  have h23 : (23 : Nat) ≠ k := by intro h; subst h; cases hk
  have h0 : (0 : Nat) ≠ k := by intro h; subst h; cases hk
  have ho : mm_obj β F (va_up L k f) = mm_obj β F L := by simp only [mm_obj, va_up_ne L f h1, va_up_ne L f h23]
  intro a b e h
  by_cases hb : b = 0
  · subst hb
    by_cases ha : a = k
    · subst ha
      rw [ix_us]
      simpa [mm_N, hk, Ne.symm h0, va_up_self] using h
    · rw [ix_un (fun z => ha z.1)]
      simpa only [mm_N, ho, va_up_ne L f ha] using h
  · simp [mm_N, hb] at h
theorem mm_putI {dA : Nat → ClassId} {β : ix_B} {F : mm_F} {L : mm_L} (k : Nat) (v : Int32) (hk : k = 0 ∨ k = 5 ∨ k = 22 ∨ k = 24) : ∀ a b e, mm_N dA β (va_up F k (fun _ => v)) L a b = some e → ix_u (mm_N dA β F L) 0 0 (some (.inr (14, (mm_obj β F L).set k (.int v)))) a b = some e := by
  have ho : mm_obj β (va_up F k (fun _ => v)) L = (mm_obj β F L).set k (.int v) := by rcases hk with rfl | rfl | rfl | rfl <;> rfl
  have h3 : (mm_k k).1 = 3 := by rcases hk with rfl | rfl | rfl | rfl <;> rfl
  intro a b e h
  by_cases hb : b = 0
  · subst hb
    by_cases ha : a = 0
    · subst ha
      rw [ix_us]
      simpa [mm_N, ho] using h
    · rw [ix_un (fun z => ha z.1)]
      by_cases hak : a = k
      · subst hak
        simp [mm_N, h3, ha] at h
      · simpa only [mm_N, ha, if_false, va_up_ne F _ hak] using h
  · simp [mm_N, hb] at h
theorem mm_putL {dA : Nat → ClassId} {β : ix_B} {F : mm_F} {L : mm_L} (k : Nat) (v : Int64) (hk : k = 1 ∨ k = 23) : ∀ a b e, mm_N dA β F (va_up L k (fun _ => v)) a b = some e → ix_u (mm_N dA β F L) 0 0 (some (.inr (14, (mm_obj β F L).set k (.long v)))) a b = some e := by
  have ho : mm_obj β F (va_up L k (fun _ => v)) = (mm_obj β F L).set k (.long v) := by rcases hk with rfl | rfl <;> rfl
  have h3 : (mm_k k).1 = 3 := by rcases hk with rfl | rfl <;> rfl
  intro a b e h
  by_cases hb : b = 0
  · subst hb
    by_cases ha : a = 0
    · subst ha
      rw [ix_us]
      simpa [mm_N, ho] using h
    · rw [ix_un (fun z => ha z.1)]
      by_cases hak : a = k
      · subst hak
        simp [mm_N, h3, ha] at h
      · simpa only [mm_N, ha, if_false, va_up_ne L _ hak] using h
  · simp [mm_N, hb] at h
/-! sums, quantifiers, the best, the first: as the loops run -/
def ix_sum (g : Nat → Int32) : Nat → Int32
  | 0 => 0
  | k + 1 => ix_sum g k + g k
def ix_sumL (g : Nat → Int64) : Nat → Int64
  | 0 => 0
  | k + 1 => ix_sumL g k + g k
def ix_any (g : Nat → Bool) : Nat → Bool
  | 0 => false
  | k + 1 => ix_any g k || g k
def ix_all (g : Nat → Bool) : Nat → Bool
  | 0 => true
  | k + 1 => ix_all g k && g k
def ix_best (ok : Nat → Bool) (ah : Nat → Nat → Bool) : Nat → Option Nat
  | 0 => none
  | j + 1 => match ix_best ok ah j with
    | none => if ok j = true then some j else none
    | some g => if ok j = true ∧ ah j g = true then some j else some g
def ix_fst (g : Nat → Option Nat) : Nat → Option Nat
  | 0 => none
  | p + 1 => match ix_fst g p with
    | none => g p
    | some x => some x
def ix_find (g : Nat → Bool) : Nat → Option Nat
  | 0 => none
  | p + 1 => match ix_find g p with
    | none => if g p = true then some p else none
    | some x => some x
def ix_o (o : Option Nat) : Int32 := match o with
  | none => -1
  | some j => nI j
noncomputable def ix_d (P : Prop) : Bool := @decide P (Classical.propDecidable P)
theorem ix_d_t {P : Prop} : ix_d P = true ↔ P := by unfold ix_d; exact @decide_eq_true_iff P (Classical.propDecidable P)
theorem ix_d_f {P : Prop} : ix_d P = false ↔ ¬ P := by unfold ix_d; exact @decide_eq_false_iff_not P (Classical.propDecidable P)
theorem ix_best_lt {ok : Nat → Bool} {ah : Nat → Nat → Bool} : ∀ {n j : Nat}, ix_best ok ah n = some j → j < n ∧ ok j = true
  | 0, j, h => by cases h
  | n + 1, j, h => by
    simp only [ix_best] at h
    cases hb : ix_best ok ah n with
    | none =>
      rw [hb] at h
      by_cases ho : ok n = true
      · rw [if_pos ho] at h; cases h; exact ⟨Nat.lt_succ_self n, ho⟩
      · rw [if_neg ho] at h; cases h
    | some g =>
      rw [hb] at h
      have ih := ix_best_lt hb
      by_cases ho : ok n = true ∧ ah n g = true
      · simp only [if_pos ho] at h; cases h; exact ⟨Nat.lt_succ_self n, ho.1⟩
      · simp only [if_neg ho] at h; cases h; exact ⟨Nat.lt_succ_of_lt ih.1, ih.2⟩
theorem ix_fst_of {g : Nat → Option Nat} : ∀ {n j : Nat}, ix_fst g n = some j → ∃ p, p < n ∧ g p = some j
  | 0, j, h => by cases h
  | n + 1, j, h => by
    simp only [ix_fst] at h
    cases hb : ix_fst g n with
    | none => rw [hb] at h; exact ⟨n, Nat.lt_succ_self n, h⟩
    | some x =>
      rw [hb] at h
      cases h
      obtain ⟨p, h1, h2⟩ := ix_fst_of hb
      exact ⟨p, Nat.lt_succ_of_lt h1, h2⟩
theorem ix_fst_more {g : Nat → Option Nat} {x : Nat} : ∀ {n k : Nat}, k ≤ n → ix_fst g k = some x → ix_fst g n = some x
  | 0, k, hk, h => by rw [show k = 0 by omega] at h; exact h
  | n + 1, k, hk, h => by
    by_cases hkn : k = n + 1
    · subst hkn; exact h
    · have := ix_fst_more (n := n) (by omega) h
      simp only [ix_fst, this]
theorem ix_find_none {g : Nat → Bool} : ∀ {n : Nat}, (∀ k, k < n → g k = false) → ix_find g n = none
  | 0, _ => rfl
  | n + 1, h => by
    simp only [ix_find, ix_find_none (n := n) (fun k hk => h k (by omega)), h n (by omega)]
    rfl
theorem ix_find_some {g : Nat → Bool} {j : Nat} : ∀ {n : Nat}, (∀ k, k < j → g k = false) → j < n → g j = true → ix_find g n = some j
  | 0, _, h, _ => by omega
  | n + 1, h1, h2, h3 => by
    by_cases hj : j = n
    · subst hj
      simp only [ix_find, ix_find_none h1, h3]
      rfl
    · simp only [ix_find, ix_find_some (n := n) h1 (by omega) h3]
theorem ix_any_iff {g : Nat → Bool} : ∀ {n : Nat}, ix_any g n = true ↔ ∃ k, k < n ∧ g k = true
  | 0 => by simp [ix_any]
  | n + 1 => by
    simp only [ix_any, Bool.or_eq_true, ix_any_iff (n := n)]
    constructor
    · rintro (⟨k, h1, h2⟩ | h)
      · exact ⟨k, by omega, h2⟩
      · exact ⟨n, by omega, h⟩
    · rintro ⟨k, h1, h2⟩
      by_cases hk : k = n
      · subst hk; exact Or.inr h2
      · exact Or.inl ⟨k, by omega, h2⟩
theorem ix_all_iff {g : Nat → Bool} : ∀ {n : Nat}, ix_all g n = true ↔ ∀ k, k < n → g k = true
  | 0 => by simp [ix_all]
  | n + 1 => by
    simp only [ix_all, Bool.and_eq_true, ix_all_iff (n := n)]
    constructor
    · rintro ⟨h1, h2⟩ k hk
      by_cases hkn : k = n
      · subst hkn; exact h2
      · exact h1 k (by omega)
    · exact fun h => ⟨fun k hk => h k (by omega), h n (by omega)⟩
/-! a natural number out of an int -/
abbrev ix_t (x : Int32) : Nat := x.toNatClampNeg
theorem ix_t_of {x : Int32} (h : ¬ x < 0) : x = nI (ix_t x) ∧ ix_t x < 2 ^ 31 := by
  obtain ⟨j, hj, rfl⟩ := nI_of h
  rw [show ix_t (nI j) = j from nI_clamp hj]
  exact ⟨rfl, hj⟩
theorem ix_t_le {x M : Int32} {n : Nat} (hM : M = nI n) (hn : n < 2 ^ 31) (h0 : ¬ x < 0) (h1 : ¬ M < x) : x = nI (ix_t x) ∧ ix_t x ≤ n := by
  obtain ⟨e, hb⟩ := ix_t_of h0
  refine ⟨e, ?_⟩
  rw [hM, e, nI_ltI hn hb] at h1
  omega
theorem ix_t_lt {x M : Int32} {n : Nat} (hM : M = nI n) (hn : n < 2 ^ 31) (h0 : ¬ x < 0) (h1 : x < M) : x = nI (ix_t x) ∧ ix_t x < n := by
  obtain ⟨e, hb⟩ := ix_t_of h0
  refine ⟨e, ?_⟩
  rw [hM, e, nI_ltI hb hn] at h1
  exact h1
theorem ix_t_1 {x M : Int32} {n : Nat} (hM : M = nI n) (hn : n < 2 ^ 31) (h0 : ¬ x < 1) (h1 : ¬ M < x) : x = nI (ix_t x) ∧ 1 ≤ ix_t x ∧ ix_t x ≤ n := by
  have hx : ¬ x < 0 := by
    intro h
    apply h0
    simp only [Int32.lt_iff_toInt_lt] at h ⊢
    have e0 : (0 : Int32).toInt = 0 := by decide
    have e1 : (1 : Int32).toInt = 1 := by decide
    omega
  obtain ⟨e, hb⟩ := ix_t_le hM hn hx h1
  refine ⟨e, ?_, hb⟩
  rw [e] at h0
  have h2 := (not_congr (nI_ltI (a := ix_t x) (b := 1) (by omega) (by omega))).mp h0
  omega
/-! what the reference's methods answer -/
def mm_0 (F : mm_F) : mm_F := va_up F 0 (fun _ => 0)
def mm_isI (F : mm_F) (x : Int32) : Bool := !decide (x < 1) && !decide (F 5 0 < x)
def mm_isJ (F : mm_F) (x : Int32) : Bool := !decide (x < 1) && !decide (F 22 0 < x)
def mm_isC (x : Int32) : Bool := !decide (x < 0) && decide (x < 36)
def mm_isM (x : Int32) : Bool := !decide (x < 0) && decide (x < 1440)
def mm_used (F : mm_F) (n kd : Nat) : Int32 := ix_sum (fun k => if F 14 k = 2 then F 15 (4 * k + kd) else 0) n
def mm_min (L : mm_L) : Int32 := (L 1 0 - L 1 0 / 1440 * 1440).toInt32
def mm_open (F : mm_F) (L : mm_L) (c : Nat) : Bool := if F 7 c = F 8 c then true else if F 7 c < F 8 c then !decide (mm_min L < F 7 c) && decide (mm_min L < F 8 c) else !decide (mm_min L < F 7 c) || decide (mm_min L < F 8 c)
def mm_gr (L : mm_L) (j : Nat) : Int64 := (L 1 0 - L 20 j) / L 23 0
def mm_u15 (g : Int64) : Int64 := if 15 < g then 15 else g
def mm_cap (m v : Int64) : Int64 := if m < v then m else v
def mm_pr (F : mm_F) (L : mm_L) (j : Nat) : Int64 := if L 23 0 = 0 then (F 12 j).toInt64 else
  if mm_cap (F 24 0).toInt64 ((F 12 j).toInt64 + mm_u15 (mm_gr L j)) < (F 12 j).toInt64 then (F 12 j).toInt64 else mm_cap (F 24 0).toInt64 ((F 12 j).toInt64 + mm_u15 (mm_gr L j))
def mm_ah (F : mm_F) (L : mm_L) (a b : Nat) : Bool := decide (mm_pr F L b < mm_pr F L a) || (decide (mm_pr F L a = mm_pr F L b) && decide (a < b))
def mm_those (F : mm_F) (n : Nat) (st : Int32) (hd : Bool) : Int32 := ix_sum (fun k => if F 14 k = st ∧ (hd = true ∨ ¬ F 16 k = 0) then 1 else 0) n
def mm_run (F : mm_F) (k : Nat) : Bool := decide (F 14 k = 2)
def mm_same (F : mm_F) (j n : Nat) : Int32 := ix_sum (fun k => if mm_run F k = true ∧ F 11 k = F 11 j then 1 else 0) n
def mm_free (F : mm_F) (j n : Nat) : Bool := ix_all (fun k => !(mm_run F k && (decide (F 13 k = F 13 j) || !decide (F 17 k = 0)))) n
def mm_any (F : mm_F) (n : Nat) : Bool := ix_any (mm_run F) n
def mm_ndd (F : mm_F) (j n : Nat) : Bool := ix_any (fun k => !decide (F 18 (100 * j + k) = 0) && !decide (F 14 k = 3)) n
def mm_room (F : mm_F) (j n k4 : Nat) : Bool := ix_all (fun k => !decide (F 10 k < F 15 (4 * j + k) + mm_used F n k)) k4
def mm_may (F : mm_F) (L : mm_L) (n j : Nat) : Bool := decide (F 14 j = 0) && decide (F 16 j = 0) && mm_open F L (ix_t (F 11 j)) && (mm_free F j n && !mm_ndd F j n && mm_room F j n 4 && decide (mm_same F j n < F 6 (ix_t (F 11 j))) && (decide (F 17 j = 0) || !mm_any F n))
theorem mm_isI_t {F : mm_F} {x : Int32} {n : Nat} (hM : F 5 0 = nI n) (hn : n ≤ 12) (h : mm_isI F x = true) : x = nI (ix_t x) ∧ 1 ≤ ix_t x ∧ ix_t x ≤ n := by
  simp only [mm_isI, Bool.and_eq_true, Bool.not_eq_true', decide_eq_false_iff_not] at h
  exact ix_t_1 hM (by omega) h.1 h.2
theorem mm_isJ_t {F : mm_F} {x : Int32} {n : Nat} (hM : F 22 0 = nI n) (hn : n ≤ 100) (h : mm_isJ F x = true) : x = nI (ix_t x) ∧ 1 ≤ ix_t x ∧ ix_t x ≤ n := by
  simp only [mm_isJ, Bool.and_eq_true, Bool.not_eq_true', decide_eq_false_iff_not] at h
  exact ix_t_1 hM (by omega) h.1 h.2
theorem mm_isC_t {x : Int32} (h : mm_isC x = true) : x = nI (ix_t x) ∧ ix_t x < 36 := by
  simp only [mm_isC, Bool.and_eq_true, Bool.not_eq_true', decide_eq_false_iff_not, decide_eq_true_eq] at h
  exact ix_t_lt (M := 36) (n := 36) rfl (by omega) h.1 h.2
/-- the classes of all jobs are classes -/
def mm_cl (F : mm_F) (n : Nat) : Prop := ∀ j, j < n → F 11 j = nI (ix_t (F 11 j)) ∧ ix_t (F 11 j) < 36
abbrev mm_wr (F : mm_F) (k j : Nat) (v : Int32) : mm_F := va_up F k (va_up (F k) j v)
abbrev mm_st (F : mm_F) (k : Nat) (v : Int32) : mm_F := va_up F k (fun _ => v)
abbrev mm_wrL (L : mm_L) (k j : Nat) (v : Int64) : mm_L := va_up L k (va_up (L k) j v)
abbrev mm_stL (L : mm_L) (k : Nat) (v : Int64) : mm_L := va_up L k (fun _ => v)
theorem ix_sub {D : va_G} {A : Nat → Prop} {β : ix_B} {N : ix_N} {H0 H : Heap} {locs : List Loc} (h : ix_H D A β N H) (hS : va_S A H0 H locs) (hA0 : ∀ q, H0.size ≤ q → A q) : ∀ q, ix_A β N H.size q → A q := by
  intro q hq
  rcases hq with ⟨k, i, e, he, rfl⟩ | hq
  · exact (h.1 k i e he).2
  · exact hA0 q (Nat.le_trans hS.1 hq)
theorem ix_sw {x : Int32} {hi : Nat} (h : ∀ i : Nat, i ≤ hi → ¬ x = nI i) : x.toInt < 0 ∨ (hi : Int) < x.toInt := by
  by_cases h0 : x.toInt < 0
  · exact Or.inl h0
  · by_cases h1 : (hi : Int) < x.toInt
    · exact Or.inr h1
    · exfalso
      have hx : ¬ x < 0 := fun hlt => h0 (by simpa [Int32.lt_iff_toInt_lt] using hlt)
      obtain ⟨e, hb⟩ := ix_t_of hx
      have e2 : x.toInt = (ix_t x : Int) := by rw [e, show ix_t (nI (ix_t x)) = ix_t x from nI_clamp hb]; exact nI_toInt hb
      exact h (ix_t x) (by omega) e
theorem ix_o_ne {o : Option Nat} (h : ¬ ix_o o = -1) : ∃ j, o = some j := by
  cases o with
  | none => exact absurd rfl h
  | some j => exact ⟨j, rfl⟩
theorem ix_o_eq {o : Option Nat} (hb : ∀ j, o = some j → j < 2 ^ 31) (h : ix_o o = -1) : o = none := by
  cases o with
  | none => rfl
  | some j =>
    have h1 : (nI j).toInt = (j : Int) := nI_toInt (hb j rfl)
    have h2 : nI j = -1 := h
    rw [h2] at h1
    have h3 : (-1 : Int32).toInt = -1 := by decide
    omega
theorem ix_best_no {ok : Nat → Bool} {ah : Nat → Nat → Bool} {j : Nat} (h : ok j = false) : ix_best ok ah (j + 1) = ix_best ok ah j := by
  simp only [ix_best, h]
  cases ix_best ok ah j <;> simp
theorem ix_best_1 {ok : Nat → Bool} {ah : Nat → Nat → Bool} {j : Nat} (hb : ix_best ok ah j = none) (h : ok j = true) : ix_best ok ah (j + 1) = some j := by
  simp only [ix_best, hb, h, if_true]
theorem ix_best_2 {ok : Nat → Bool} {ah : Nat → Nat → Bool} {j g : Nat} (hb : ix_best ok ah j = some g) (h : ok j = true) (ha : ah j g = true) : ix_best ok ah (j + 1) = some j := by
  simp only [ix_best, hb, h, ha, and_self, if_true]
theorem ix_best_3 {ok : Nat → Bool} {ah : Nat → Nat → Bool} {j g : Nat} (hb : ix_best ok ah j = some g) (ha : ah j g = false) : ix_best ok ah (j + 1) = some g := by
  simp [ix_best, hb, ha]
/-! the reference's public methods: answer, ints, longs -/
abbrev mm_R : Type := Int32 × mm_F × mm_L
def mm_oInit (F : mm_F) (L : mm_L) : mm_R := if F 5 0 = 12 then (-1, F, L) else (F 5 0 + 1, mm_st F 5 (F 5 0 + 1), L)
def mm_oCls (F : mm_F) (L : mm_L) (i o k : Int32) : mm_R := if mm_isI F i = false then (-2, F, L) else if o < 0 ∨ 7 < o ∨ (¬ k = -1 ∧ mm_isC k = false) then (-4, F, L) else (1, mm_wr F 2 (8 * ix_t i - 8 + ix_t o) k, L)
def mm_oLimit (F : mm_F) (L : mm_L) (k x : Int32) : mm_R := if mm_isC k = false ∨ x < 0 ∨ 40 < x then (-4, F, L) else (1, mm_wr F 6 (ix_t k) x, L)
def mm_oWindow (F : mm_F) (L : mm_L) (k x y : Int32) : mm_R := if mm_isC k = false ∨ mm_isM x = false ∨ mm_isM y = false then (-4, F, L) else (1, mm_wr (mm_wr F 7 (ix_t k) x) 8 (ix_t k) y, L)
def mm_oJob (F : mm_F) (L : mm_L) (n : Nat) (k x y : Int32) (t : Int64) : mm_R := if mm_isC k = false ∨ x < 0 ∨ 15 < x ∨ y < 0 ∨ 99 < y ∨ t < L 1 0 then (-4, F, L) else if n = 100 then (-1, F, L) else
  (F 22 0 + 1, mm_st (mm_wr (mm_wr (mm_wr F 11 n k) 12 n x) 13 n y) 22 (F 22 0 + 1), mm_wrL (mm_stL L 1 t) 20 n t)
def mm_reach (F : mm_F) (a b : Nat) : Prop := ∀ P : Nat → Prop, P a → (∀ k i, k < 100 → i < 100 → P k → ¬ F 18 (100 * k + i) = 0 → P i) → P b

noncomputable def mm_oNeeds (F : mm_F) (L : mm_L) (x y : Int32) : mm_R := if mm_isJ F x = false ∨ mm_isJ F y = false then (-2, F, L) else if ¬ F 14 (ix_t x - 1) = 0 then (-5, F, L) else if ix_d (mm_reach F (ix_t y - 1) (ix_t x - 1)) = true then (0, F, L) else (1, mm_wr F 18 (100 * (ix_t x - 1) + ix_t y - 1) 1, L)
def mm_oUnits (F : mm_F) (L : mm_L) (k x : Int32) : mm_R := if k < 0 ∨ 3 < k ∨ x < 0 ∨ 1000 < x then (-4, F, L) else (1, mm_wr F 10 (ix_t k) x, L)
def mm_oUses (F : mm_F) (L : mm_L) (j k x : Int32) : mm_R := if mm_isJ F j = false then (-2, F, L) else if k < 0 ∨ 3 < k ∨ x < 0 ∨ 1000 < x then (-4, F, L) else if ¬ F 14 (ix_t j - 1) = 0 then (-5, F, L) else (1, mm_wr F 15 (4 * ix_t j - 4 + ix_t k) x, L)
def mm_oAlone (F : mm_F) (L : mm_L) (j : Int32) : mm_R := if mm_isJ F j = false then (-2, F, L) else if ¬ F 14 (ix_t j - 1) = 0 then (-5, F, L) else (1, mm_wr F 17 (ix_t j - 1) 1, L)
def mm_oHold (F : mm_F) (L : mm_L) (j : Int32) (on : Bool) : mm_R := if mm_isJ F j = false then (-2, F, L) else if ¬ F 14 (ix_t j - 1) = 0 then (-5, F, L) else (if F 16 (ix_t j - 1) = ix_b on then 0 else 1, mm_wr F 16 (ix_t j - 1) (ix_b on), L)
def mm_fo (F : mm_F) (L : mm_L) (n a p : Nat) : Option Nat := ix_best (fun j => decide (F 11 j = F 2 (8 * a + p)) && mm_may F L n j) (mm_ah F L) n
def mm_oNext (F : mm_F) (L : mm_L) (n : Nat) (i : Int32) (t : Int64) : mm_R := if mm_isI F i = false then (-2, F, L) else if t < L 1 0 then (-4, F, L) else if ¬ F 4 (ix_t i - 1) = 0 ∨ ¬ F 3 (ix_t i - 1) = -1 then (-5, F, L) else
  match ix_fst (mm_fo F (mm_stL L 1 t) n (ix_t i - 1)) 8 with
  | none => (0, F, mm_stL L 1 t)
  | some f => (nI f + 1, mm_wr (mm_wr F 3 (ix_t i - 1) (nI f)) 14 f 2, mm_wrL (mm_stL L 1 t) 21 f t)
def mm_ends (F : mm_F) (j k : Nat) : Nat → Int32 := fun i => if i < k ∧ F 3 i = nI j then -1 else F 3 i
def mm_oEnd (F : mm_F) (L : mm_L) (j : Int32) : mm_R := if mm_isJ F j = false then (-2, F, L) else if ¬ F 14 (ix_t j - 1) = 2 then (-5, F, L) else (1, va_up (mm_wr F 14 (ix_t j - 1) 3) 3 (mm_ends F (ix_t j - 1) 12), L)
def mm_oAge (F : mm_F) (L : mm_L) (t : Int64) (x : Int32) : mm_R := if t < 0 ∨ x < 0 ∨ 15 < x then (-4, F, L) else (1, mm_st F 24 x, mm_stL L 23 t)
def mm_oDrain (F : mm_F) (L : mm_L) (i : Int32) (on : Bool) : mm_R := if mm_isI F i = false then (-2, F, L) else (if F 4 (ix_t i - 1) = ix_b on then 0 else 1, mm_wr F 4 (ix_t i - 1) (ix_b on), L)
def mm_oWeight (F : mm_F) (L : mm_L) (k x : Int32) : mm_R := if mm_isC k = false ∨ x < 0 ∨ 1000 < x then (-4, F, L) else (1, mm_wr F 9 (ix_t k) x, L)
def mm_ws (F : mm_F) (n : Nat) : Int64 := ix_sumL (fun k => (F 9 k).toInt64) n
def mm_rw (F : mm_F) (r : Int64) (k : Nat) : Int64 := r * (F 9 k).toInt64
def mm_rr (F : mm_F) (r sm : Int64) (k : Nat) : Int64 := mm_rw F r k - mm_rw F r k / sm * sm
def mm_left (F : mm_F) (q r sm al : Int64) : Nat → Int64
  | 0 => al
  | k + 1 => mm_left F q r sm al k - (q * (F 9 k).toInt64 + mm_rw F r k / sm)
def mm_ahd (F : mm_F) (r sm : Int64) (kc n : Nat) : Int32 := ix_sum (fun k => if mm_rr F r sm kc < mm_rr F r sm k ∨ (mm_rr F r sm k = mm_rr F r sm kc ∧ k < kc) then 1 else 0) n
def mm_shr (F : mm_F) (q r sm al : Int64) (kc : Nat) : Int64 := q * (F 9 kc).toInt64 + mm_rw F r kc / sm + (if (mm_ahd F r sm kc 36).toInt64 < mm_left F q r sm al 36 then 1 else 0)
/-- the share: answer, and the ints (the mark of what was thrown) -/
def mm_oShare (F : mm_F) (k : Int32) (al : Int64) : Int64 × mm_F := if mm_isC k = false ∨ al < 0 then (-1, F) else if mm_ws F 36 = 0 then (0, mm_st F 0 1) else (mm_shr F (al / mm_ws F 36) (al - al / mm_ws F 36 * mm_ws F 36) (mm_ws F 36) al (ix_t k), F)
def mm_cnt (F : mm_F) (L : mm_L) (j n : Nat) : Int32 := ix_sum (fun k => if F 14 k = 0 ∧ F 16 k = 0 ∧ ¬ k = j ∧ mm_ah F L k j = true then 1 else 0) n
def mm_ord (F : mm_F) (L : mm_L) (n : Nat) (x : Int32) (j : Nat) : Bool := decide (F 14 j = 0) && decide (F 16 j = 0) && decide (mm_cnt F L j n = x)
def mm_oOrder (F : mm_F) (L : mm_L) (n : Nat) (x : Int32) : Int32 := match ix_find (mm_ord F L n x) n with
  | none => -1
  | some j => nI j + 1
def mm_oWaited (F : mm_F) (L : mm_L) (j : Int32) : Int64 := if mm_isJ F j = false then -1 else if F 14 (ix_t j - 1) = 0 then L 1 0 - L 20 (ix_t j - 1) else L 21 (ix_t j - 1) - L 20 (ix_t j - 1)
def mm_oState (F : mm_F) (j : Int32) : Int32 := if mm_isJ F j = false then -1 else if F 14 (ix_t j - 1) = 0 ∧ ¬ F 16 (ix_t j - 1) = 0 then 1 else F 14 (ix_t j - 1)
def mm_idle (F : mm_F) (n : Nat) : Int32 := ix_sum (fun i => if ¬ F 4 i = 0 ∧ F 3 i = -1 then 1 else 0) n
def mm_oCount (F : mm_F) (n i : Nat) (x : Int32) : Int32 := if x = 0 then F 5 0 else if x = 1 then F 22 0 else if x = 2 then mm_those F n 0 true else if x = 3 then mm_those F n 0 false else if x = 4 then mm_those F n 2 true else if x = 5 then mm_idle F i else if x = 10 then mm_used F n 0 else if x = 11 then mm_used F n 1 else if x = 12 then mm_used F n 2 else if x = 13 then mm_used F n 3 else -1
