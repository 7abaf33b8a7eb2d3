/-! THE WORLD BY ROLES: a world is a map from roles (a kind, an index) to what stands there, and a map from roles to addresses. -/
def ix_T0 : u_T := fun _ => ("", "", "", false)
abbrev ix_cl : List vw_C := [(RX1, TX1, 9), (RX13, TX13, 11), (RX12, TX12, 3), (RX10, TX10, 4), (RX9, TX9, 2), (RX3, TX3, 2), (RX4, ix_T0, 0), (RX5, TX5, 2), (RX6, TX6, 1), (RX7, ix_T0, 0), (RX8, TX8, 1), (RJ2, TJ2, 3), (RJ14, TJ14, 4), (RJ12, TJ12, 6), (RX11, TX11, 25)]
abbrev ix_ty (dA : Nat → ClassId) : List (ClassId × FieldType) := [(dA 0, .int), (dA 1, .long), (dA 2, .boolean), (dA 3, .object "java/lang/Object"), (dA 4, .object "InitiatorRows$Cls"), (dA 5, .object "InitiatorRows$Rule")]
abbrev ix_N : Type := Nat → Nat → Option va_E
abbrev ix_B : Type := Nat → Nat → Nat
def ix_u {α : Type} (f : Nat → Nat → α) (k i : Nat) (v : α) : Nat → Nat → α := fun a b => if a = k ∧ b = i then v else f a b
theorem ix_us {α : Type} {f : Nat → Nat → α} {k i : Nat} {v : α} : ix_u f k i v k i = v := if_pos ⟨rfl, rfl⟩
theorem ix_un {α : Type} {f : Nat → Nat → α} {k i a b : Nat} {v : α} (h : ¬ (a = k ∧ b = i)) : ix_u f k i v a b = f a b := if_neg h
/-- the cells of the world stand where they should, in A, each role at an address of its own -/
def ix_H (D : va_G) (A : Nat → Prop) (β : ix_B) (N : ix_N) (H : Heap) : Prop :=
  (∀ k i e, N k i = some e → va_at D ix_cl (β k i, e) H ∧ A (β k i)) ∧ ∀ k i a b e e', N k i = some e → N a b = some e' → β k i = β a b → k = a ∧ i = b
def ix_A (β : ix_B) (N : ix_N) (sz : Nat) : Nat → Prop := fun q => (∃ k i e, N k i = some e ∧ β k i = q) ∨ sz ≤ q
theorem ix_H.one {D : va_G} {A : Nat → Prop} {β : ix_B} {N : ix_N} {H : Heap} (h : ix_H D A β N H) {k i : Nat} {e : va_E} (he : N k i = some e) : va_P D ix_cl [(β k i, e)] H := by
  intro j q hq
  have hz : j < 1 := (List.getElem?_eq_some_iff.mp hq).1
  rw [show j = 0 by omega] at hq
  cases hq
  exact (h.1 k i e he).1
theorem ix_H.lt {D : va_G} {A : Nat → Prop} {β : ix_B} {N : ix_N} {H : Heap} (h : ix_H D A β N H) {k i : Nat} {e : va_E} (he : N k i = some e) : β k i < H.size := (h.1 k i e he).1.lt
theorem ix_H.weaken {D : va_G} {A B : Nat → Prop} {β : ix_B} {N : ix_N} {H : Heap} (h : ix_H D A β N H) (hAB : ∀ q, A q → B q) : ix_H D B β N H := ⟨fun k i e he => ⟨(h.1 k i e he).1, hAB _ (h.1 k i e he).2⟩, h.2⟩
theorem ix_H.self {D : va_G} {A : Nat → Prop} {β : ix_B} {N : ix_N} {H : Heap} (h : ix_H D A β N H) (sz : Nat) : ix_H D (ix_A β N sz) β N H := ⟨fun k i e he => ⟨(h.1 k i e he).1, Or.inl ⟨k, i, e, he, rfl⟩⟩, h.2⟩
theorem ix_H.kept {D : va_G} {A : Nat → Prop} {β : ix_B} {N : ix_N} {H H1 : Heap} (h : ix_H D A β N H) (hq : ∀ k i e, N k i = some e → H1[β k i]? = H[β k i]?) : ix_H D A β N H1 := ⟨fun k i e he => ⟨(h.1 k i e he).1.kept (hq k i e he), (h.1 k i e he).2⟩, h.2⟩
/-- a world of fewer roles, or the same world under another name -/
theorem ix_H.mono {D : va_G} {A : Nat → Prop} {β β' : ix_B} {N N' : ix_N} {H : Heap} (h : ix_H D A β N H) (hN : ∀ k i e, N' k i = some e → N k i = some e ∧ β' k i = β k i) : ix_H D A β' N' H := by
  refine ⟨fun k i e he => ?_, fun k i a b e e' he he' hb => ?_⟩
  · obtain ⟨h1, h2⟩ := hN k i e he
    rw [h2]
    exact h.1 k i e h1
  · obtain ⟨h1, h2⟩ := hN k i e he
    obtain ⟨h3, h4⟩ := hN a b e' he'
    rw [h2, h4] at hb
    exact h.2 k i a b e e' h1 h3 hb
theorem ix_H.to {D : va_G} {A : Nat → Prop} {β : ix_B} {N N' : ix_N} {H : Heap} (h : ix_H D A β N H) (hN : ∀ k i e, N' k i = some e → N k i = some e) : ix_H D A β N' H := h.mono fun k i e he => ⟨hN k i e he, rfl⟩
/-- one cell anew -/
theorem ix_H.set {D : va_G} {A : Nat → Prop} {β : ix_B} {N : ix_N} {H H1 : Heap} {k i : Nat} {e0 e : va_E} (h : ix_H D A β N H) (hk : N k i = some e0) (he : va_at D ix_cl (β k i, e) H1) (oq : ∀ q : Nat, q ≠ β k i → H1[q]? = H[q]?) : ix_H D A β (ix_u N k i (some e)) H1 := by
  have key : ∀ a b x, ix_u N k i (some e) a b = some x → ∃ y, N a b = some y := by
    intro a b x hx
    by_cases hc : a = k ∧ b = i
    · rw [hc.1, hc.2]; exact ⟨_, hk⟩
    · rw [ix_un hc] at hx; exact ⟨_, hx⟩
  refine ⟨fun a b x hx => ?_, fun a b a' b' x x' hx hx' hb => ?_⟩
  · by_cases hc : a = k ∧ b = i
    · obtain ⟨rfl, rfl⟩ := hc
      rw [ix_us] at hx
      cases hx
      exact ⟨he, (h.1 _ _ _ hk).2⟩
    · rw [ix_un hc] at hx
      exact ⟨(h.1 a b x hx).1.kept (oq _ fun z => hc (h.2 _ _ _ _ _ _ hx hk z)), (h.1 a b x hx).2⟩
  · obtain ⟨y, hy⟩ := key a b x hx
    obtain ⟨y', hy'⟩ := key a' b' x' hx'
    exact h.2 _ _ _ _ _ _ hy hy' hb
/-- one cell more -/
theorem ix_H.new {D : va_G} {A : Nat → Prop} {β : ix_B} {N : ix_N} {H H1 : Heap} {e : va_E} (h : ix_H D A β N H) (k i : Nat) (oq : ∀ q : Nat, q < H.size → H1[q]? = H[q]?) (he : va_at D ix_cl (H.size, e) H1) (hA : A H.size) : ix_H D A (ix_u β k i H.size) (ix_u N k i (some e)) H1 := by
  refine ⟨fun a b x hx => ?_, fun a b a' b' x x' hx hx' hb => ?_⟩
  · by_cases hc : a = k ∧ b = i
    · obtain ⟨rfl, rfl⟩ := hc
      rw [ix_us] at hx ⊢
      cases hx
      exact ⟨he, hA⟩
    · rw [ix_un hc] at hx ⊢
      exact ⟨(h.1 a b x hx).1.kept (oq _ (h.lt hx)), (h.1 a b x hx).2⟩
  · by_cases hc : a = k ∧ b = i <;> by_cases hc' : a' = k ∧ b' = i
    · exact ⟨hc.1.trans hc'.1.symm, hc.2.trans hc'.2.symm⟩
    · obtain ⟨rfl, rfl⟩ := hc
      rw [ix_un hc'] at hx' hb
      rw [ix_us] at hb
      have := h.lt hx'
      omega
    · obtain ⟨rfl, rfl⟩ := hc'
      rw [ix_un hc] at hx hb
      rw [ix_us] at hb
      have := h.lt hx
      omega
    · rw [ix_un hc] at hx hb
      rw [ix_un hc'] at hx' hb
      exact h.2 _ _ _ _ _ _ hx hx' hb
theorem ix_S.new {A : Nat → Prop} {H0 H H1 : Heap} {locs : List Loc} (h : va_S A H0 H locs) (z : H1.size = H.size + 1) (oq : ∀ q : Nat, q < H.size → H1[q]? = H[q]?) : va_S A H0 H1 locs :=
  ⟨Nat.le_trans h.1 (by omega), fun x h1 h2 => (oq x (Nat.lt_of_lt_of_le h1 h.1)).trans (h.2.1 x h1 h2), h.2.2⟩
/-! what a run needs of the tables, and of statics that nobody writes -/
def ix_isN : Cond → Bool
  | .fieldLinkNest .. => true
  | .methodLinkNest .. => true
  | .castable .. => true
  | .declares .. => true
  | _ => false
def ix_nl : List Cond := lw_tbl.filter ix_isN
theorem ix_nm {w : Cond} (h : w ∈ lw_tbl) (g : ix_isN w = true) : w ∈ ix_nl := List.mem_filter.mpr ⟨h, g⟩
abbrev ix_yLi : String := "java/util/List"
abbrev ix_fw : List (String × MethodName × MethodName) := [
  (RJ2, ⟨"java/util/List", "size", "()I"⟩, ⟨RJ2, "size", "()I"⟩),
  (RJ2, ⟨"java/util/List", "get", "(I)Ljava/lang/Object;"⟩, ⟨RJ2, "get", "(I)Ljava/lang/Object;"⟩),
  (RJ2, ⟨"java/util/List", "add", "(Ljava/lang/Object;)Z"⟩, ⟨RJ2, "add", "(Ljava/lang/Object;)Z"⟩),
  (RJ2, ⟨"java/util/List", "contains", "(Ljava/lang/Object;)Z"⟩, ⟨RJ2, "contains", "(Ljava/lang/Object;)Z"⟩),
  (RJ2, ⟨"java/util/List", "remove", "(Ljava/lang/Object;)Z"⟩, ⟨RJ2, "remove", "(Ljava/lang/Object;)Z"⟩),
  (RJ2, ⟨"java/util/List", "add", "(ILjava/lang/Object;)V"⟩, ⟨RJ2, "add", "(ILjava/lang/Object;)V"⟩),
  (RJ2, ⟨"java/util/List", "iterator", "()Ljava/util/Iterator;"⟩, ⟨RJ2, "iterator", "()Ljava/util/Iterator;"⟩),
  (RJ14, ⟨"java/util/Iterator", "hasNext", "()Z"⟩, ⟨RJ14, "hasNext", "()Z"⟩),
  (RJ14, ⟨"java/util/Iterator", "next", "()Ljava/lang/Object;"⟩, ⟨RJ14, "next", "()Ljava/lang/Object;"⟩),
  (RX4, ⟨"InitiatorRows$Rule", "allows", "(LInitiatorRows$Job;)Z"⟩, ⟨RX4, "allows", "(LInitiatorRows$Job;)Z"⟩),
  (RX5, ⟨"InitiatorRows$Rule", "allows", "(LInitiatorRows$Job;)Z"⟩, ⟨RX5, "allows", "(LInitiatorRows$Job;)Z"⟩),
  (RX6, ⟨"InitiatorRows$Rule", "allows", "(LInitiatorRows$Job;)Z"⟩, ⟨RX6, "allows", "(LInitiatorRows$Job;)Z"⟩),
  (RX7, ⟨"InitiatorRows$Rule", "allows", "(LInitiatorRows$Job;)Z"⟩, ⟨RX7, "allows", "(LInitiatorRows$Job;)Z"⟩),
  (RX3, ⟨"InitiatorRows$Rule", "allows", "(LInitiatorRows$Job;)Z"⟩, ⟨RX3, "allows", "(LInitiatorRows$Job;)Z"⟩),
  (RX8, ⟨"InitiatorRows$Rule", "allows", "(LInitiatorRows$Job;)Z"⟩, ⟨RX8, "allows", "(LInitiatorRows$Job;)Z"⟩)]
def ix_nw (μ : Nat) (U : State) : Prop := (∀ w ∈ ix_nl, va_Nw w U) ∧ (∀ q ∈ ix_fw, va_Fw q.1 q.2.1 q.2.2 U) ∧ (∀ C ∈ ["java/lang/Object", "InitiatorRows$Cls", "InitiatorRows$Rule"], va_AO C U) ∧ va_Mi "[Ljava/lang/Object;" μ U ∧ va_Dc U
theorem ix_nl_moved {w : Cond} (hw : ix_isN w = true) {s U : State} (hW : s.WarmedH U.vm) (h : va_Nw w s) : va_Nw w U := by
  cases w <;> first | exact va_Nw.warmF hW h | exact va_Nw.warmM hW h | exact va_Nw.warmC hW h | exact va_Nw.warmD hW h | (simp [ix_isN] at hw)
theorem ix_nw.moved {μ : Nat} {s U : State} (hW : s.WarmedH U.vm) (h : ix_nw μ s) : ix_nw μ U := by
  obtain ⟨h1, h2, h3, h4, h5⟩ := h
  refine ⟨fun w hw => ix_nl_moved (List.mem_filter.mp hw).2 hW (h1 w hw), fun q hq => ?_, fun C hC => va_AO.moved hW.alike (h3 C hC), va_Mi.moved hW.alike h4, va_Dc.moved hW.alike h5⟩
  refine va_Fw.moved ?_ hW.alike (h2 q hq)
  have key : ∀ x ∈ ix_fw, x.2.1.cls ≠ "java/lang/invoke/MethodHandle" ∧ x.2.1.cls ≠ "java/lang/invoke/VarHandle" := by decide +kernel
  exact key q hq
abbrev ix_en : List String := ["WAITS", "HELD", "RUNS", "ENDED"]
abbrev ix_eF : List (String × String × String × List Int32) := [("java/lang/Enum", "ordinal", "I", [0, 1, 2, 3])]
def ix_st (η : Nat → Nat) (z0 : Nat) (U : State) (H : Heap) : Prop :=
  va_En "InitiatorRows$State" "LInitiatorRows$State;" ix_en ix_eF η (fun q => z0 ≤ q) U H ∧
  va_Z "java/util/ArrayList" "DEFAULTCAPACITY_EMPTY_ELEMENTDATA" "[Ljava/lang/Object;" (.ref (η 4)) (fun q => z0 ≤ q) U H ∧
  va_T (.object "java/lang/Object") (η 4) 0 (fun _ => .null) (fun q => z0 ≤ q) U H ∧
  va_Zq "java/lang/Throwable" "UNASSIGNED_STACK" "[Ljava/lang/StackTraceElement;" (fun q => z0 ≤ q) U H ∧
  va_Zq "java/lang/Throwable" "SUPPRESSED_SENTINEL" "Ljava/util/List;" (fun q => z0 ≤ q) U H
theorem ix_st.moved {η : Nat → Nat} {z0 : Nat} {u U : State} {H : Heap} (hvm : u.vm.Alike U.vm) (h : ix_st η z0 u H) : ix_st η z0 U H :=
  ⟨va_En.moved hvm h.1, va_Z.moved hvm h.2.1, va_T.moved hvm h.2.2.1, va_Zq.moved hvm h.2.2.2.1, va_Zq.moved hvm h.2.2.2.2⟩
theorem ix_st.kept {η : Nat → Nat} {z0 : Nat} {U : State} {H H1 : Heap} (h : ix_st η z0 U H) (hq : ∀ a : Nat, a < H.size → ¬ z0 ≤ a → H1[a]? = H[a]?) : ix_st η z0 U H1 :=
  ⟨h.1.kept hq, h.2.1.kept hq, h.2.2.1.kept hq, h.2.2.2.1.kept hq, h.2.2.2.2.kept hq⟩
/-- what holds all through a run: G = (D, the array classes, the constants' addresses, the mirror, the law's first address) -/
abbrev ix_G : Type := va_G × (Nat → ClassId) × (Nat → Nat) × Nat × Nat
def ix_C (G : ix_G) (U : State) : Prop := va_K G.1 ix_cl (ix_ty G.2.1) U ∧ ix_nw G.2.2.2.1 U ∧ ix_st G.2.2.1 G.2.2.2.2 U U.heap ∧ G.2.2.2.2 ≤ U.heap.size
abbrev ix_z (G : ix_G) : Nat → Prop := fun q => G.2.2.2.2 ≤ q
theorem ix_C.call {G : ix_G} {s U : State} {A : Nat → Prop} {H : Heap} {locs : List Loc} (h : ix_C G s) (hS : va_S A s.heap H locs) (hA : ∀ q, A q → ix_z G q) (hU : U.heap = H) (hW : s.WarmedH U.vm) : ix_C G U := by
  refine ⟨va_K.moved hW.alike h.1, ix_nw.moved hW h.2.1, ?_, ?_⟩
  · rw [hU]
    exact (ix_st.moved hW.alike h.2.2.1).kept (fun a h1 h2 => hS.2.1 a h1 (fun z => h2 (hA a z)))
  · rw [hU]
    exact Nat.le_trans h.2.2.2 hS.1
theorem ix_C.same {G : ix_G} {s : State} {a : Array Value} {g : JFrame} {mk : MethodId} (h : ix_C G s) : ix_C G (s.calling g mk a) :=
  ⟨va_K.moved (u := s) (U := s.calling g mk a) (Vm.Alike.refl s.vm) h.1, ix_nw.moved (s := s) (U := s.calling g mk a) (State.WarmedH.refl s) h.2.1, ix_st.moved (u := s) (U := s.calling g mk a) (Vm.Alike.refl s.vm) h.2.2.1, h.2.2.2⟩
/-- a contract's start -/
def ix_P (G : ix_G) (β : ix_B) (N : ix_N) (sz : Nat) (av : List Value) : Array Value → State → Prop := va_Pc av (fun U => U.heap.size = sz ∧ ix_C G U ∧ ix_H G.1 (ix_z G) β N U.heap)
theorem ix_P.blind {G : ix_G} {β : ix_B} {N : ix_N} {sz : Nat} {av : List Value} : FrameBlind (ix_P G β N sz av) := fun a U g mk q => by
  obtain ⟨q0, q1, q2, q3⟩ := q
  exact ⟨q0, q1, q2.same, q3⟩
/-- a contract's end: a reader's, and a writer's -/
def ix_R (v : Option Value) : Array Value → State → Outcome → State → Prop := fun _ st oc t => oc = .returned v ∧ t.heap = st.heap
def ix_Q (v : Option Value) (B : Heap → Prop) (A : Nat → Prop) : Array Value → State → Outcome → State → Prop := fun _ st oc t => (oc = .returned v ∧ B t.heap) ∧ va_F A st t
section IXW
variable {p : Program} {l : Launch} {e : Env} {R : Room} {s : State} {m : MethodId} {args : Array Value} {below : List Frame} {meth : Method} {c : Code} {H : Heap} {locs : List Loc} {cells slots : Nat} {Q : State → Prop}
variable {cc : ByteArray} {pc : Nat} {ls : Array Slot} {rest st0 : List Value} {G : ix_G} {A : Nat → Prop} {H0 : Heap} {nL : Nat} {own : String} {β : ix_B} {Nm : ix_N} {a : Nat}
theorem ix_pre {As av : List Value} (hC : ix_C G s) (hS : va_S A s.heap H locs) (hA : ∀ q, A q → ix_z G q) (hH : ix_H G.1 A β Nm H) (hav : As = av) : PreS s H (ix_P G β Nm H.size av) As := by
  subst hav
  exact ⟨ix_P.blind, fun U hU hW => ⟨rfl, by rw [hU], hC.call hS hA hU hW, by rw [hU]; exact hH.weaken hA⟩⟩
theorem ix_recv {k i ci : Nat} {fs : List Value} {q : vw_C} (hC : ix_C G s) (hH : ix_H G.1 A β Nm H) (he : Nm k i = some (.inr (ci, fs))) (hc : ix_cl[ci]? = some q) : ∃ cell : Cell, H[β k i]? = some cell ∧ cell.vm.isStatics = false ∧ s.vm.findClass q.1 = some cell.cls := va_recv (q0 := 0) hC.1 (hH.one he) hc rfl
theorem ix_preV {As av : List Value} {b : Nat} {C : String} (hC : ix_C G s) (hS : va_S A s.heap H locs) (hA : ∀ q, A q → ix_z G q) (hH : ix_H G.1 A β Nm H) (hr : ∃ cell : Cell, H[b]? = some cell ∧ cell.vm.isStatics = false ∧ s.vm.findClass C = some cell.cls) (hav : Value.ref b :: As = av) : PreV s H C b (ix_P G β Nm H.size av) As := by
  subst hav
  exact ⟨ix_P.blind, hr, fun U hU hW => ⟨rfl, by rw [hU], hC.call hS hA hU hW, by rw [hU]; exact hH.weaken hA⟩⟩
/-! calls of readers -/
theorem ix_rd {v : Option Value} {a : Array Value} (hr : CallRun p l e R s m args below meth c H locs cells slots 0 0 (F0 m pc ls st0) rest (ix_R v a) (fun _ => False)) (kk : W p l e R s m args below meth c H locs cells slots Q (F0 m (pc + 3) ls (v.toList ++ rest))) : W p l e R s m args below meth c H locs cells slots Q (F0 m pc ls st0) := by
  intro T hT X
  obtain ⟨v', st₀, t, T', L, h0, X', hL, e1, ⟨hv, hh⟩, st⟩ := hr T hT X
  cases hv
  obtain ⟨t2, a1, b1⟩ := kk T' (by rw [e1, hh, h0]) (Stand.forget X' (fun q h => (hL q h).elim))
  exact ⟨t2, st t2 a1, b1⟩
theorem ix_rd3 {v : Option Value} {a : Array Value} (hr : va_Run p l e R s m args below meth c H locs cells slots 0 0 (F0 m pc ls st0) rest (ix_R v a) (fun _ => False)) (kk : W p l e R s m args below meth c H locs cells slots Q (F0 m (pc + 3) ls (v.toList ++ rest))) : W p l e R s m args below meth c H locs cells slots Q (F0 m pc ls st0) := by
  intro T hT X
  obtain ⟨v', st₀, t, T', L, h0, X', hL, e1, -, ⟨hv, hh⟩, st⟩ := hr T hT X
  cases hv
  obtain ⟨t2, a1, b1⟩ := kk T' (by rw [e1, hh, h0]) (Stand.forget X' (fun q h => (hL q h).elim))
  exact ⟨t2, st t2 a1, b1⟩
theorem ix_rd5 {v : Option Value} {a : Array Value} (hr : va_Run5 p l e R s m args below meth c H locs cells slots 0 0 (F0 m pc ls st0) rest (ix_R v a) (fun _ => False)) (kk : W p l e R s m args below meth c H locs cells slots Q (F0 m (pc + 5) ls (v.toList ++ rest))) : W p l e R s m args below meth c H locs cells slots Q (F0 m pc ls st0) := by
  intro T hT X
  obtain ⟨v', st₀, t, T', L, h0, X', hL, e1, -, ⟨hv, hh⟩, st⟩ := hr T hT X
  cases hv
  obtain ⟨t2, a1, b1⟩ := kk T' (by rw [e1, hh, h0]) (Stand.forget X' (fun q h => (hL q h).elim))
  exact ⟨t2, st t2 a1, b1⟩
/-! calls of writers: the frame, and what the callee says of the heap -/
theorem ix_wr3 {v : Option Value} {B : Heap → Prop} {A1 : Nat → Prop} {mc ms : Nat} {a : Array Value} {free : Addr → Prop} (hr : va_Run p l e R s m args below meth c H locs cells slots mc ms (F0 m pc ls st0) rest (ix_Q v B A1 a) free) (hS : va_S A H0 H locs) (hA : ∀ q, A1 q → A q) (hf : ∀ q, free q → A q)
    (kk : ∀ (H1 : Heap) (locs1 : List Loc), B H1 → H.size ≤ H1.size → (∀ q : Nat, q < H.size → ¬ A1 q → H1[q]? = H[q]?) → va_S A H0 H1 locs1 → W p l e R s m args below meth c H1 locs1 (cells + mc) (slots + ms) Q (F0 m (pc + 3) ls (v.toList ++ rest))) : W p l e R s m args below meth c H locs cells slots Q (F0 m pc ls st0) := by
  intro T hT X
  obtain ⟨v', st₀, t, T', L, h0, X', hL, e1, e2, ⟨⟨hv, hb⟩, hz, hk⟩, st⟩ := hr T hT X
  cases hv
  rw [h0] at hz hk
  obtain ⟨t2, a1, b1⟩ := kk T'.heap (locs ++ L) (by rw [e1]; exact hb) (by rw [e1]; exact hz) (fun q h1 h2 => by rw [e1]; exact hk q h1 h2)
    ⟨Nat.le_trans hS.1 (by rw [e1]; exact hz), fun q h1 h2 => by rw [e1, hk q (Nat.lt_of_lt_of_le h1 hS.1) (fun z => h2 (hA q z))]; exact hS.2.1 q h1 h2, fun q hq => by
      rcases List.mem_append.mp hq with h | h
      · exact hS.2.2 q h
      · exact hf _ (hL q h)⟩ T' rfl X'
  exact ⟨t2, st t2 a1, b1⟩
theorem ix_wr5 {v : Option Value} {B : Heap → Prop} {A1 : Nat → Prop} {mc ms : Nat} {a : Array Value} {free : Addr → Prop} (hr : va_Run5 p l e R s m args below meth c H locs cells slots mc ms (F0 m pc ls st0) rest (ix_Q v B A1 a) free) (hS : va_S A H0 H locs) (hA : ∀ q, A1 q → A q) (hf : ∀ q, free q → A q)
    (kk : ∀ (H1 : Heap) (locs1 : List Loc), B H1 → H.size ≤ H1.size → (∀ q : Nat, q < H.size → ¬ A1 q → H1[q]? = H[q]?) → va_S A H0 H1 locs1 → W p l e R s m args below meth c H1 locs1 (cells + mc) (slots + ms) Q (F0 m (pc + 5) ls (v.toList ++ rest))) : W p l e R s m args below meth c H locs cells slots Q (F0 m pc ls st0) := by
  intro T hT X
  obtain ⟨v', st₀, t, T', L, h0, X', hL, e1, e2, ⟨⟨hv, hb⟩, hz, hk⟩, st⟩ := hr T hT X
  cases hv
  rw [h0] at hz hk
  obtain ⟨t2, a1, b1⟩ := kk T'.heap (locs ++ L) (by rw [e1]; exact hb) (by rw [e1]; exact hz) (fun q h1 h2 => by rw [e1]; exact hk q h1 h2)
    ⟨Nat.le_trans hS.1 (by rw [e1]; exact hz), fun q h1 h2 => by rw [e1, hk q (Nat.lt_of_lt_of_le h1 hS.1) (fun z => h2 (hA q z))]; exact hS.2.1 q h1 h2, fun q hq => by
      rcases List.mem_append.mp hq with h | h
      · exact hS.2.2 q h
      · exact hf _ (hL q h)⟩ T' rfl X'
  exact ⟨t2, st t2 a1, b1⟩
/-! a value under another name -/
theorem ix_reI {x y : Int32} (h : x = y) (kk : W p l e R s m args below meth c H locs cells slots Q (F0 m pc ls (.int y :: rest))) : W p l e R s m args below meth c H locs cells slots Q (F0 m pc ls (.int x :: rest)) := by rw [h]; exact kk
theorem ix_reL {x y : Int64} (h : x = y) (kk : W p l e R s m args below meth c H locs cells slots Q (F0 m pc ls (.long y :: rest))) : W p l e R s m args below meth c H locs cells slots Q (F0 m pc ls (.long x :: rest)) := by rw [h]; exact kk
theorem ix_reV {x y : Value} (h : x = y) (kk : W p l e R s m args below meth c H locs cells slots Q (F0 m pc ls (y :: rest))) : W p l e R s m args below meth c H locs cells slots Q (F0 m pc ls (x :: rest)) := by rw [h]; exact kk
/-! a reference that may be null, in a local -/
theorem ix_aload_nQ (hexec : p.tables.exec = Jvm.exec) (hb : c.code = cc) {k : Fin 4} {i : Nat} {r : Option Nat} (hdg : decode cc pc = .ok (.aload_n k, 1)) (hi : (k : Nat) = i) (hl : ls[i]? = some (.val (va_rf r)))
    (kk : W p l e R s m args below meth c H locs cells slots Q (F0 m (pc + 1) ls (va_rf r :: rest))) : W p l e R s m args below meth c H locs cells slots Q (F0 m pc ls rest) := by
  cases r with
  | none => exact lv_aload_nN hexec hb hdg hi hl kk
  | some a => exact lv_aload_n hexec hb hdg hi hl kk
theorem ix_aloadQ (hexec : p.tables.exec = Jvm.exec) (hb : c.code = cc) {i : Nat} {r : Option Nat} (hdg : decode cc pc = .ok (.aload i, 2)) (hl : ls[i]? = some (.val (va_rf r)))
    (kk : W p l e R s m args below meth c H locs cells slots Q (F0 m (pc + 2) ls (va_rf r :: rest))) : W p l e R s m args below meth c H locs cells slots Q (F0 m pc ls rest) := by
  cases r with
  | none => exact lv_aloadN hexec hb hdg hl kk
  | some a => exact lv_aload hexec hb hdg hl kk
theorem ix_astore_nQ (hexec : p.tables.exec = Jvm.exec) (hb : c.code = cc) {k : Fin 4} {i nL : Nat} {r : Option Nat} {lv lv' : List (Nat × Value)} (hdg : decode cc pc = .ok (.astore_n k, 1)) (hi : (k : Nat) = i) (h : lv_has ls nL lv) (hn : i < nL) (hl : (i, va_rf r) :: lv.filter (fun q => !(q.1 == i) && !(q.1 + 1 == i && q.2.category == 2)) = lv')
    (kk : ∀ ls' : Array Slot, lv_has ls' nL lv' → W p l e R s m args below meth c H locs cells slots Q (F0 m (pc + 1) ls' rest)) : W p l e R s m args below meth c H locs cells slots Q (F0 m pc ls (va_rf r :: rest)) := by
  cases r with
  | none => exact lv_astore_nN hexec hb hdg hi h hn hl kk
  | some a => exact lv_astore_n hexec hb hdg hi h hn hl kk
theorem ix_astoreQ (hexec : p.tables.exec = Jvm.exec) (hb : c.code = cc) {i nL : Nat} {r : Option Nat} {lv lv' : List (Nat × Value)} (hdg : decode cc pc = .ok (.astore i, 2)) (h : lv_has ls nL lv) (hn : i < nL) (hl : (i, va_rf r) :: lv.filter (fun q => !(q.1 == i) && !(q.1 + 1 == i && q.2.category == 2)) = lv')
    (kk : ∀ ls' : Array Slot, lv_has ls' nL lv' → W p l e R s m args below meth c H locs cells slots Q (F0 m (pc + 2) ls' rest)) : W p l e R s m args below meth c H locs cells slots Q (F0 m pc ls (va_rf r :: rest)) := by
  cases r with
  | none => exact lv_astoreN hexec hb hdg h hn hl kk
  | some a => exact lv_astore hexec hb hdg h hn hl kk
/-! fields -/
theorem ix_get (S : CallFix p m c cc nL s args lw_all own) (hC : ix_C G s) (hH : ix_H G.1 A β Nm H) {ref C : String} {T : u_T} {N ci index k i : Nat} {fs : List Value} {v : Value} (he : Nm k i = some (.inr (ci, fs))) (ha : a = β k i) (hc : ix_cl[ci]? = some (C, T, N)) (hin : ∀ w ∈ u_ws C T N, w ∈ lw_all) (f : Nat) (hf : f < N) (hl : Cond.fieldLink own index ref (T f).2.1 (T f).2.2.1 ∈ lw_all) (hsame : ∀ x, s.fieldFound? (T f).1 (T f).2.1 (T f).2.2.1 = some x → s.fieldFound? ref (T f).2.1 (T f).2.2.1 = some x) (hv : fs[f]? = some v) (hdg : decode cc pc = .ok (.getfield index, 3))
    (kk : W p l e R s m args below meth c H locs cells slots Q (F0 m (pc + 3) ls (v :: rest))) : W p l e R s m args below meth c H locs cells slots Q (F0 m pc ls (.ref a :: rest)) := by
  subst ha
  exact va_get S.1 S.2.1 S.2.2.2.2 hin S.2.2.2.1 hC.1 (hH.one he) 0 rfl hc f hf (S.2.2.2.2 _ hl) hsame hv hdg kk
theorem ix_getN (S : CallFix p m c cc nL s args lw_all own) (hC : ix_C G s) (hH : ix_H G.1 A β Nm H) {ref C host : String} {T : u_T} {N ci index k i : Nat} {fs : List Value} {v : Value} (he : Nm k i = some (.inr (ci, fs))) (ha : a = β k i) (hc : ix_cl[ci]? = some (C, T, N)) (hin : ∀ w ∈ u_ws C T N, w ∈ lw_all) (f : Nat) (hf : f < N) (hl : Cond.fieldLinkNest own index ref (T f).2.1 (T f).2.2.1 host ∈ lw_tbl) (hsame : ∀ x, s.fieldFound? (T f).1 (T f).2.1 (T f).2.2.1 = some x → s.fieldFound? ref (T f).2.1 (T f).2.2.1 = some x) (hv : fs[f]? = some v) (hdg : decode cc pc = .ok (.getfield index, 3))
    (kk : W p l e R s m args below meth c H locs cells slots Q (F0 m (pc + 3) ls (v :: rest))) : W p l e R s m args below meth c H locs cells slots Q (F0 m pc ls (.ref a :: rest)) := by
  subst ha
  exact va_getN S.1 S.2.1 S.2.2.2.2 hin S.2.2.2.1 hC.1 (hH.one he) 0 rfl hc f hf (va_Nw.use rfl (hC.2.1.1 _ (ix_nm hl rfl))) hsame hv hdg kk
theorem ix_put (S : CallFix p m c cc nL s args lw_all own) (hC : ix_C G s) (hH : ix_H G.1 A β Nm H) (hS0 : va_S A H0 H locs) {ref C : String} {T : u_T} {N ci index k i : Nat} {fs : List Value} {v : Value} (he : Nm k i = some (.inr (ci, fs))) (ha : a = β k i) (hc : ix_cl[ci]? = some (C, T, N)) (hin : ∀ w ∈ u_ws C T N, w ∈ lw_all) (ty0 : Nat → FieldType) (hty : ∀ k, k < N → parseFieldDescriptor (T k).2.2.1 = some (ty0 k)) (hnm : ∀ a, a < N → ∀ b, b < N → a ≠ b → (T a).2.1 ≠ (T b).2.1) (f : Nat) (hf : f < N) (hl : Cond.fieldLink own index ref (T f).2.1 (T f).2.2.1 ∈ lw_all) (hsame : ∀ x, s.fieldFound? (T f).1 (T f).2.1 (T f).2.2.1 = some x → s.fieldFound? ref (T f).2.1 (T f).2.2.1 = some x) (hfin : (T f).2.2.2 = false) (hn : narrow (ty0 f) v = v) (hfit : fits (ty0 f) v = true) (hlen : f < fs.length) (hdg : decode cc pc = .ok (.putfield index, 3))
    (kk : ∀ (H1 : Heap) (locs1 : List Loc), ix_H G.1 A β (ix_u Nm k i (some (.inr (ci, fs.set f v)))) H1 → va_S A H0 H1 locs1 → H1.size = H.size → W p l e R s m args below meth c H1 locs1 cells slots Q (F0 m (pc + 3) ls rest)) : W p l e R s m args below meth c H locs cells slots Q (F0 m pc ls (v :: .ref a :: rest)) := by
  subst ha
  have hts := S.2.2.2.2
  have hap := va_apart (own := own) hts hin ty0 hty hnm hC.1 hc
  obtain ⟨r, h1, cell, q1, q2, q3, q4⟩ := (hH.1 _ _ _ he).1
  have hr : r = (C, T, N) := Option.some.inj (h1.symm.trans hc)
  subst hr
  obtain ⟨hSl, hfc, kC, hkC, hkind⟩ := hC.1.1 ci _ hc
  obtain ⟨cf, kf, fi, fd, hi, hsl⟩ := hSl f hf
  have hlay := hts _ (hin _ (u_in_lay hf))
  unfold u_lay at hlay
  rw [if_neg (by rw [hfin]; decide)] at hlay
  have hst := (u_facts hfc hkC (u_lays hts hin hf) hi).1
  have h6 := u_store hfc hkC hkind hlay hi (hty f hf) hn hfit
  refine W.putK S.1 S.2.1 (f := fd) ⟨S.2.2.2.1, hts _ hl, ⟨_, _, _, hsame _ hi⟩, hst⟩ (by rw [q2]; exact h6) q1 q3 (by rw [hsl]; exact k2_hasslot (q4 f hf)) rfl rfl hdg fun H' e1 e2 e3 => ?_
  rw [hsl] at e1 ⊢
  exact kk H' _ (hH.set he ⟨_, hc, t_OB.to (V := updV (vp_V fs) f v) ⟨_, e1, q2, q3, t_set q4 hap hf v⟩ (fun j _ => vp_updV_set hlen v j)⟩ e3) (hS0.put e2 e3 (hH.1 _ _ _ he).2) e2
theorem ix_putN (S : CallFix p m c cc nL s args lw_all own) (hC : ix_C G s) (hH : ix_H G.1 A β Nm H) (hS0 : va_S A H0 H locs) {ref C host : String} {T : u_T} {N ci index k i : Nat} {fs : List Value} {v : Value} (he : Nm k i = some (.inr (ci, fs))) (ha : a = β k i) (hc : ix_cl[ci]? = some (C, T, N)) (hin : ∀ w ∈ u_ws C T N, w ∈ lw_all) (ty0 : Nat → FieldType) (hty : ∀ k, k < N → parseFieldDescriptor (T k).2.2.1 = some (ty0 k)) (hnm : ∀ a, a < N → ∀ b, b < N → a ≠ b → (T a).2.1 ≠ (T b).2.1) (f : Nat) (hf : f < N) (hl : Cond.fieldLinkNest own index ref (T f).2.1 (T f).2.2.1 host ∈ lw_tbl) (hsame : ∀ x, s.fieldFound? (T f).1 (T f).2.1 (T f).2.2.1 = some x → s.fieldFound? ref (T f).2.1 (T f).2.2.1 = some x) (hfin : (T f).2.2.2 = false) (hn : narrow (ty0 f) v = v) (hfit : fits (ty0 f) v = true) (hlen : f < fs.length) (hdg : decode cc pc = .ok (.putfield index, 3))
    (kk : ∀ (H1 : Heap) (locs1 : List Loc), ix_H G.1 A β (ix_u Nm k i (some (.inr (ci, fs.set f v)))) H1 → va_S A H0 H1 locs1 → H1.size = H.size → W p l e R s m args below meth c H1 locs1 cells slots Q (F0 m (pc + 3) ls rest)) : W p l e R s m args below meth c H locs cells slots Q (F0 m pc ls (v :: .ref a :: rest)) := by
  subst ha
  have hts := S.2.2.2.2
  have hap := va_apart (own := own) hts hin ty0 hty hnm hC.1 hc
  obtain ⟨r, h1, cell, q1, q2, q3, q4⟩ := (hH.1 _ _ _ he).1
  have hr : r = (C, T, N) := Option.some.inj (h1.symm.trans hc)
  subst hr
  obtain ⟨hSl, hfc, kC, hkC, hkind⟩ := hC.1.1 ci _ hc
  obtain ⟨cf, kf, fi, fd, hi, hsl⟩ := hSl f hf
  have hlay := hts _ (hin _ (u_in_lay hf))
  unfold u_lay at hlay
  rw [if_neg (by rw [hfin]; decide)] at hlay
  have hst := (u_facts hfc hkC (u_lays hts hin hf) hi).1
  have h6 := u_store hfc hkC hkind hlay hi (hty f hf) hn hfit
  refine va_WputK S.1 S.2.1 (f := fd) S.2.2.2.1 (va_Nw.use rfl (hC.2.1.1 _ (ix_nm hl rfl))) (hsame _ hi) hst (by rw [q2]; exact h6) q1 q3 (by rw [hsl]; exact k2_hasslot (q4 f hf)) rfl rfl hdg fun H' e1 e2 e3 => ?_
  rw [hsl] at e1 ⊢
  exact kk H' _ (hH.set he ⟨_, hc, t_OB.to (V := updV (vp_V fs) f v) ⟨_, e1, q2, q3, t_set q4 hap hf v⟩ (fun j _ => vp_updV_set hlen v j)⟩ e3) (hS0.put e2 e3 (hH.1 _ _ _ he).2) e2
theorem ix_putF (S : CallFix p m c cc nL s args lw_all own) (hC : ix_C G s) (hH : ix_H G.1 A β Nm H) (hS0 : va_S A H0 H locs) {ref C : String} {T : u_T} {N ci index k i : Nat} {fs : List Value} {v : Value} (he : Nm k i = some (.inr (ci, fs))) (ha : a = β k i) (hc : ix_cl[ci]? = some (C, T, N)) (hin : ∀ w ∈ u_ws C T N, w ∈ lw_all) (ty0 : Nat → FieldType) (hty : ∀ k, k < N → parseFieldDescriptor (T k).2.2.1 = some (ty0 k)) (hnm : ∀ a, a < N → ∀ b, b < N → a ≠ b → (T a).2.1 ≠ (T b).2.1) (f : Nat) (hf : f < N) (hl : Cond.fieldLink own index ref (T f).2.1 (T f).2.2.1 ∈ lw_all) (hsame : ∀ x, s.fieldFound? (T f).1 (T f).2.1 (T f).2.2.1 = some x → s.fieldFound? ref (T f).2.1 (T f).2.2.1 = some x) (hfin : (T f).2.2.2 = true) (hin2 : meth.name = "<init>") (hdecl : (T f).1 = own) (hn : narrow (ty0 f) v = v) (hfit : fits (ty0 f) v = true) (hlen : f < fs.length) (hdg : decode cc pc = .ok (.putfield index, 3))
    (kk : ∀ (H1 : Heap) (locs1 : List Loc), ix_H G.1 A β (ix_u Nm k i (some (.inr (ci, fs.set f v)))) H1 → va_S A H0 H1 locs1 → H1.size = H.size → W p l e R s m args below meth c H1 locs1 cells slots Q (F0 m (pc + 3) ls rest)) : W p l e R s m args below meth c H locs cells slots Q (F0 m pc ls (v :: .ref a :: rest)) := by
  subst ha
  have hts := S.2.2.2.2
  have hown := S.2.2.2.1
  have hap := va_apart (own := own) hts hin ty0 hty hnm hC.1 hc
  obtain ⟨r, h1, cell, q1, q2, q3, q4⟩ := (hH.1 _ _ _ he).1
  have hr : r = (C, T, N) := Option.some.inj (h1.symm.trans hc)
  subst hr
  obtain ⟨hSl, hfc, kC, hkC, hkind⟩ := hC.1.1 ci _ hc
  obtain ⟨cf, kf, fi, fd, hi, hsl⟩ := hSl f hf
  have hlay := hts _ (hin _ (u_in_lay hf))
  unfold u_lay at hlay
  rw [if_pos hfin] at hlay
  have hst := (u_facts hfc hkC (u_lays hts hin hf) hi).1
  have hcf : m.cls = cf := by
    obtain ⟨_, _, c', _, _, _, -, -, hf', -, -, -, hown2, -⟩ := Cond.laysFinal_spec hlay
    have e1 : c' = cf := by have := hi.symm.trans hf'; simp at this; exact this.1.symm
    rw [hdecl] at hown2
    rw [← e1]; exact Option.some.inj (hown.symm.trans hown2)
  have h6 := u_fits hfc hkC hkind (Or.inr hlay) hi (hty f hf) hn hfit
  refine W.putFinK S.1 S.2.1 hown (hts _ hl) (hsame _ hi) hst hcf hin2 (by rw [q2]; exact h6) q1 q3 (by rw [hsl]; exact k2_hasslot (q4 f hf)) rfl rfl hdg fun H' e1 e2 e3 => ?_
  rw [hsl] at e1 ⊢
  exact kk H' _ (hH.set he ⟨_, hc, t_OB.to (V := updV (vp_V fs) f v) ⟨_, e1, q2, q3, t_set q4 hap hf v⟩ (fun j _ => vp_updV_set hlen v j)⟩ e3) (hS0.put e2 e3 (hH.1 _ _ _ he).2) e2
/-! arrays -/
theorem ix_iald (S : CallFix p m c cc nL s args lw_all own) (hC : ix_C G s) (hH : ix_H G.1 A β Nm H) {k i n j : Nat} {f : Nat → Int32} {x : Int32} (he : Nm k i = some (.inl (G.2.1 0, n, .inl f))) (ha : a = β k i) (hx : x = nI j) (hj : j < n) (hn : n < 2 ^ 31) (hdg : decode cc pc = .ok (.iaload, 1))
    (kk : W p l e R s m args below meth c H locs cells slots Q (F0 m (pc + 1) ls (.int (f j) :: rest))) : W p l e R s m args below meth c H locs cells slots Q (F0 m pc ls (.int x :: .ref a :: rest)) := by
  subst ha hx
  refine va_iald S.1 S.2.1 hC.1 (hH.one he) 0 0 rfl rfl (vp_in_nI hj hn) hdg ?_
  rw [nI_clamp (by omega)]
  exact kk
theorem ix_zald (S : CallFix p m c cc nL s args lw_all own) (hC : ix_C G s) (hH : ix_H G.1 A β Nm H) {k i n j : Nat} {f : Nat → Int32} {x : Int32} (he : Nm k i = some (.inl (G.2.1 2, n, .inl f))) (ha : a = β k i) (hx : x = nI j) (hj : j < n) (hn : n < 2 ^ 31) (hdg : decode cc pc = .ok (.baload, 1))
    (kk : W p l e R s m args below meth c H locs cells slots Q (F0 m (pc + 1) ls (.int (f j) :: rest))) : W p l e R s m args below meth c H locs cells slots Q (F0 m pc ls (.int x :: .ref a :: rest)) := by
  subst ha hx
  refine va_zald S.1 S.2.1 hC.1 (hH.one he) 0 2 rfl rfl (vp_in_nI hj hn) hdg ?_
  rw [nI_clamp (by omega)]
  exact kk
theorem ix_lald (S : CallFix p m c cc nL s args lw_all own) (hC : ix_C G s) (hH : ix_H G.1 A β Nm H) {k i n j : Nat} {f : Nat → Int64} {x : Int32} (he : Nm k i = some (.inl (G.2.1 1, n, .inr (.inl f)))) (ha : a = β k i) (hx : x = nI j) (hj : j < n) (hn : n < 2 ^ 31) (hdg : decode cc pc = .ok (.laload, 1))
    (kk : W p l e R s m args below meth c H locs cells slots Q (F0 m (pc + 1) ls (.long (f j) :: rest))) : W p l e R s m args below meth c H locs cells slots Q (F0 m pc ls (.int x :: .ref a :: rest)) := by
  subst ha hx
  refine va_lald S.1 S.2.1 hC.1 (hH.one he) 0 1 rfl rfl (vp_in_nI hj hn) hdg ?_
  rw [nI_clamp (by omega)]
  exact kk
theorem ix_aald (S : CallFix p m c cc nL s args lw_all own) (hC : ix_C G s) (hH : ix_H G.1 A β Nm H) {k i n j t0 : Nat} {C : String} {f : Nat → Option Nat} {r : Option Nat} {x : Int32} (he : Nm k i = some (.inl (G.2.1 t0, n, .inr (.inr (.inr (.inr f)))))) (ht : (ix_ty G.2.1)[t0]? = some (G.2.1 t0, .object C)) (ha : a = β k i) (hx : x = nI j) (hj : j < n) (hn : n < 2 ^ 31) (hf : f j = r) (hdg : decode cc pc = .ok (.aaload, 1))
    (kk : W p l e R s m args below meth c H locs cells slots Q (F0 m (pc + 1) ls (va_rf r :: rest))) : W p l e R s m args below meth c H locs cells slots Q (F0 m pc ls (.int x :: .ref a :: rest)) := by
  subst ha hx hf
  refine va_aldq S.1 S.2.1 hC.1 (hH.one he) 0 t0 rfl ht (vp_in_nI hj hn) hdg ?_
  rw [nI_clamp (by omega)]
  exact kk
theorem ix_alen (S : CallFix p m c cc nL s args lw_all own) (hC : ix_C G s) (hH : ix_H G.1 A β Nm H) {k i t0 : Nat} {x : vp_A} {ty : FieldType} (he : Nm k i = some (.inl (G.2.1 t0, x))) (ht : (ix_ty G.2.1)[t0]? = some (G.2.1 t0, ty)) (ha : a = β k i) (hdg : decode cc pc = .ok (.arraylength, 1))
    (kk : W p l e R s m args below meth c H locs cells slots Q (F0 m (pc + 1) ls (.int (nI x.1) :: rest))) : W p l e R s m args below meth c H locs cells slots Q (F0 m pc ls (.ref a :: rest)) := by
  subst ha
  exact va_alen S.1 S.2.1 hC.1 (hH.one he) 0 t0 rfl ht rfl hdg kk
theorem ix_iast (S : CallFix p m c cc nL s args lw_all own) (hC : ix_C G s) (hH : ix_H G.1 A β Nm H) (hS : va_S A H0 H locs) {k i n j : Nat} {f : Nat → Int32} {x y : Int32} (he : Nm k i = some (.inl (G.2.1 0, n, .inl f))) (ha : a = β k i) (hx : x = nI j) (hj : j < n) (hn : n < 2 ^ 31) (hdg : decode cc pc = .ok (.iastore, 1))
    (kk : ∀ (H1 : Heap) (locs1 : List Loc), ix_H G.1 A β (ix_u Nm k i (some (.inl (G.2.1 0, n, .inl (va_up f j y))))) H1 → va_S A H0 H1 locs1 → H1.size = H.size → W p l e R s m args below meth c H1 locs1 cells slots Q (F0 m (pc + 1) ls rest)) : W p l e R s m args below meth c H locs cells slots Q (F0 m pc ls (.int y :: .int x :: .ref a :: rest)) := by
  subst ha hx
  have hin := vp_in_nI hj hn
  have hcl : (nI j).toNatClampNeg = j := nI_clamp (by omega)
  refine W.iast S.1 S.2.1 (hH.1 _ _ _ he).1 ((hC.1.2 0 _ rfl).1 n (fun j => .int (f j))) (fun q => by cases q) (by show ¬ (nI j < 0 ∨ (arrV _ _ _).slots.size ≤ _); rw [arrV_size]; exact hin) rfl rfl hdg fun H1 e1 z oq => ?_
  refine kk H1 _ (hH.set he ?_ oq) (hS.put z oq (hH.1 _ _ _ he).2) z
  show H1[β k i]? = some (vp_cell _ _)
  rw [e1, vp_cell_i, vp_cell_i, arrV_store, hcl]
  congr 2
  funext q
  by_cases hq : q = j
  · subst hq
    simp [updV, va_up]
  · simp [updV, va_up, hq]
theorem ix_zast (S : CallFix p m c cc nL s args lw_all own) (hC : ix_C G s) (hH : ix_H G.1 A β Nm H) (hS : va_S A H0 H locs) {k i n j : Nat} {f : Nat → Int32} {x y : Int32} (he : Nm k i = some (.inl (G.2.1 2, n, .inl f))) (ha : a = β k i) (hx : x = nI j) (hj : j < n) (hn : n < 2 ^ 31) (hy : narrow .boolean (.int y) = .int y) (hdg : decode cc pc = .ok (.bastore, 1))
    (kk : ∀ (H1 : Heap) (locs1 : List Loc), ix_H G.1 A β (ix_u Nm k i (some (.inl (G.2.1 2, n, .inl (va_up f j y))))) H1 → va_S A H0 H1 locs1 → H1.size = H.size → W p l e R s m args below meth c H1 locs1 cells slots Q (F0 m (pc + 1) ls rest)) : W p l e R s m args below meth c H locs cells slots Q (F0 m pc ls (.int y :: .int x :: .ref a :: rest)) := by
  subst ha hx
  have hin := vp_in_nI hj hn
  have hcl : (nI j).toNatClampNeg = j := nI_clamp (by omega)
  refine W.zast S.1 S.2.1 (hH.1 _ _ _ he).1 ((hC.1.2 2 _ rfl).1 n (fun j => .int (f j))) (fun q => by cases q) (by show ¬ (nI j < 0 ∨ (arrV _ _ _).slots.size ≤ _); rw [arrV_size]; exact hin) rfl rfl hdg fun H1 e1 z oq => ?_
  refine kk H1 _ (hH.set he ?_ oq) (hS.put z oq (hH.1 _ _ _ he).2) z
  show H1[β k i]? = some (vp_cell _ _)
  rw [e1, vp_cell_i, vp_cell_i, arrV_store, hcl, hy]
  congr 2
  funext q
  by_cases hq : q = j
  · subst hq
    simp [updV, va_up]
  · simp [updV, va_up, hq]
theorem ix_last (S : CallFix p m c cc nL s args lw_all own) (hC : ix_C G s) (hH : ix_H G.1 A β Nm H) (hS : va_S A H0 H locs) {k i n j : Nat} {f : Nat → Int64} {x : Int32} {y : Int64} (he : Nm k i = some (.inl (G.2.1 1, n, .inr (.inl f)))) (ha : a = β k i) (hx : x = nI j) (hj : j < n) (hn : n < 2 ^ 31) (hdg : decode cc pc = .ok (.lastore, 1))
    (kk : ∀ (H1 : Heap) (locs1 : List Loc), ix_H G.1 A β (ix_u Nm k i (some (.inl (G.2.1 1, n, .inr (.inl (va_up f j y)))))) H1 → va_S A H0 H1 locs1 → H1.size = H.size → W p l e R s m args below meth c H1 locs1 cells slots Q (F0 m (pc + 1) ls rest)) : W p l e R s m args below meth c H locs cells slots Q (F0 m pc ls (.long y :: .int x :: .ref a :: rest)) := by
  subst ha hx
  have hin := vp_in_nI hj hn
  have hcl : (nI j).toNatClampNeg = j := nI_clamp (by omega)
  refine W.last S.1 S.2.1 (hH.1 _ _ _ he).1 ((hC.1.2 1 _ rfl).1 n (fun j => .long (f j))) (fun q => by cases q) (by show ¬ (nI j < 0 ∨ (arrV _ _ _).slots.size ≤ _); rw [arrV_size]; exact hin) rfl rfl hdg fun H1 e1 z oq => ?_
  refine kk H1 _ (hH.set he ?_ oq) (hS.put z oq (hH.1 _ _ _ he).2) z
  show H1[β k i]? = some (vp_cell _ _)
  rw [e1, vp_cell_l, vp_cell_l, arrV_store, hcl]
  congr 2
  funext q
  by_cases hq : q = j
  · subst hq
    simp [updV, va_up]
  · simp [updV, va_up, hq]
/-- a store of an object that may lie in a row of E -/
theorem ix_aast (S : CallFix p m c cc nL s args lw_all own) (hC : ix_C G s) (hH : ix_H G.1 A β Nm H) (hS : va_S A H0 H locs) {k i n j t0 v : Nat} {E : String} {f : Nat → Option Nat} {x : Int32} (he : Nm k i = some (.inl (G.2.1 t0, n, .inr (.inr (.inr (.inr f)))))) (ht : (ix_ty G.2.1)[t0]? = some (G.2.1 t0, .object E)) (ha : a = β k i) (hr : va_Any E s H v) (hx : x = nI j) (hj : j < n) (hn : n < 2 ^ 31) (hdg : decode cc pc = .ok (.aastore, 1))
    (kk : ∀ (H1 : Heap) (locs1 : List Loc), ix_H G.1 A β (ix_u Nm k i (some (.inl (G.2.1 t0, n, .inr (.inr (.inr (.inr (va_up f j (some v)))))))))  H1 → va_S A H0 H1 locs1 → H1.size = H.size → W p l e R s m args below meth c H1 locs1 cells slots Q (F0 m (pc + 1) ls rest)) : W p l e R s m args below meth c H locs cells slots Q (F0 m pc ls (.ref v :: .int x :: .ref a :: rest)) := by
  subst ha hx
  have hcl : (nI j).toNatClampNeg = j := nI_clamp (by omega)
  obtain ⟨cellV, g1, g3, ⟨kC, hkC⟩, hasg⟩ := hr
  obtain ⟨kA, comp, k1, k2, k3, -⟩ := (hC.1.2 t0 _ ht).2
  obtain ⟨kE, hkE, -⟩ := Vm.findClass_spec k3
  refine W.aast S.1 S.2.1 (hH.1 _ _ _ he).1 (fun q h => by cases h) (fun h => by cases h) k1 k2 rfl hkE ⟨nI_pos (by omega), by show _ < (arrV _ _ _).slots.size; rw [arrV_size, hcl]; exact hj⟩ g1 (fun q h => by rw [h] at g3; cases g3) hkC (hasg _ k3) rfl rfl hdg fun H1 e1 z oq => ?_
  refine kk H1 _ (hH.set he ?_ oq) (hS.put z oq (hH.1 _ _ _ he).2) z
  show H1[β k i]? = some (vp_cell _ _)
  rw [e1, vp_cell_q, vp_cell_q, arrV_store, hcl]
  congr 2
  funext q
  by_cases hq : q = j
  · subst hq
    simp [updV, va_up, va_rf]
  · simp [updV, va_up, hq]
theorem ix_aastN (S : CallFix p m c cc nL s args lw_all own) (hC : ix_C G s) (hH : ix_H G.1 A β Nm H) (hS : va_S A H0 H locs) {k i n j t0 : Nat} {E : String} {f : Nat → Option Nat} {x : Int32} (he : Nm k i = some (.inl (G.2.1 t0, n, .inr (.inr (.inr (.inr f)))))) (ht : (ix_ty G.2.1)[t0]? = some (G.2.1 t0, .object E)) (ha : a = β k i) (hx : x = nI j) (hj : j < n) (hn : n < 2 ^ 31) (hdg : decode cc pc = .ok (.aastore, 1))
    (kk : ∀ (H1 : Heap) (locs1 : List Loc), ix_H G.1 A β (ix_u Nm k i (some (.inl (G.2.1 t0, n, .inr (.inr (.inr (.inr (va_up f j none)))))))) H1 → va_S A H0 H1 locs1 → H1.size = H.size → W p l e R s m args below meth c H1 locs1 cells slots Q (F0 m (pc + 1) ls rest)) : W p l e R s m args below meth c H locs cells slots Q (F0 m pc ls (.null :: .int x :: .ref a :: rest)) := by
  subst ha hx
  have hin := vp_in_nI hj hn
  have hcl : (nI j).toNatClampNeg = j := nI_clamp (by omega)
  refine va_WaastN (C := E) S.1 S.2.1 (hH.1 _ _ _ he).1 ((hC.1.2 t0 _ ht).1 n (fun j => va_rf (f j))) (fun h => by cases h) (by show ¬ (nI j < 0 ∨ (arrV _ _ _).slots.size ≤ _); rw [arrV_size]; exact hin) rfl rfl hdg fun H1 e1 z oq => ?_
  refine kk H1 _ (hH.set he ?_ oq) (hS.put z oq (hH.1 _ _ _ he).2) z
  show H1[β k i]? = some (vp_cell _ _)
  rw [e1, vp_cell_q, vp_cell_q, arrV_store, hcl]
  congr 2
  funext q
  by_cases hq : q = j
  · subst hq
    simp [updV, va_up, va_rf]
  · simp [updV, va_up, hq]
/-! new cells: the role (k, i) is the new cell's -/
theorem ix_new (S : CallFix p m c cc nL s args lw_all own) (hC : ix_C G s) (hH : ix_H G.1 A β Nm H) (hS : va_S A H0 H locs) (hA0 : ∀ q, H0.size ≤ q → A q) (k i : Nat) {C : String} {T : u_T} {N ci index : Nat} (hc : ix_cl[ci]? = some (C, T, N)) (hin : ∀ w ∈ u_ws C T N, w ∈ lw_all) (ty : Nat → FieldType) (hty : ∀ k, k < N → parseFieldDescriptor (T k).2.2.1 = some (ty k)) (hcl : Cond.classLink own index C ∈ lw_all) (hinst : Cond.instantiable C N ∈ lw_all) (hini : Cond.initialized C ∈ lw_all) {fs : List Value} (hfs : ∀ j, j < N → defaultValue (ty j) = vp_V fs j) (hcells : cells + 1 ≤ R.cells) (hslots : slots + N ≤ R.slots) (hdg : decode cc pc = .ok (.new index, 3))
    (kk : ∀ (b : ix_B) (H1 : Heap), (∀ x y, ¬ (x = k ∧ y = i) → b x y = β x y) → b k i = H.size → ix_H G.1 A b (ix_u Nm k i (some (.inr (ci, fs)))) H1 → va_S A H0 H1 locs → H1.size = H.size + 1 → W p l e R s m args below meth c H1 locs (cells + 1) (slots + N) Q (F0 m (pc + 3) ls (.ref (b k i) :: rest))) : W p l e R s m args below meth c H locs cells slots Q (F0 m pc ls rest) := by
  have hKn := hC.1.1 ci _ hc
  have hts := S.2.2.2.2
  refine W.newcK S.1 S.2.1 S.2.2.2.1 (hts _ hcl) (hts _ hinst) (hts _ hini) rfl hdg hcells hslots hKn.2.1 rfl fun H1 kC hkC e1 z1 o1 => ?_
  have h2 := kk (ix_u β k i H.size) H1 (fun x y h => ix_un h) ix_us (hH.new k i o1 ⟨_, hc, (u_born ty hts hin hKn hkC e1 hty).to hfs⟩ (hA0 _ hS.1)) (ix_S.new hS z1 o1) z1
  rw [ix_us] at h2
  exact h2
theorem ix_newa (S : CallFix p m c cc nL s args lw_all own) (hC : ix_C G s) (hH : ix_H G.1 A β Nm H) (hS : va_S A H0 H locs) (hA0 : ∀ q, H0.size ≤ q → A q) (k i : Nat) {atype : ArrayType} (t0 : Nat) (hw : Cond.arrayClass (newarray.typeOf atype) ∈ lw_all) (ht : (ix_ty G.2.1)[t0]? = some (G.2.1 t0, newarray.typeOf atype)) {a0 : vp_A} {x : Int32} {j : Nat} (ha0 : ∀ cA : ClassId, vp_cell cA a0 = arrV cA j (fun _ => defaultValue (newarray.typeOf atype))) (hx : x = nI j) (hj : j ≤ 65536) (hcells : cells + 1 ≤ R.cells) (hslots : slots + j ≤ R.slots) (hdg : decode cc pc = .ok (.newarray atype, 2))
    (kk : ∀ (b : ix_B) (H1 : Heap), (∀ x y, ¬ (x = k ∧ y = i) → b x y = β x y) → b k i = H.size → ix_H G.1 A b (ix_u Nm k i (some (.inl (G.2.1 t0, a0)))) H1 → va_S A H0 H1 locs → H1.size = H.size + 1 → W p l e R s m args below meth c H1 locs (cells + 1) (slots + j) Q (F0 m (pc + 2) ls (.ref (b k i) :: rest))) : W p l e R s m args below meth c H locs cells slots Q (F0 m pc ls (.int x :: rest)) := by
  subst hx
  have hcl : (nI j).toNatClampNeg = j := nI_clamp (by omega)
  refine va_newaK S.1 S.2.1 (S.2.2.2.2 _ hw) rfl hdg rfl (nI_pos (by omega)) hcl (by cases atype <;> simp [componentBytes, newarray.typeOf] <;> omega) hcells hslots rfl fun H1 cA e1 z1 o1 hAr hNm => ?_
  have hcA : cA = G.2.1 t0 := by
    have h3 := (hC.1.2 t0 _ ht).2
    have h4 : s.vm.findClass ("[" ++ (newarray.typeOf atype).toString) = some (G.2.1 t0) := by cases atype <;> exact h3
    exact Option.some.inj (hNm.symm.trans h4)
  subst hcA
  have h2 := kk (ix_u β k i H.size) H1 (fun x y h => ix_un h) ix_us (hH.new k i o1 (show H1[H.size]? = some (vp_cell _ _) by rw [ha0]; exact e1) (hA0 _ hS.1)) (ix_S.new hS z1 o1) z1
  rw [ix_us] at h2
  exact h2
theorem ix_newq (S : CallFix p m c cc nL s args lw_all own) (hC : ix_C G s) (hH : ix_H G.1 A β Nm H) (hS : va_S A H0 H locs) (hA0 : ∀ q, H0.size ≤ q → A q) (k i : Nat) {C : String} {index : Nat} (t0 : Nat) (hcl : Cond.classLink own index C ∈ lw_all) (hO : va_AO C s) (ht : (ix_ty G.2.1)[t0]? = some (G.2.1 t0, .object C)) {x : Int32} {j : Nat} (hx : x = nI j) (hj : j ≤ 65536) (hcells : cells + 1 ≤ R.cells) (hslots : slots + j ≤ R.slots) (hdg : decode cc pc = .ok (.anewarray index, 3))
    (kk : ∀ (b : ix_B) (H1 : Heap), (∀ x y, ¬ (x = k ∧ y = i) → b x y = β x y) → b k i = H.size → ix_H G.1 A b (ix_u Nm k i (some (.inl (G.2.1 t0, j, .inr (.inr (.inr (.inr (fun _ => none)))))))) H1 → va_S A H0 H1 locs → H1.size = H.size + 1 → W p l e R s m args below meth c H1 locs (cells + 1) (slots + j) Q (F0 m (pc + 3) ls (.ref (b k i) :: rest))) : W p l e R s m args below meth c H locs cells slots Q (F0 m pc ls (.int x :: rest)) := by
  subst hx
  have hc1 : (nI j).toNatClampNeg = j := nI_clamp (by omega)
  refine W.anew S.1 S.2.1 S.2.2.2.1 (S.2.2.2.2 _ hcl) (va_AO.use hO) rfl hdg rfl (nI_pos (by omega)) (by rw [hc1]; omega) hcells (by rw [hc1]; exact hslots) fun cA kA comp f1 f2 f3 f4 => ?_
  rw [hc1]
  generalize hH1 : H.push ({ cls := cA, slots := Array.replicate j .null, vm := .none } : Cell) = H1
  have z1 : H1.size = H.size + 1 := by rw [← hH1, Array.size_push]
  have e1 : H1[H.size]? = some (arrV cA j (fun _ => .null)) := by rw [← hH1, Array.getElem?_push_size, ← arrV_new]
  have o1 : ∀ q : Nat, q < H.size → H1[q]? = H[q]? := fun q hq => by rw [← hH1, Array.getElem?_push, if_neg (Nat.ne_of_lt hq)]
  have hcA : cA = G.2.1 t0 := by
    obtain ⟨-, -, -, -, -, h4⟩ := (hC.1.2 t0 _ ht).2
    exact Option.some.inj (f1.symm.trans h4)
  subst hcA
  have h2 := kk (ix_u β k i H.size) H1 (fun x y h => ix_un h) ix_us (hH.new k i o1 (show H1[H.size]? = some (vp_cell _ _) by rw [vp_cell_q]; exact e1) (hA0 _ hS.1)) (ix_S.new hS z1 o1) z1
  rw [ix_us] at h2
  exact h2
end IXW
/-! a contract's proof: a reader's, and a writer's -/
theorem ix_reader {l : Launch} {y : MethodName} {cc : ByteArray} {nL : Nat} {ret : Option FieldType} {rm : Room} {G : ix_G} {β : ix_B} {N : ix_N} {sz : Nat} {av : List Value} {v : Option Value} (hy : plainName y.cls = true) (hlen : (lg_sl av).length ≤ nL)
    (body : ∀ (p : Program) (e : Env) (s : State) (m : MethodId) (below : List Frame) (meth : Method) (c : Code), CallFix p m c cc nL s av.toArray lw_all y.cls → meth.sig.returnType = ret → meth.locks = false → ix_C G s → ix_H G.1 (ix_z G) β N s.heap → va_S (ix_z G) s.heap s.heap [] → ∀ ls, lv_has ls nL (lv_args 0 av) →
      W p l e rm s m av.toArray below meth c s.heap [] 0 0 (MQ below (ix_R v) av.toArray s 0 0 (fun _ => False)) (F0 m 0 ls [])) : Met l y (ws_ y cc nL ret) rm (ix_P G β N sz av) (ix_R v) 0 0 (fun _ => False) := by
  refine Met.ofW (cc := cc) (maxL := nL) (ret := ret) hy rfl ?_
  intro p e s m args below meth c s₁ B hml hv
  obtain ⟨rfl, hsz, hC, hH⟩ := hv
  have hts := atoms_spec (ws := ws_ y cc nL ret) B.pre
  have hts : ∀ w ∈ lw_all, w.before _ s = true := fun w h => hts w (List.mem_cons_of_mem _ h)
  rw [lg_entry_eq]
  exact body p e s m below meth c ⟨B.exec, B.bytes, hml, findClass_of_methodNamed B.named, hts⟩ B.returns B.notSynchronized hC hH va_S.rf _ (lv_entry av hlen)
theorem ix_writer {l : Launch} {y : MethodName} {cc : ByteArray} {nL mc ms : Nat} {ret : Option FieldType} {rm : Room} {G : ix_G} {β : ix_B} {N : ix_N} {sz : Nat} {av : List Value} {v : Option Value} {B : Heap → Prop} (hy : plainName y.cls = true) (hlen : (lg_sl av).length ≤ nL)
    (body : ∀ (p : Program) (e : Env) (s : State) (m : MethodId) (below : List Frame) (meth : Method) (c : Code) (A : Nat → Prop), CallFix p m c cc nL s av.toArray lw_all y.cls → meth.sig.returnType = ret → meth.locks = false → meth.name = y.name → ix_C G s → s.heap.size = sz → ix_H G.1 A β N s.heap → va_S A s.heap s.heap [] → (∀ q, s.heap.size ≤ q → A q) → (∀ q, A q → ix_z G q) → A = ix_A β N sz → ∀ ls, lv_has ls nL (lv_args 0 av) →
      W p l e rm s m av.toArray below meth c s.heap [] 0 0 (MQ below (ix_Q v B A) av.toArray s mc ms A) (F0 m 0 ls [])) : Met l y (ws_ y cc nL ret) rm (ix_P G β N sz av) (ix_Q v B (ix_A β N sz)) mc ms (ix_A β N sz) := by
  refine Met.ofW (cc := cc) (maxL := nL) (ret := ret) hy rfl ?_
  intro p e s m args below meth c s₁ Bd hml hv
  obtain ⟨rfl, hsz, hC, hH⟩ := hv
  have hts := atoms_spec (ws := ws_ y cc nL ret) Bd.pre
  have hts : ∀ w ∈ lw_all, w.before _ s = true := fun w h => hts w (List.mem_cons_of_mem _ h)
  rw [lg_entry_eq]
  refine body p e s m below meth c (ix_A β N sz) ⟨Bd.exec, Bd.bytes, hml, findClass_of_methodNamed Bd.named, hts⟩ Bd.returns Bd.notSynchronized (name_of_methodNamed Bd.named Bd.method).1 hC hsz (hH.self sz) va_S.rf (fun q h => Or.inr (by rw [← hsz]; exact h)) (fun q h => ?_) rfl _ (lv_entry av hlen)
  rcases h with ⟨k, i, e, he, rfl⟩ | h
  · exact (hH.1 k i e he).2
  · exact Nat.le_trans hC.2.2.2 (by rw [hsz]; exact h)
/-! ends -/
def ix_b (b : Bool) : Int32 := if b then 1 else 0
theorem ix_b_eq {b : Bool} : ix_b b = 0 ↔ b = false := by cases b <;> decide
theorem ix_b_ne {b : Bool} : ¬ ix_b b = 0 ↔ b = true := by cases b <;> decide
theorem ix_b_z (b : Bool) : narrow .boolean (.int (ix_b b)) = .int (ix_b b) := by cases b <;> rfl
theorem ix_b_f (b : Bool) : fits .boolean (.int (ix_b b)) = true := by cases b <;> rfl
section IXE
variable {p : Program} {l : Launch} {e : Env} {R : Room} {s : State} {m : MethodId} {args : Array Value} {below : List Frame} {meth : Method} {c : Code} {H : Heap} {locs : List Loc} {cells slots : Nat}
variable {cc : ByteArray} {pc : Nat} {ls : Array Slot} {nL : Nat} {own : String} {A : Nat → Prop}
theorem ix_rI (S : CallFix p m c cc nL s args lw_all own) (hr : meth.sig.returnType = some .int) (hlocks : meth.locks = false) {x y : Int32} (hw : x = y) (hdg : decode cc pc = .ok (.ireturn, 1)) : W p l e R s m args below meth c s.heap [] 0 0 (MQ below (ix_R (some (.int y))) args s 0 0 (fun _ => False)) (F0 m pc ls [.int x]) := by
  subst hw
  exact W.iret S.1 S.2.1 hr (fun t ht _ => ⟨rfl, ht⟩) (fun _ h => by cases h) hdg hlocks
theorem ix_rZ (S : CallFix p m c cc nL s args lw_all own) (hr : meth.sig.returnType = some .boolean) (hlocks : meth.locks = false) {x : Int32} {b : Bool} (hw : x = ix_b b) (hdg : decode cc pc = .ok (.ireturn, 1)) : W p l e R s m args below meth c s.heap [] 0 0 (MQ below (ix_R (some (.int (ix_b b)))) args s 0 0 (fun _ => False)) (F0 m pc ls [.int x]) := by
  subst hw
  exact W.zret S.1 S.2.1 hr (ix_b_z b) (fun t ht _ => ⟨rfl, ht⟩) (fun _ h => by cases h) hdg hlocks
theorem ix_rL (S : CallFix p m c cc nL s args lw_all own) (hr : meth.sig.returnType = some .long) (hlocks : meth.locks = false) {x y : Int64} (hw : x = y) (hdg : decode cc pc = .ok (.lreturn, 1)) : W p l e R s m args below meth c s.heap [] 0 0 (MQ below (ix_R (some (.long y))) args s 0 0 (fun _ => False)) (F0 m pc ls [.long x]) := by
  subst hw
  exact W.lret S.1 S.2.1 hr (fun t ht _ => ⟨rfl, ht⟩) (fun _ h => by cases h) hdg hlocks
theorem ix_rA (S : CallFix p m c cc nL s args lw_all own) {rt : FieldType} (hr : meth.sig.returnType = some rt) (hlocks : meth.locks = false) (hrt : (∃ n, rt = .object n) ∨ ∃ t, rt = .array t) {x y : Value} (hw : x = y) (hv : x = .null ∨ ∃ a, x = .ref a) (hdg : decode cc pc = .ok (.areturn, 1)) : W p l e R s m args below meth c s.heap [] 0 0 (MQ below (ix_R (some y)) args s 0 0 (fun _ => False)) (F0 m pc ls [x]) := by
  subst hw
  exact W.aret S.1 S.2.1 hr hrt hv (fun t ht _ => ⟨rfl, ht⟩) (fun _ h => by cases h) hdg hlocks
theorem ix_rV (S : CallFix p m c cc nL s args lw_all own) (hr : meth.sig.returnType = none) (hlocks : meth.locks = false) (hdg : decode cc pc = .ok (.return_, 1)) : W p l e R s m args below meth c s.heap [] 0 0 (MQ below (ix_R none) args s 0 0 (fun _ => False)) (F0 m pc ls []) :=
  W.vret S.1 S.2.1 hr (fun t ht _ => ⟨rfl, ht⟩) (fun _ h => by cases h) hdg hlocks
variable {B : Heap → Prop} {mc ms : Nat}
theorem ix_wI (S : CallFix p m c cc nL s args lw_all own) (hr : meth.sig.returnType = some .int) (hlocks : meth.locks = false) (hS : va_S A s.heap H locs) {x y : Int32} (hw : x = y) (hB : B H) (hc : cells ≤ mc) (hs : slots ≤ ms) (hdg : decode cc pc = .ok (.ireturn, 1)) : W p l e R s m args below meth c H locs cells slots (MQ below (ix_Q (some (.int y)) B A) args s mc ms A) (F0 m pc ls [.int x]) := by
  subst hw
  refine W.widen hc hs ?_
  exact W.iret S.1 S.2.1 hr (fun t ht _ => ⟨⟨rfl, by rw [ht]; exact hB⟩, hS.F ht⟩) hS.2.2 hdg hlocks
theorem ix_wZ (S : CallFix p m c cc nL s args lw_all own) (hr : meth.sig.returnType = some .boolean) (hlocks : meth.locks = false) (hS : va_S A s.heap H locs) {x : Int32} {b : Bool} (hw : x = ix_b b) (hB : B H) (hc : cells ≤ mc) (hs : slots ≤ ms) (hdg : decode cc pc = .ok (.ireturn, 1)) : W p l e R s m args below meth c H locs cells slots (MQ below (ix_Q (some (.int (ix_b b))) B A) args s mc ms A) (F0 m pc ls [.int x]) := by
  subst hw
  refine W.widen hc hs ?_
  exact W.zret S.1 S.2.1 hr (ix_b_z b) (fun t ht _ => ⟨⟨rfl, by rw [ht]; exact hB⟩, hS.F ht⟩) hS.2.2 hdg hlocks
theorem ix_wL (S : CallFix p m c cc nL s args lw_all own) (hr : meth.sig.returnType = some .long) (hlocks : meth.locks = false) (hS : va_S A s.heap H locs) {x y : Int64} (hw : x = y) (hB : B H) (hc : cells ≤ mc) (hs : slots ≤ ms) (hdg : decode cc pc = .ok (.lreturn, 1)) : W p l e R s m args below meth c H locs cells slots (MQ below (ix_Q (some (.long y)) B A) args s mc ms A) (F0 m pc ls [.long x]) := by
  subst hw
  refine W.widen hc hs ?_
  exact W.lret S.1 S.2.1 hr (fun t ht _ => ⟨⟨rfl, by rw [ht]; exact hB⟩, hS.F ht⟩) hS.2.2 hdg hlocks
theorem ix_wA (S : CallFix p m c cc nL s args lw_all own) {rt : FieldType} (hr : meth.sig.returnType = some rt) (hlocks : meth.locks = false) (hrt : (∃ n, rt = .object n) ∨ ∃ t, rt = .array t) (hS : va_S A s.heap H locs) {x y : Value} (hw : x = y) (hv : x = .null ∨ ∃ a, x = .ref a) (hB : B H) (hc : cells ≤ mc) (hs : slots ≤ ms) (hdg : decode cc pc = .ok (.areturn, 1)) : W p l e R s m args below meth c H locs cells slots (MQ below (ix_Q (some y) B A) args s mc ms A) (F0 m pc ls [x]) := by
  subst hw
  refine W.widen hc hs ?_
  exact W.aret S.1 S.2.1 hr hrt hv (fun t ht _ => ⟨⟨rfl, by rw [ht]; exact hB⟩, hS.F ht⟩) hS.2.2 hdg hlocks
theorem ix_wV (S : CallFix p m c cc nL s args lw_all own) (hr : meth.sig.returnType = none) (hlocks : meth.locks = false) (hS : va_S A s.heap H locs) (hB : B H) (hc : cells ≤ mc) (hs : slots ≤ ms) (hdg : decode cc pc = .ok (.return_, 1)) : W p l e R s m args below meth c H locs cells slots (MQ below (ix_Q none B A) args s mc ms A) (F0 m pc ls []) := by
  refine W.widen hc hs ?_
  exact W.vret S.1 S.2.1 hr (fun t ht _ => ⟨⟨rfl, by rw [ht]; exact hB⟩, hS.F ht⟩) hS.2.2 hdg hlocks
end IXE
/-! ints that are small naturals, by proof terms -/
theorem ix_nadd {x y : Int32} {a b : Nat} (h1 : x = nI a) (h2 : y = nI b) : x + y = nI (a + b) := by rw [h1, h2, nI_add]
theorem ix_nmul {x y : Int32} {a b : Nat} (h1 : x = nI a) (h2 : y = nI b) : x * y = nI (a * b) := by rw [h1, h2, pk_mul]
theorem ix_nsub {x y : Int32} {a b : Nat} (h1 : x = nI a) (h2 : y = nI b) (h : b ≤ a) : x - y = nI (a - b) := by rw [h1, h2, pk_sub h]
theorem ix_ndec {x : Int32} {a : Nat} (h1 : x = nI a) (h : 1 ≤ a) : x + Int32.ofInt (-1) = nI (a - 1) := by
  obtain ⟨b, rfl⟩ : ∃ b, a = b + 1 := ⟨a - 1, by omega⟩
  rw [h1]
  exact pk_m1 b
theorem ix_nle {x y : Int32} {a b : Nat} (h1 : x = nI a) (h2 : y = nI b) (ha : a < 2 ^ 31) (hb : b < 2 ^ 31) : x ≤ y ↔ a ≤ b := by rw [h1, h2]; exact nI_leI ha hb
theorem ix_nlt {x y : Int32} {a b : Nat} (h1 : x = nI a) (h2 : y = nI b) (ha : a < 2 ^ 31) (hb : b < 2 ^ 31) : x < y ↔ a < b := by rw [h1, h2]; exact nI_ltI ha hb
theorem ix_neq {x y : Int32} {a b : Nat} (h1 : x = nI a) (h2 : y = nI b) (ha : a < 2 ^ 31) (hb : b < 2 ^ 31) : x = y ↔ a = b := by rw [h1, h2]; exact nI_eq ha hb
