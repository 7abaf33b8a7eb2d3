/-! THE LIBRARY's LISTS: rows beside 05's -/
def ix_Qr (B : Nat → Heap → Prop) (A : Nat → Prop) : Array Value → State → Outcome → State → Prop := fun _ st oc t => (∃ a : Nat, oc = .returned (some (.ref a)) ∧ B a t.heap) ∧ va_F A st t
section IXR
variable {p : Program} {l : Launch} {e : Env} {R : Room} {s : State} {m : MethodId} {args : Array Value} {below : List Frame} {meth : Method} {c : Code} {H : Heap} {locs : List Loc} {cells slots : Nat} {Q : State → Prop}
variable {cc : ByteArray} {pc : Nat} {ls : Array Slot} {rest st0 : List Value} {G : ix_G} {A : Nat → Prop} {H0 : Heap} {nL : Nat} {own : String} {β : ix_B} {Nm : ix_N} {a : Nat}
theorem ix_wrr3 {B : Nat → Heap → Prop} {A1 : Nat → Prop} {mc ms : Nat} {a : Array Value} {free : Addr → Prop} (hr : va_Run p l e R s m args below meth c H locs cells slots mc ms (F0 m pc ls st0) rest (ix_Qr B A1 a) free) (hS : va_S A H0 H locs) (hA : ∀ q, A1 q → A q) (hf : ∀ q, free q → A q)
    (kk : ∀ (ra : Nat) (H1 : Heap) (locs1 : List Loc), B ra H1 → H.size ≤ H1.size → (∀ q : Nat, q < H.size → ¬ A1 q → H1[q]? = H[q]?) → va_S A H0 H1 locs1 → W p l e R s m args below meth c H1 locs1 (cells + mc) (slots + ms) Q (F0 m (pc + 3) ls (.ref ra :: rest))) : W p l e R s m args below meth c H locs cells slots Q (F0 m pc ls st0) := by
  intro T hT X
  obtain ⟨v', st₀, t, T', L, h0, X', hL, e1, e2, ⟨⟨ra, hv, hb⟩, hz, hk⟩, st⟩ := hr T hT X
  cases hv
  rw [h0] at hz hk
  obtain ⟨t2, a1, b1⟩ := kk ra T'.heap (locs ++ L) (by rw [e1]; exact hb) (by rw [e1]; exact hz) (fun q h1 h2 => by rw [e1]; exact hk q h1 h2)
    ⟨Nat.le_trans hS.1 (by rw [e1]; exact hz), fun q h1 h2 => by rw [e1, hk q (Nat.lt_of_lt_of_le h1 hS.1) (fun z => h2 (hA q z))]; exact hS.2.1 q h1 h2, fun q hq => by
      rcases List.mem_append.mp hq with h | h
      · exact hS.2.2 q h
      · exact hf _ (hL q h)⟩ T' rfl X'
  exact ⟨t2, st t2 a1, b1⟩
theorem ix_wrr5 {B : Nat → Heap → Prop} {A1 : Nat → Prop} {mc ms : Nat} {a : Array Value} {free : Addr → Prop} (hr : va_Run5 p l e R s m args below meth c H locs cells slots mc ms (F0 m pc ls st0) rest (ix_Qr B A1 a) free) (hS : va_S A H0 H locs) (hA : ∀ q, A1 q → A q) (hf : ∀ q, free q → A q)
    (kk : ∀ (ra : Nat) (H1 : Heap) (locs1 : List Loc), B ra H1 → H.size ≤ H1.size → (∀ q : Nat, q < H.size → ¬ A1 q → H1[q]? = H[q]?) → va_S A H0 H1 locs1 → W p l e R s m args below meth c H1 locs1 (cells + mc) (slots + ms) Q (F0 m (pc + 5) ls (.ref ra :: rest))) : W p l e R s m args below meth c H locs cells slots Q (F0 m pc ls st0) := by
  intro T hT X
  obtain ⟨v', st₀, t, T', L, h0, X', hL, e1, e2, ⟨⟨ra, hv, hb⟩, hz, hk⟩, st⟩ := hr T hT X
  cases hv
  rw [h0] at hz hk
  obtain ⟨t2, a1, b1⟩ := kk ra T'.heap (locs ++ L) (by rw [e1]; exact hb) (by rw [e1]; exact hz) (fun q h1 h2 => by rw [e1]; exact hk q h1 h2)
    ⟨Nat.le_trans hS.1 (by rw [e1]; exact hz), fun q h1 h2 => by rw [e1, hk q (Nat.lt_of_lt_of_le h1 hS.1) (fun z => h2 (hA q z))]; exact hS.2.1 q h1 h2, fun q hq => by
      rcases List.mem_append.mp hq with h | h
      · exact hS.2.2 q h
      · exact hf _ (hL q h)⟩ T' rfl X'
  exact ⟨t2, st t2 a1, b1⟩
theorem ix_wR {B : Nat → Heap → Prop} {mc ms : Nat} (S : CallFix p m c cc nL s args lw_all own) {rt : FieldType} (hr : meth.sig.returnType = some rt) (hlocks : meth.locks = false) (hrt : (∃ n, rt = .object n) ∨ ∃ t, rt = .array t) (hS : va_S A s.heap H locs) {x : Nat} (hB : B x H) (hc : cells ≤ mc) (hs : slots ≤ ms) (hdg : decode cc pc = .ok (.areturn, 1)) : W p l e R s m args below meth c H locs cells slots (MQ below (ix_Qr B A) args s mc ms A) (F0 m pc ls [.ref x]) := by
  refine W.widen hc hs ?_
  exact W.aret S.1 S.2.1 hr hrt (Or.inr ⟨x, rfl⟩) (fun t ht _ => ⟨⟨x, rfl, by rw [ht]; exact hB⟩, hS.F ht⟩) hS.2.2 hdg hlocks
theorem ix_Sz (hS : va_S A H0 H locs) (hA : ∀ q, A q → ix_z G q) : va_S (ix_z G) H0 H locs := ⟨hS.1, fun q h1 h2 => hS.2.1 q h1 (fun z => h2 (hA q z)), fun q h => hA _ (hS.2.2 q h)⟩
/-- statics that are read -/
theorem ix_getEmpty (S : CallFix p m c cc nL s args lw_all own) (hC : ix_C G s) (hS : va_S A s.heap H locs) (hA : ∀ q, A q → ix_z G q) {index : Nat} (hl : Cond.fieldLink own index "java/util/ArrayList" "DEFAULTCAPACITY_EMPTY_ELEMENTDATA" "[Ljava/lang/Object;" ∈ lw_all) (hdg : decode cc pc = .ok (.getstatic index, 3))
    (kk : W p l e R s m args below meth c H locs cells slots Q (F0 m (pc + 3) ls (.ref (G.2.2.1 4) :: rest))) : W p l e R s m args below meth c H locs cells slots Q (F0 m pc ls rest) :=
  va_gets S.1 S.2.1 hC.2.2.1.2.1 (ix_Sz (G := G) hS hA) S.2.2.2.1 (S.2.2.2.2 _ hl) (fun _ h9 => h9) hdg kk
theorem ix_lenEmpty (S : CallFix p m c cc nL s args lw_all own) (hC : ix_C G s) (hS : va_S A s.heap H locs) (hA : ∀ q, A q → ix_z G q) (hdg : decode cc pc = .ok (.arraylength, 1))
    (kk : W p l e R s m args below meth c H locs cells slots Q (F0 m (pc + 1) ls (.int (nI 0) :: rest))) : W p l e R s m args below meth c H locs cells slots Q (F0 m pc ls (.ref (G.2.2.1 4) :: rest)) :=
  va_tlen S.1 S.2.1 hC.2.2.1.2.2.1 (ix_Sz (G := G) hS hA) rfl hdg kk
theorem ix_getState (S : CallFix p m c cc nL s args lw_all own) (hC : ix_C G s) (hS : va_S A s.heap H locs) (hA : ∀ q, A q → ix_z G q) {index : Nat} {nm : String} (k : Nat) (hk : k < ix_en.length) (hn : ix_en.getD k "" = nm) (hl : Cond.fieldLink own index "InitiatorRows$State" nm "LInitiatorRows$State;" ∈ lw_all) (hdg : decode cc pc = .ok (.getstatic index, 3))
    (kk : W p l e R s m args below meth c H locs cells slots Q (F0 m (pc + 3) ls (.ref (G.2.2.1 k) :: rest))) : W p l e R s m args below meth c H locs cells slots Q (F0 m pc ls rest) := by
  subst hn
  exact va_gets S.1 S.2.1 ((hC.2.2.1.1.1 k hk).1) (ix_Sz (G := G) hS hA) S.2.2.2.1 (S.2.2.2.2 _ hl) (fun _ h9 => h9) hdg kk
theorem ix_recvState (hC : ix_C G s) (hS : va_S A s.heap H locs) (hA : ∀ q, A q → ix_z G q) {k : Nat} (hk : k < 4) : ∃ cell : Cell, H[G.2.2.1 k]? = some cell ∧ cell.vm.isStatics = false ∧ s.vm.findClass "InitiatorRows$State" = some cell.cls := va_recvE hC.2.2.1.1 hk (ix_Sz (G := G) hS hA)
theorem ix_eta (hC : ix_C G s) {i j : Nat} (hi : i < 4) (hj : j < 4) : G.2.2.1 i = G.2.2.1 j ↔ i = j := ⟨hC.2.2.1.1.2 i j hi hj, fun h => by rw [h]⟩
/-- arraycopy within rows of objects, source and target any two roles (or one) -/
theorem ix_copy (S : CallFix p m c cc nL s args lw_all own) (hC : ix_C G s) (hH : ix_H G.1 A β Nm H) (hS : va_S A H0 H locs) {index : Nat} (hl : Cond.methodLink own index arraycopyName ∈ lw_all) (hls : ls.size = nL)
    {k0 i0 k1 i1 a0 n0 n1 sj dj nj : Nat} {f g : Nat → Option Nat} {sp dp nn : Int32} (he0 : Nm k0 i0 = some (.inl (G.2.1 3, n0, .inr (.inr (.inr (.inr f)))))) (he1 : Nm k1 i1 = some (.inl (G.2.1 3, n1, .inr (.inr (.inr (.inr g)))))) (ha0 : a0 = β k0 i0) (ha : a = β k1 i1)
    (hs : sp = nI sj) (hd : dp = nI dj) (hn : nn = nI nj) (h4 : sj + nj ≤ n0) (h5 : dj + nj ≤ n1) (hb0 : n0 < 2 ^ 31) (hb1 : n1 < 2 ^ 31) (hel : ∀ i : Nat, i < nj → ∀ y : Nat, f (sj + i) = some y → va_Any "java/lang/Object" s H y)
    (hframes : 1 ≤ R.frames) (hlocals : (rest.map fun v => v.category).sum + (nativeFrameWords "java/lang/System" "arraycopy" 5 + 11) ≤ R.locals) (hdg : decode cc pc = .ok (.invokestatic index, 3))
    (kk : ∀ (H1 : Heap) (locs1 : List Loc), ix_H G.1 A β (ix_u Nm k1 i1 (some (.inl (G.2.1 3, n1, .inr (.inr (.inr (.inr (va_cpy f g sj dj nj)))))))) H1 → va_S A H0 H1 locs1 → H1.size = H.size → W p l e R s m args below meth c H1 locs1 cells slots Q (F0 m (pc + 3) ls rest)) : W p l e R s m args below meth c H locs cells slots Q (F0 m pc ls (.int nn :: .int dp :: .ref a :: .int sp :: .ref a0 :: rest)) := by
  subst ha0 ha hs hd hn
  have c1 : (nI sj).toNatClampNeg = sj := nI_clamp (by omega)
  have c2 : (nI dj).toNatClampNeg = dj := nI_clamp (by omega)
  have c3 : (nI nj).toNatClampNeg = nj := nI_clamp (by omega)
  have nn' : ∀ z : Nat, z < 2 ^ 31 → (nI z).toInt = ((nI z).toNatClampNeg : Int) := fun z hz => by rw [nI_toInt hz, nI_clamp hz]
  intro T hT X
  have hc0 : H[β k0 i0]? = some (vp_cell (G.2.1 3) (n0, .inr (.inr (.inr (.inr f))))) := (hH.1 _ _ _ he0).1
  have hc1 : H[β k1 i1]? = some (vp_cell (G.2.1 3) (n1, .inr (.inr (.inr (.inr g))))) := (hH.1 _ _ _ he1).1
  have ht : (ix_ty G.2.1)[3]? = some (G.2.1 3, .object "java/lang/Object") := rfl
  obtain ⟨-, kx, hkx, cm0, hkk0⟩ := (hC.1.2 3 _ ht).1 n0 (fun j => va_rf (f j))
  obtain ⟨-, ky, hky, cm1, hkk1⟩ := (hC.1.2 3 _ ht).1 n1 (fun j => va_rf (g j))
  obtain ⟨vm', X', step⟩ := X.arraycopy S.1 S.2.2.2.1 (S.2.2.2.2 _ hl) (S.2.2.2.2 _ q317) (S.2.2.2.2 _ q316) (S.2.2.2.2 _ q39) (src := β k0 i0) (dst := β k1 i1) (cs := vp_cell (G.2.1 3) (n0, .inr (.inr (.inr (.inr f))))) (cd := vp_cell (G.2.1 3) (n1, .inr (.inr (.inr (.inr g))))) (srcPos := nI sj) (destPos := nI dj) (n := nI nj) (by rw [hT]; exact hc0) (by rw [hT]; exact hc1)
    (fun _ h => by cases h) (fun _ h => by cases h) (fun h => by cases h) (fun h => by cases h) hkx hky hkk0 hkk1 rfl (nI_pos (by omega)) (nI_pos (by omega)) (nI_pos (by omega))
    (by rw [nn' sj (by omega), nn' nj (by omega), c1, c3]; show ¬ _ > ((arrV (G.2.1 3) n0 (fun j => va_rf (f j))).slots.size : Int); rw [arrV_size]; omega)
    (by rw [nn' dj (by omega), nn' nj (by omega), c2, c3]; show ¬ _ > ((arrV (G.2.1 3) n1 (fun j => va_rf (g j))).slots.size : Int); rw [arrV_size]; omega)
    (fun vm₁ hal i hi => by
      rw [c3] at hi
      have e : (vp_cell (G.2.1 3) (n0, .inr (.inr (.inr (.inr f))))).slots.getD ((nI sj).toNatClampNeg + i) .null = va_rf (f (sj + i)) := by
        rw [c1]
        show (arrV (G.2.1 3) n0 (fun j => va_rf (f j))).slots.getD _ _ = _
        rw [Array.getD_eq_getD_getElem?, arrV_read _ _ (by omega)]
        rfl
      rw [e]
      cases hy : f (sj + i) with
      | none => exact ⟨rfl, trivial⟩
      | some y =>
        obtain ⟨cellV, g1, g2, ⟨kC, hkC⟩, hasg⟩ := hel i hi y hy
        obtain ⟨kA, comp, r1, r2, r3, -⟩ := (hC.1.2 3 _ ht).2
        cases hky.symm.trans r1
        cases hkk1.symm.trans r2
        obtain ⟨kE, hkE, -⟩ := Vm.findClass_spec r3
        obtain ⟨kC', hkC', -⟩ := hal.2.2 _ _ hkC
        obtain ⟨kE', hkE', -⟩ := hal.2.2 _ _ hkE
        refine ⟨rfl, cellV, (show T.heap[y]? = some cellV by rw [hT]; exact g1), (fun q h => by rw [h] at g2; cases g2), ⟨kC', hkC'⟩, ?_, ?_⟩
        · exact ⟨kE', hkE'⟩
        · show vm₁.assignable _ _ = true
          rw [hal.assignable]
          exact hasg _ r3)
    (g := F0 m pc ls (.int (nI nj) :: .int (nI dj) :: .ref (β k1 i1) :: .int (nI sj) :: .ref (β k0 i0) :: rest)) rfl (by rw [S.2.2.1]; exact hls) (rest := rest) rfl (by rw [S.2.1]; exact hdg) hframes (by show 2 * 0 + _ + _ ≤ _; omega)
  have e1 : copied (vp_cell (G.2.1 3) (n0, .inr (.inr (.inr (.inr f))))) (vp_cell (G.2.1 3) (n1, .inr (.inr (.inr (.inr g))))) (nI sj) (nI dj) (nI nj) = vp_cell (G.2.1 3) (n1, .inr (.inr (.inr (.inr (va_cpy f g sj dj nj))))) := by
    rw [vp_cell_q, vp_cell_q, vp_cell_q]
    have h := va_copied (fun z => va_rf z) (G.2.1 3) (G.2.1 3) (n0 := n0) (n1 := n1) (sp := sj) (dp := dj) (n := nj) f g h4
    show Cell.storeRun _ (nI dj).toNatClampNeg (Cell.stretch _ (nI sj).toNatClampNeg (nI nj).toNatClampNeg) = _
    rw [c1, c2, c3]
    exact h
  rw [e1] at X' step
  have hl9 : β k1 i1 < H.size := (Array.getElem?_eq_some_iff.mp hc1).1
  have hheap : ((T.setVm vm').setCell (β k1 i1) (vp_cell (G.2.1 3) (n1, .inr (.inr (.inr (.inr (va_cpy f g sj dj nj))))))).heap = H.setIfInBounds (β k1 i1) (vp_cell (G.2.1 3) (n1, .inr (.inr (.inr (.inr (va_cpy f g sj dj nj)))))) := by rw [← hT]; rfl
  have oq : ∀ q : Nat, q ≠ β k1 i1 → (H.setIfInBounds (β k1 i1) (vp_cell (G.2.1 3) (n1, .inr (.inr (.inr (.inr (va_cpy f g sj dj nj)))))))[q]? = H[q]? := fun q hq => by simp [Array.getElem?_setIfInBounds, Ne.symm hq]
  obtain ⟨t, a1, b1⟩ := kk _ _ (hH.set he1 (show (H.setIfInBounds (β k1 i1) _)[β k1 i1]? = some _ by simp [Array.getElem?_setIfInBounds, hl9]) oq) ⟨by simp; exact hS.1, fun q g1 g2 => by
      rw [oq q (fun e => g2 (by rw [e]; exact (hH.1 _ _ _ he1).2))]
      exact hS.2.1 q g1 g2, fun q hq => by
      rcases List.mem_append.mp hq with h | h
      · exact hS.2.2 q h
      · obtain ⟨z, -, hz⟩ := List.mem_map.mp h
        rw [← hz]
        exact (hH.1 _ _ _ he1).2⟩ (by simp) _ hheap X'
  exact ⟨t, step t a1, b1⟩
end IXR
/-- a role under another name -/
theorem ix_H.ren {D : va_G} {A : Nat → Prop} {β : ix_B} {N : ix_N} {H : Heap} {e : va_E} (h : ix_H D A β N H) {k0 i0 : Nat} (k1 i1 : Nat) (he : N k0 i0 = some e) : ix_H D A (ix_u β k1 i1 (β k0 i0)) (ix_u (ix_u N k0 i0 none) k1 i1 (some e)) H := by
  have key : ∀ a b x, ix_u (ix_u N k0 i0 none) k1 i1 (some e) a b = some x → (a = k1 ∧ b = i1 ∧ x = e) ∨ (¬ (a = k1 ∧ b = i1) ∧ ¬ (a = k0 ∧ b = i0) ∧ N a b = some x) := by
    intro a b x hx
    by_cases h1 : a = k1 ∧ b = i1
    · obtain ⟨rfl, rfl⟩ := h1
      rw [ix_us] at hx
      cases hx
      exact Or.inl ⟨rfl, rfl, rfl⟩
    · rw [ix_un h1] at hx
      by_cases h2 : a = k0 ∧ b = i0
      · rw [h2.1, h2.2, ix_us] at hx; cases hx
      · rw [ix_un h2] at hx
        exact Or.inr ⟨h1, h2, hx⟩
  refine ⟨fun a b x hx => ?_, fun a b a' b' x x' hx hx' hb => ?_⟩
  · rcases key a b x hx with ⟨rfl, rfl, rfl⟩ | ⟨h1, h2, h3⟩
    · rw [ix_us]; exact h.1 _ _ _ he
    · rw [ix_un h1]; exact h.1 _ _ _ h3
  · rcases key a b x hx with ⟨rfl, rfl, rfl⟩ | ⟨h1, h2, h3⟩ <;> rcases key a' b' x' hx' with ⟨rfl, rfl, rfl⟩ | ⟨h1', h2', h3'⟩
    · exact ⟨rfl, rfl⟩
    · rw [ix_us, ix_un h1'] at hb
      obtain ⟨z1, z2⟩ := h.2 _ _ _ _ _ _ he h3' hb
      exact absurd ⟨z1.symm, z2.symm⟩ h2'
    · rw [ix_us, ix_un h1] at hb
      obtain ⟨z1, z2⟩ := h.2 _ _ _ _ _ _ h3 he hb
      exact absurd ⟨z1, z2⟩ h2
    · rw [ix_un h1, ix_un h1'] at hb
      exact h.2 _ _ _ _ _ _ h3 h3' hb
/-- an element of a list: a job or an initiator of the world -/
def jj_e (β : ix_B) (N : ix_N) (q : Nat) : Prop := ∃ (k i ci : Nat) (fs : List Value), q = β k i ∧ N k i = some (.inr (ci, fs)) ∧ (ci = 1 ∨ ci = 2)
def jj_no (o : Option va_E) : Prop := ∀ (ci : Nat) (fs : List Value), o = some (.inr (ci, fs)) → ¬ (ci = 1 ∨ ci = 2)
theorem jj_e.upd {β b : ix_B} {N : ix_N} {q k0 i0 : Nat} {v : Option va_E} (h : jj_e β N q) (hno : jj_no (N k0 i0)) (hb : ∀ x y, ¬ (x = k0 ∧ y = i0) → b x y = β x y) : jj_e b (ix_u N k0 i0 v) q := by
  obtain ⟨k, i, ci, fs, e1, e2, e3⟩ := h
  have hne : ¬ (k = k0 ∧ i = i0) := fun z => by
    obtain ⟨rfl, rfl⟩ := z
    exact hno ci fs e2 e3
  exact ⟨k, i, ci, fs, by rw [hb k i hne]; exact e1, by rw [ix_un hne]; exact e2, e3⟩
theorem jj_any {G : ix_G} {s : State} {A : Nat → Prop} {β : ix_B} {N : ix_N} {H : Heap} {q : Nat} (hC : ix_C G s) (hH : ix_H G.1 A β N H) (h : jj_e β N q) : va_Any "java/lang/Object" s H q := by
  obtain ⟨k, i, ci, fs, rfl, e2, e3⟩ := h
  rcases e3 with rfl | rfl
  · refine va_rAny (q0 := 0) hC.1 (hH.one e2) rfl rfl (fun comp c0 h1 h2 => ?_)
    obtain ⟨c1, t1, f1, f2, f3⟩ := Cond.castable_spec (va_Nw.use (A := #[]) rfl (hC.2.1.1 _ (ix_nm q1054 rfl)))
    cases f1.symm.trans h2
    cases f2.symm.trans h1
    exact f3
  · refine va_rAny (q0 := 0) hC.1 (hH.one e2) rfl rfl (fun comp c0 h1 h2 => ?_)
    obtain ⟨c1, t1, f1, f2, f3⟩ := Cond.castable_spec (va_Nw.use (A := #[]) rfl (hC.2.1.1 _ (ix_nm q1053 rfl)))
    cases f1.symm.trans h2
    cases f2.symm.trans h1
    exact f3
theorem ix_writerR {l : Launch} {y : MethodName} {cc : ByteArray} {nL mc ms : Nat} {ret : Option FieldType} {rm : Room} {G : ix_G} {β : ix_B} {N : ix_N} {sz : Nat} {av : List Value} {B : Nat → Heap → Prop} (hy : plainName y.cls = true) (hlen : (lg_sl av).length ≤ nL)
    (body : ∀ (p : Program) (e : Env) (s : State) (m : MethodId) (below : List Frame) (meth : Method) (c : Code) (A : Nat → Prop), CallFix p m c cc nL s av.toArray lw_all y.cls → meth.sig.returnType = ret → meth.locks = false → meth.name = y.name → ix_C G s → s.heap.size = sz → ix_H G.1 A β N s.heap → va_S A s.heap s.heap [] → (∀ q, s.heap.size ≤ q → A q) → (∀ q, A q → ix_z G q) → A = ix_A β N sz → ∀ ls, lv_has ls nL (lv_args 0 av) →
      W p l e rm s m av.toArray below meth c s.heap [] 0 0 (MQ below (ix_Qr B A) av.toArray s mc ms A) (F0 m 0 ls [])) : Met l y (ws_ y cc nL ret) rm (ix_P G β N sz av) (ix_Qr B (ix_A β N sz)) mc ms (ix_A β N sz) := by
  refine Met.ofW (cc := cc) (maxL := nL) (ret := ret) hy rfl ?_
  intro p e s m args below meth c s₁ Bd hml hv
  obtain ⟨rfl, hsz, hC, hH⟩ := hv
  have hts := atoms_spec (ws := ws_ y cc nL ret) Bd.pre
  have hts : ∀ w ∈ lw_all, w.before _ s = true := fun w h => hts w (List.mem_cons_of_mem _ h)
  rw [lg_entry_eq]
  refine body p e s m below meth c (ix_A β N sz) ⟨Bd.exec, Bd.bytes, hml, findClass_of_methodNamed Bd.named, hts⟩ Bd.returns Bd.notSynchronized (name_of_methodNamed Bd.named Bd.method).1 hC hsz (hH.self sz) va_S.rf (fun q h => Or.inr (by rw [← hsz]; exact h)) (fun q h => ?_) rfl _ (lv_entry av hlen)
  rcases h with ⟨k, i, e, he, rfl⟩ | h
  · exact (hH.1 k i e he).2
  · exact Nat.le_trans hC.2.2.2 (by rw [hsz]; exact h)
theorem ix_uu {α : Type} {f : Nat → Nat → α} {k i : Nat} {v w : α} : ix_u (ix_u f k i v) k i w = ix_u f k i w := by
  funext a b
  by_cases h : a = k ∧ b = i
  · rw [h.1, h.2, ix_us, ix_us]
  · rw [ix_un h, ix_un h, ix_un h]
theorem ix_uc {α : Type} {f : Nat → Nat → α} {k i k' i' : Nat} {v w : α} (hne : ¬ (k = k' ∧ i = i')) : ix_u (ix_u f k i v) k' i' w = ix_u (ix_u f k' i' w) k i v := by
  funext a b
  by_cases h : a = k ∧ b = i
  · obtain ⟨rfl, rfl⟩ := h
    rw [ix_un hne, ix_us, ix_us]
  · by_cases h' : a = k' ∧ b = i'
    · obtain ⟨rfl, rfl⟩ := h'
      rw [ix_us, ix_un h, ix_us]
    · rw [ix_un h', ix_un h, ix_un h, ix_un h']
theorem jj_no_11 {fs : List Value} : jj_no (some (.inr (11, fs))) := fun ci fs' h => by cases h; decide
theorem jj_no_a {x : ClassId × vp_A} : jj_no (some (.inl x)) := fun ci fs h => by cases h
theorem jj_no_n : jj_no none := fun ci fs h => by cases h
/-- the copy's role becomes the list's -/
theorem jj_ren {D : va_G} {A : Nat → Prop} {β b1 : ix_B} {N : ix_N} {H : Heap} {e : va_E} (h : ix_H D A b1 (ix_u N 90 0 (some e)) H) (hbf : ∀ x y, ¬ (x = 90 ∧ y = 0) → b1 x y = β x y) (h90 : N 90 0 = none) (li : Nat) : ∃ b : ix_B, b 2 li = b1 90 0 ∧ (∀ x y, ¬ (x = 2 ∧ y = li) → b x y = β x y) ∧ ix_H D A b (ix_u N 2 li (some e)) H := by
  refine ⟨ix_u β 2 li (b1 90 0), ix_us, fun x y hxy => ix_un hxy, (h.ren 2 li ix_us).mono fun x y e' he' => ?_⟩
  by_cases h2 : x = 2 ∧ y = li
  · obtain ⟨rfl, rfl⟩ := h2
    rw [ix_us] at he' ⊢
    rw [ix_us, ix_us]
    exact ⟨he', rfl⟩
  · rw [ix_un h2] at he'
    rw [ix_un h2, ix_un h2, ix_un h2]
    by_cases h9 : x = 90 ∧ y = 0
    · rw [h9.1, h9.2, h90] at he'; cases he'
    · rw [ix_un h9, ix_un h9]
      exact ⟨he', (hbf x y h9).symm⟩
theorem ix_recvO {G : ix_G} {s : State} {A : Nat → Prop} {β : ix_B} {N : ix_N} {H : Heap} {k i : Nat} {x : vp_A} (hC : ix_C G s) (hH : ix_H G.1 A β N H) (he : N k i = some (.inl (G.2.1 3, x))) : ∃ cell : Cell, H[β k i]? = some cell ∧ cell.vm.isStatics = false ∧ s.vm.findClass "[Ljava/lang/Object;" = some cell.cls := by
  have h1 := (hH.1 _ _ _ he).1
  have h2 : s.vm.findClass "[Ljava/lang/Object;" = some (G.2.1 3) := va_nmO (hC.1.2 3 _ rfl).2 (by decide)
  refine ⟨_, h1, ?_, ?_⟩
  · obtain ⟨n, f | f | f | f | f⟩ := x <;> rfl
  · rw [h2]
    obtain ⟨n, f | f | f | f | f⟩ := x <;> rfl
/-- capacities -/
def jj_mx (g q : Nat) : Nat := if g < q then q else g
theorem jj_mx_b (g q : Nat) : jj_mx g q ≤ g + q ∧ g ≤ jj_mx g q := by unfold jj_mx; split <;> omega
theorem jj_mx_i {g q : Nat} (hg : g < 2 ^ 31) (hq : q < 2 ^ 31) : (if nI g < nI q then nI q else nI g) = nI (jj_mx g q) := by
  unfold jj_mx
  by_cases h : g < q
  · rw [if_pos h, if_pos ((nI_ltI hg hq).mpr h)]
  · rw [if_neg h, if_neg (fun z => h ((nI_ltI hg hq).mp z))]
def jj_c (cap : Nat) : Nat := if cap = 0 then 10 else cap + jj_mx 1 (cap / 2)
theorem jj_c_b {cap : Nat} (h : cap ≤ 100) : jj_c cap ≤ 200 ∧ cap < jj_c cap := by
  have := jj_mx_b 1 (cap / 2)
  unfold jj_c
  split <;> omega
/-- where an object stands first in a row (n: nowhere) -/
def jj_ix (f : Nat → Option Nat) (q n : Nat) : Int32 := match ix_find (fun k => decide (f k = some q)) n with
  | none => -1
  | some k => nI k
/-- the row without its place i (of n) -/
def jj_rm (f : Nat → Option Nat) (i n : Nat) : Nat → Option Nat := fun k => if k < i then f k else if k + 1 < n then f (k + 1) else none
/-- the row with q at its place i (of n) -/
def jj_in (f : Nat → Option Nat) (i n q : Nat) : Nat → Option Nat := fun k => if k < i then f k else if k = i then some q else if k < n + 1 then f (k - 1) else none
theorem ix_readerF {l : Launch} {y : MethodName} {cc : ByteArray} {nL : Nat} {ret : Option FieldType} {rm : Room} {G : ix_G} {β : ix_B} {N : ix_N} {sz : Nat} {av : List Value} {v : Option Value} (hy : plainFor y = true) (hlen : (lg_sl av).length ≤ nL)
    (body : ∀ (p : Program) (e : Env) (s : State) (m : MethodId) (below : List Frame) (meth : Method) (c : Code), CallFix p m c cc nL s av.toArray lw_all y.cls → meth.sig.returnType = ret → meth.locks = false → ix_C G s → ix_H G.1 (ix_z G) β N s.heap → va_S (ix_z G) s.heap s.heap [] → ∀ ls, lv_has ls nL (lv_args 0 av) →
      W p l e rm s m av.toArray below meth c s.heap [] 0 0 (MQ below (ix_R v) av.toArray s 0 0 (fun _ => False)) (F0 m 0 ls [])) : Met l y (ws_ y cc nL ret) rm (ix_P G β N sz av) (ix_R v) 0 0 (fun _ => False) := by
  refine va_MetF (cc := cc) (maxL := nL) (ret := ret) hy rfl ?_
  intro p e s m args below meth c s₁ B hml hv
  obtain ⟨rfl, hsz, hC, hH⟩ := hv
  have hts := atoms_spec (ws := ws_ y cc nL ret) B.pre
  have hts : ∀ w ∈ lw_all, w.before _ s = true := fun w h => hts w (List.mem_cons_of_mem _ h)
  rw [lg_entry_eq]
  exact body p e s m below meth c ⟨B.exec, B.bytes, hml, findClass_of_methodNamed B.named, hts⟩ B.returns B.notSynchronized hC hH va_S.rf _ (lv_entry av hlen)
