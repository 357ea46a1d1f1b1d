/-! ROWS OF System.arraycopy -/
set_option maxRecDepth 100000
section GK6
variable {p : Program} {l : Launch} {e : Env} {R : Room} {s : State} {m : MethodId} {args : Array Value} {below : List Frame} {meth : Method} {c : Code} {Q : State → Prop} {E : gk_E} {nL : Nat} {S : gk_S} {cells slots pc : Nat} {L : List (Option Value)} {rest : List Value} {cc : ByteArray} {own : String}
/-- raw: between arrays of ints -/
theorem gk_copyr (X : gk_X p s m args meth c cc own nL E) {H : Heap} {locs : List Loc} {ls : Array Slot} {index a a0 n0 n1 : Nat} {f g : Nat → Int32} (hl : ls.size = nL) (hlink : Cond.methodLink own index arraycopyName ∈ lw_all) (hc0 : va_at E.1 gk_cl (a0, .inl (E.2.1 0, n0, .inl f)) H) (hc1 : va_at E.1 gk_cl (a, .inl (E.2.1 0, n1, .inl g)) H) (hS : va_S (fun q => E.2.2.2.1 ≤ q) s.heap H locs) (ha : E.2.2.2.1 ≤ a)
    {sp dp n : Int32} (h1 : ¬ sp < 0) (h2 : ¬ dp < 0) (h3 : ¬ n < 0) (h4 : sp.toNatClampNeg + n.toNatClampNeg ≤ n0) (h5 : dp.toNatClampNeg + n.toNatClampNeg ≤ n1)
    (hframes : 1 ≤ R.frames) (hlocals : (rest.map fun v => v.category).sum + (nativeFrameWords "java/lang/System" "arraycopy" 5 + 11) ≤ R.locals) (hdg : decode cc pc = .ok (.invokestatic index, 3))
    (kk : ∀ (H1 : Heap) (locs1 : List Loc), va_at E.1 gk_cl (a, .inl (E.2.1 0, n1, .inl (va_cpy f g sp.toNatClampNeg dp.toNatClampNeg n.toNatClampNeg))) H1 → (∀ q, q ≠ a → H1[q]? = H[q]?) → va_S (fun q => E.2.2.2.1 ≤ q) s.heap H1 locs1 → W p l e R s m args below meth c H1 locs1 cells slots Q (F0 m (pc + 3) ls rest)) : W p l e R s m args below meth c H locs cells slots Q (F0 m pc ls (.int n :: .int dp :: .ref a :: .int sp :: .ref a0 :: rest)) := by
  have nn : ∀ z : Int32, ¬ z < 0 → z.toInt = (z.toNatClampNeg : Int) := by
    intro z hz
    have hz0 : (0 : Int) ≤ z.toInt := by
      have := Int32.not_lt.mp hz
      simpa using Int32.le_iff_toInt_le.mp this
    show z.toInt = ((z.toInt.toNat : Nat) : Int)
    omega
  have hK := X.2.2.2.2.2.1.1
  intro T hT X1
  have hc0 : H[a0]? = some (vp_cell (E.2.1 0) (n0, .inl f)) := hc0
  have hc1 : H[a]? = some (vp_cell (E.2.1 0) (n1, .inl g)) := hc1
  obtain ⟨-, k0, hk0, cm0, hkk0⟩ := (hK.2 0 (E.2.1 0, .int) rfl).1 n0 (fun j => .int (f j))
  obtain ⟨-, k1, hk1, cm1, hkk1⟩ := (hK.2 0 (E.2.1 0, .int) rfl).1 n1 (fun j => .int (g j))
  obtain ⟨vm', X', step⟩ := X1.arraycopy X.1 X.2.2.2.1 (X.2.2.2.2.1 _ hlink) (X.2.2.2.2.1 _ q237) (X.2.2.2.2.1 _ q236) (X.2.2.2.2.1 _ q138) (src := a0) (dst := a) (cs := vp_cell (E.2.1 0) (n0, .inl f)) (cd := vp_cell (E.2.1 0) (n1, .inl g)) (srcPos := sp) (destPos := dp) (n := n) (by rw [hT]; exact hc0) (by rw [hT]; exact hc1)
    (fun _ h => by cases h) (fun _ h => by cases h) (fun h => by cases h) (fun h => by cases h) hk0 hk1 hkk0 hkk1 (by rfl) h1 h2 h3
    (by rw [nn sp h1, nn n h3]; show ¬ _ > ((arrV (E.2.1 0) n0 (fun j => .int (f j))).slots.size : Int); rw [arrV_size]; omega)
    (by rw [nn dp h2, nn n h3]; show ¬ _ > ((arrV (E.2.1 0) n1 (fun j => .int (g j))).slots.size : Int); rw [arrV_size]; omega)
    (fun vm₁ _ i hi => by
      have e : (vp_cell (E.2.1 0) (n0, .inl f)).slots.getD (sp.toNatClampNeg + i) .null = .int (f (sp.toNatClampNeg + i)) := by
        show (arrV (E.2.1 0) n0 (fun j => .int (f j))).slots.getD _ _ = _
        rw [Array.getD_eq_getD_getElem?, arrV_read _ _ (by omega)]
        rfl
      refine ⟨?_, ?_⟩
      · rw [e]
        rfl
      · rw [e]
        exact trivial)
    (g := F0 m pc ls (.int n :: .int dp :: .ref a :: .int sp :: .ref a0 :: rest)) rfl (by rw [X.2.2.1]; exact hl) (rest := rest) rfl (by rw [X.2.1]; exact hdg) hframes (by show 2 * 0 + _ + _ ≤ _; omega)
  have e1 : copied (vp_cell (E.2.1 0) (n0, .inl f)) (vp_cell (E.2.1 0) (n1, .inl g)) sp dp n = vp_cell (E.2.1 0) (n1, .inl (va_cpy f g sp.toNatClampNeg dp.toNatClampNeg n.toNatClampNeg)) := va_copied (fun z => .int z) (E.2.1 0) (E.2.1 0) f g h4
  rw [e1] at X' step
  have hl : a < H.size := (Array.getElem?_eq_some_iff.mp hc1).1
  have hheap : ((T.setVm vm').setCell a (vp_cell (E.2.1 0) (n1, .inl (va_cpy f g sp.toNatClampNeg dp.toNatClampNeg n.toNatClampNeg)))).heap = H.setIfInBounds a (vp_cell (E.2.1 0) (n1, .inl (va_cpy f g sp.toNatClampNeg dp.toNatClampNeg n.toNatClampNeg))) := by rw [← hT]; rfl
  have oq : ∀ q : Nat, q ≠ a → (H.setIfInBounds a (vp_cell (E.2.1 0) (n1, .inl (va_cpy f g sp.toNatClampNeg dp.toNatClampNeg n.toNatClampNeg))))[q]? = H[q]? := fun q hq => by simp [Array.getElem?_setIfInBounds, Ne.symm hq]
  obtain ⟨t, a1, b1⟩ := kk _ _ (show (H.setIfInBounds a _)[a]? = some _ by simp [Array.getElem?_setIfInBounds, hl]) oq ⟨by simp; exact hS.1, fun q g1 g2 => by
      rw [oq q (fun e => g2 (by rw [e]; exact ha))]
      exact hS.2.1 q g1 g2, fun q hq => by
      rcases List.mem_append.mp hq with h | h
      · exact hS.2.2 q h
      · obtain ⟨z, -, hz⟩ := List.mem_map.mp h
        rw [← hz]
        exact ha⟩ _ hheap X'
  exact ⟨t, step t a1, b1⟩
/-- to a fixed array: number i -/
theorem g_copyi (X : gk_X p s m args meth c cc own nL E) (ho : E.2.2.2.2 = true) {index a a0 n0 n1 sp dp n : Nat} (i : Nat) {f : Nat → Int32} {x y z : Int32} (hdg : decode cc pc = .ok (.invokestatic index, 3)) (hlink : Cond.methodLink own index arraycopyName ∈ lw_all) (hrd : gk_Rd E S a0 (.inl (E.2.1 0, n0, .inl f))) (ha : a = E.2.2.1 i) (hk : gk_kd i = some (0, n1)) (hx : x = nI sp) (hy : y = nI dp) (hz : z = nI n) (h4 : sp + n ≤ n0) (h5 : dp + n ≤ n1) (hn0 : n0 < 2 ^ 31) (hn1 : n1 < 2 ^ 31) (hframes : 1 ≤ R.frames) (hlocals : (rest.map fun v => v.category).sum + (nativeFrameWords "java/lang/System" "arraycopy" 5 + 11) ≤ R.locals)
    (k : gk_G p l e R s m args below meth c E nL (gk_si S i (va_cpy f (S.1 i) sp dp n)) cells slots Q (pc + 3) L rest) : gk_G p l e R s m args below meth c E nL S cells slots Q pc L (.int z :: .int y :: .ref a :: .int x :: .ref a0 :: rest) := by
  intro H locs ls hR hS hl
  subst hx; subst hy; subst hz; subst ha
  have c1 : (nI sp).toNatClampNeg = sp := nI_clamp (by omega)
  have c2 : (nI dp).toNatClampNeg = dp := nI_clamp (by omega)
  have c3 : (nI n).toNatClampNeg = n := nI_clamp (by omega)
  have hat := hR.1 ho i (.inl (E.2.1 0, n1, .inl (S.1 i))) (by unfold gk_fx; rw [hk])
  refine gk_copyr X hl.1 hlink (hrd H hR) hat hS ((X.2.2.2.2.2.1.2.2.2.2.2 ho).2 i (gk_dom_kd hk)) (nI_pos (by omega)) (nI_pos (by omega)) (nI_pos (by omega)) (by rw [c1, c3]; exact h4) (by rw [c2, c3]; exact h5) hframes hlocals hdg (fun H1 locs1 g1 g2 g3 => ?_)
  rw [c1, c2, c3] at g1
  exact k H1 locs1 ls (hR.seti X.2.2.2.2.2.1.2.2.2.2.2 ho hk g1 g2) g3 hl
theorem gk_fx_17 : gk_fx E S 17 = some (.inl (E.2.1 5, 4, .inr (.inr (.inr (.inr (S.2.2.1 0)))))) := rfl
theorem gk_fx_117 : gk_fx E S 117 = some (.inl (E.2.1 5, 4, .inr (.inr (.inr (.inr (S.2.2.1 1)))))) := rfl
/-- the Texts, from one array of them to the other: u, v of 0, 1 -/
theorem g_copyq (X : gk_X p s m args meth c cc own nL E) (ho : E.2.2.2.2 = true) {index a a0 : Nat} (u v : Nat) (huv : (u = 0 ∧ v = 1 ∧ a0 = E.2.2.1 17 ∧ a = E.2.2.1 117) ∨ (u = 1 ∧ v = 0 ∧ a0 = E.2.2.1 117 ∧ a = E.2.2.1 17)) (hdg : decode cc pc = .ok (.invokestatic index, 3)) (hlink : Cond.methodLink own index arraycopyName ∈ lw_all) (hel : ∀ i : Nat, i < 4 → ∀ y : Nat, S.2.2.1 u i = some y → ∃ fs, S.2.2.2 y = some (.inr (4, fs))) (hframes : 1 ≤ R.frames) (hlocals : (rest.map fun v => v.category).sum + (nativeFrameWords "java/lang/System" "arraycopy" 5 + 11) ≤ R.locals)
    (k : gk_G p l e R s m args below meth c E nL (gk_sq S v (va_cpy (S.2.2.1 u) (S.2.2.1 v) 0 0 4)) cells slots Q (pc + 3) L rest) : gk_G p l e R s m args below meth c E nL S cells slots Q pc L (.int 4 :: .int 0 :: .ref a :: .int 0 :: .ref a0 :: rest) := by
  intro H locs ls hR hS hl
  have hK := X.2.2.2.2.2.1.1
  have hcu : H[a0]? = some (vp_cell (E.2.1 5) (4, .inr (.inr (.inr (.inr (S.2.2.1 u)))))) := by
    rcases huv with ⟨rfl, rfl, rfl, rfl⟩ | ⟨rfl, rfl, rfl, rfl⟩
    · exact hR.1 ho 17 _ gk_fx_17
    · exact hR.1 ho 117 _ gk_fx_117
  have hcv : H[a]? = some (vp_cell (E.2.1 5) (4, .inr (.inr (.inr (.inr (S.2.2.1 v)))))) := by
    rcases huv with ⟨rfl, rfl, rfl, rfl⟩ | ⟨rfl, rfl, rfl, rfl⟩
    · exact hR.1 ho 117 _ gk_fx_117
    · exact hR.1 ho 17 _ gk_fx_17
  have hBa : E.2.2.2.1 ≤ a := by
    rcases huv with ⟨_, _, _, rfl⟩ | ⟨_, _, _, rfl⟩
    · exact (X.2.2.2.2.2.1.2.2.2.2.2 ho).2 117 rfl
    · exact (X.2.2.2.2.2.1.2.2.2.2.2 ho).2 17 rfl
  have hnew : ∀ (H1 : Heap), va_at E.1 gk_cl (a, .inl (E.2.1 5, 4, .inr (.inr (.inr (.inr (va_cpy (S.2.2.1 u) (S.2.2.1 v) 0 0 4)))))) H1 → (∀ q, q ≠ a → H1[q]? = H[q]?) → gk_R E (gk_sq S v (va_cpy (S.2.2.1 u) (S.2.2.1 v) 0 0 4)) H1 := by
    intro H1 h1 h2
    rcases huv with ⟨rfl, rfl, rfl, rfl⟩ | ⟨rfl, rfl, rfl, rfl⟩
    · exact hR.setx X.2.2.2.2.2.1.2.2.2.2.2 ho (i := 117) rfl (gk_fx_117 (S := gk_sq S 1 (va_cpy (S.2.2.1 0) (S.2.2.1 1) 0 0 4))) (fun _ hj => gk_fx_q1 hj) rfl h1 h2
    · exact hR.setx X.2.2.2.2.2.1.2.2.2.2.2 ho (i := 17) rfl (gk_fx_17 (S := gk_sq S 0 (va_cpy (S.2.2.1 1) (S.2.2.1 0) 0 0 4))) (fun _ hj => gk_fx_q0 hj) rfl h1 h2
  generalize hf : S.2.2.1 u = f at hcu hel hnew k
  generalize hg : S.2.2.1 v = g at hcv hnew k
  intro T hT X1
  obtain ⟨-, k0, hk0, cm0, hkk0⟩ := (hK.2 5 (E.2.1 5, .object "SownByArgument$Text") rfl).1 4 (fun j => va_rf (f j))
  obtain ⟨-, k1, hk1, cm1, hkk1⟩ := (hK.2 5 (E.2.1 5, .object "SownByArgument$Text") rfl).1 4 (fun j => va_rf (g j))
  have hclT := (hK.1 4 (RX4, TX4, 5) rfl).2
  obtain ⟨vm', X', step⟩ := X1.arraycopy X.1 X.2.2.2.1 (X.2.2.2.2.1 _ hlink) (X.2.2.2.2.1 _ q237) (X.2.2.2.2.1 _ q236) (X.2.2.2.2.1 _ q138) (src := a0) (dst := a) (cs := vp_cell (E.2.1 5) (4, .inr (.inr (.inr (.inr f))))) (cd := vp_cell (E.2.1 5) (4, .inr (.inr (.inr (.inr g))))) (srcPos := 0) (destPos := 0) (n := 4) (by rw [hT]; exact hcu) (by rw [hT]; exact hcv)
    (fun _ h => by cases h) (fun _ h => by cases h) (fun h => by cases h) (fun h => by cases h) hk0 hk1 hkk0 hkk1 rfl (by decide) (by decide) (by decide)
    (by show ¬ _ > ((arrV (E.2.1 5) 4 (fun j => va_rf (f j))).slots.size : Int); rw [arrV_size]; decide)
    (by show ¬ _ > ((arrV (E.2.1 5) 4 (fun j => va_rf (g j))).slots.size : Int); rw [arrV_size]; decide)
    (fun vm₁ hal i hi => by
      have hi : i < 4 := hi
      have e : (vp_cell (E.2.1 5) (4, .inr (.inr (.inr (.inr f))))).slots.getD ((0 : Int32).toNatClampNeg + i) .null = va_rf (f i) := by
        rw [show (0 : Int32).toNatClampNeg + i = i by rw [show (0 : Int32).toNatClampNeg = 0 by decide, Nat.zero_add]]
        show (arrV (E.2.1 5) 4 (fun j => va_rf (f j))).slots.getD _ _ = _
        rw [Array.getD_eq_getD_getElem?, arrV_read _ _ hi]
        rfl
      rw [e]
      cases hy : f i with
      | none => exact ⟨rfl, trivial⟩
      | some y =>
        obtain ⟨fs, hfs⟩ := hel i hi y hy
        obtain ⟨cellV, g1, g2, g3⟩ := gk_recv X (hR.2 y _ hfs).1 (q := (RX4, TX4, 5)) rfl
        obtain ⟨kA, comp, r1, r2, r3, -⟩ := (hK.2 5 (E.2.1 5, .object "SownByArgument$Text") rfl).2
        cases hk1.symm.trans r1
        cases hkk1.symm.trans r2
        obtain ⟨kC, hkC, -⟩ := Vm.findClass_spec g3
        obtain ⟨kE, hkE, -⟩ := Vm.findClass_spec r3
        obtain ⟨kC', hkC', -⟩ := hal.2.2 _ _ hkC
        obtain ⟨kE', hkE', -⟩ := hal.2.2 _ _ hkE
        refine ⟨rfl, cellV, (show T.heap[y]? = some cellV by rw [hT]; exact g1), (fun q h => by rw [h] at g2; cases g2), ⟨kC', hkC'⟩, ?_, ?_⟩
        · exact ⟨kE', hkE'⟩
        · show vm₁.assignable _ _ = true
          rw [hal.assignable]
          have h9 : cellV.cls = cm1 := Option.some.inj (g3.symm.trans r3)
          rw [h9]
          rw [Option.some.inj (r3.symm.trans hclT.1)]
          exact va_assign hclT)
    (g := F0 m pc ls (.int 4 :: .int 0 :: .ref a :: .int 0 :: .ref a0 :: rest)) rfl (by rw [X.2.2.1]; exact hl.1) (rest := rest) rfl (by rw [X.2.1]; exact hdg) hframes (by show 2 * 0 + _ + _ ≤ _; omega)
  have e1 : copied (vp_cell (E.2.1 5) (4, .inr (.inr (.inr (.inr f))))) (vp_cell (E.2.1 5) (4, .inr (.inr (.inr (.inr g))))) 0 0 4 = vp_cell (E.2.1 5) (4, .inr (.inr (.inr (.inr (va_cpy f g 0 0 4))))) := by
    rw [vp_cell_q, vp_cell_q, vp_cell_q]
    exact va_copied (fun z => va_rf z) (E.2.1 5) (E.2.1 5) f g (n := 4) (sp := 0) (dp := 0) (by decide)
  rw [e1] at X' step
  have hla : a < H.size := (Array.getElem?_eq_some_iff.mp hcv).1
  have hheap : ((T.setVm vm').setCell a (vp_cell (E.2.1 5) (4, .inr (.inr (.inr (.inr (va_cpy f g 0 0 4))))))).heap = H.setIfInBounds a (vp_cell (E.2.1 5) (4, .inr (.inr (.inr (.inr (va_cpy f g 0 0 4)))))) := by rw [← hT]; rfl
  have oq : ∀ q : Nat, q ≠ a → (H.setIfInBounds a (vp_cell (E.2.1 5) (4, .inr (.inr (.inr (.inr (va_cpy f g 0 0 4)))))))[q]? = H[q]? := fun q hq => by simp [Array.getElem?_setIfInBounds, Ne.symm hq]
  obtain ⟨t, a1, b1⟩ := k _ _ ls (hnew _ (show (H.setIfInBounds a _)[a]? = some _ by simp [Array.getElem?_setIfInBounds, hla]) oq) ⟨by simp; exact hS.1, fun q g1 g2 => by
      rw [oq q (fun e => g2 (by rw [e]; exact hBa))]
      exact hS.2.1 q g1 g2, fun q hq => by
      rcases List.mem_append.mp hq with h | h
      · exact hS.2.2 q h
      · obtain ⟨z, -, hz⟩ := List.mem_map.mp h
        rw [← hz]
        exact hBa⟩ hl _ hheap X'
  exact ⟨t, step t a1, b1⟩
end GK6
theorem g_top {p : Program} {l : Launch} {e : Env} {R : Room} {s : State} {m : MethodId} {args : Array Value} {below : List Frame} {meth : Method} {c : Code} {Q : State → Prop} {E : gk_E} {nL : Nat} {S : gk_S} {cells slots pc : Nat} {L : List (Option Value)} {rest : List Value} {x y : Int32} (h : x = y) (k : gk_G p l e R s m args below meth c E nL S cells slots Q pc L (.int y :: rest)) : gk_G p l e R s m args below meth c E nL S cells slots Q pc L (.int x :: rest) := by rw [h]; exact k
