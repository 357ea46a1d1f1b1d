/-! ROWS: new arrays of references, storing into them -/
set_option maxRecDepth 100000
section GKA
variable {p : Program} {l : Launch} {e : Env} {R : Room} {s : State} {m : MethodId} {args : Array Value} {below : List Frame} {meth : Method} {c : Code} {Q : State → Prop} {E : gk_E} {nL : Nat} {S : gk_S} {cells slots pc : Nat} {L : List (Option Value)} {rest : List Value} {cc : ByteArray} {own : String}
theorem g_anew (X : gk_X p s m args meth c cc own nL E) {t N index : Nat} {C : String} {n : Int32} (hdg : decode cc pc = .ok (.anewarray index, 3)) (hcl : Cond.classLink own index C ∈ lw_all) (hC : C ∈ gk_ao) (ht : (gk_tys E.2.1)[t]? = some (E.2.1 t, .object C)) (hn : n = nI N) (hN : N < 100000) (hcells : cells + 1 ≤ R.cells) (hslots : slots + N ≤ R.slots)
    (kk : ∀ q : Nat, S.2.2.2 q = none → E.2.2.2.1 ≤ q → gk_G p l e R s m args below meth c E nL (gk_sd S q (.inl (E.2.1 t, N, .inr (.inr (.inr (.inr (fun _ => none))))))) (cells + 1) (slots + N) Q (pc + 3) L (.ref q :: rest)) : gk_G p l e R s m args below meth c E nL S cells slots Q pc L (.int n :: rest) := by
  intro H locs ls hR hS hl
  have hn0 : ¬ n < 0 := by rw [hn]; exact nI_pos (by omega)
  have hnN : n.toNatClampNeg = N := by rw [hn]; exact nI_clamp (by omega)
  subst hnN
  refine W.anew X.1 X.2.1 X.2.2.2.1 (X.2.2.2.2.1 _ hcl) (va_AO.use (X.2.2.2.2.2.1.2.2.2.2.1 _ hC)) rfl hdg rfl hn0 (by omega) hcells hslots fun cA kA comp f1 f2 f3 f4 => ?_
  obtain ⟨kA', comp', g1, g2, g3, g4⟩ := (X.2.2.2.2.2.1.1.2 t _ ht).2
  have hcA : cA = E.2.1 t := Option.some.inj (f1.symm.trans g4)
  subst hcA
  generalize hH1 : H.push ({ cls := E.2.1 t, slots := Array.replicate n.toNatClampNeg .null, vm := .none } : Cell) = H1
  have z1 : H1.size = H.size + 1 := by rw [← hH1, Array.size_push]
  have e1 : H1[H.size]? = some (arrV (E.2.1 t) n.toNatClampNeg (fun _ => .null)) := by rw [← hH1, Array.getElem?_push_size, ← arrV_new]
  have o1 : ∀ q : Nat, q < H.size → H1[q]? = H[q]? := fun q hq => by rw [← hH1, Array.getElem?_push, if_neg (Nat.ne_of_lt hq)]
  obtain ⟨h1, h2⟩ := hR.new (e' := .inl (E.2.1 t, n.toNatClampNeg, .inr (.inr (.inr (.inr (fun _ => none)))))) (by show H1[H.size]? = some (vp_cell _ _); rw [vp_cell_q]; exact e1) o1
  exact kk H.size h2 (Nat.le_trans X.2.2.2.2.2.2.1 hS.1) H1 locs ls h1 ⟨Nat.le_trans hS.1 (by omega), fun x g1 g2 => (o1 x (Nat.lt_of_lt_of_le g1 hS.1)).trans (hS.2.1 x g1 g2), hS.2.2⟩ hl
theorem g_aastd (X : gk_X p s m args meth c cc own nL E) {a n j v ci t N : Nat} {C Cc : String} {T : u_T} {vs : List Value} {f : Nat → Option Nat} {y : Int32} (hdg : decode cc pc = .ok (.aastore, 1)) (ht : (gk_tys E.2.1)[t]? = some (E.2.1 t, .object C)) (hca : Cond.castable Cc C ∈ lw_tbl) (hat : S.2.2.2 a = some (.inl (E.2.1 t, n, .inr (.inr (.inr (.inr f)))))) (ha : E.2.2.2.1 ≤ a) (hrd : gk_Rd E S v (.inr (ci, vs))) (hc : gk_cl[ci]? = some (Cc, T, N)) (hy : y = nI j) (hj : j < n) (hn : n < 2 ^ 31)
    (k : gk_G p l e R s m args below meth c E nL (gk_sd S a (.inl (E.2.1 t, n, .inr (.inr (.inr (.inr (va_up f j (some v)))))))) cells slots Q (pc + 1) L rest) : gk_G p l e R s m args below meth c E nL S cells slots Q pc L (.ref v :: .int y :: .ref a :: rest) := by
  intro H locs ls hR hS hl
  subst hy
  have hcj : (nI j).toNatClampNeg = j := nI_clamp (Nat.lt_trans hj hn)
  have h0 : ¬ nI j < 0 := nI_pos (Nat.lt_trans hj hn)
  obtain ⟨r', hr', cellV, g1, g2, g3, -⟩ := hrd H hR
  have hcls := (X.2.2.2.2.2.1.1.1 ci _ hc).2
  obtain ⟨kA, comp, k1, k2, k3, -⟩ := (X.2.2.2.2.2.1.1.2 t _ ht).2
  obtain ⟨kE, hkE, -⟩ := Vm.findClass_spec k3
  obtain ⟨c0, t1, f1, f2, f3⟩ := Cond.castable_spec (va_Nw.use (A := args) rfl (X.2.2.2.2.2.1.2.1 _ hca rfl))
  cases hcls.1.symm.trans f1
  cases k3.symm.trans f2
  obtain ⟨kC, hkC, -⟩ := hcls.2
  refine W.aast X.1 X.2.1 (hR.2 a _ hat).1 (fun q h => by cases h) (fun h => by cases h) k1 k2 rfl hkE ⟨h0, by show _ < (arrV _ _ _).slots.size; rw [arrV_size, hcj]; exact hj⟩ g1 (fun q h => by rw [g3] at h; cases h) (by rw [g2]; exact hkC) (by rw [g2]; exact f3) rfl rfl hdg fun H1 e1 z oq => ?_
  refine k H1 _ ls (hR.setd hat ?_ oq) (hS.put z oq ha) hl
  show H1[a]? = some (vp_cell _ _)
  rw [e1]
  rw [vp_cell_q, vp_cell_q, arrV_store, hcj]
  congr 2
  funext q
  by_cases hq : q = j
  · subst hq
    simp [updV, va_up, va_rf]
  · simp [updV, va_up, hq]
end GKA
theorem gk_obj : ∀ (ci : Nat) (r : vw_C), gk_cl[ci]? = some r → Cond.castable r.1 "java/lang/Object" ∈ lw_tbl := by
  have h : (List.range 19).all (fun ci => match gk_cl[ci]? with | some r => decide (Cond.castable r.1 "java/lang/Object" ∈ lw_tbl) | none => false) = true := by decide +kernel
  intro ci r hr
  have hlt : ci < 19 := (List.getElem?_eq_some_iff.mp hr).1
  have h1 := List.all_eq_true.mp h ci (List.mem_range.mpr hlt)
  rw [hr] at h1
  exact of_decide_eq_true h1
section GKB
variable {p : Program} {l : Launch} {e : Env} {R : Room} {s : State} {m : MethodId} {args : Array Value} {below : List Frame} {meth : Method} {c : Code} {Q : State → Prop} {E : gk_E} {nL : Nat} {S : gk_S} {cells slots pc : Nat} {L : List (Option Value)} {rest : List Value} {cc : ByteArray} {own : String}
/-- the objects of an Object[] are copied into another that isn't fixed -/
theorem g_copyO (X : gk_X p s m args meth c cc own nL E) {index a a0 n0 n1 n : Nat} {f g : Nat → Option Nat} {x y z : Int32} (hdg : decode cc pc = .ok (.invokestatic index, 3)) (hlink : Cond.methodLink own index arraycopyName ∈ lw_all) (hrd : gk_Rd E S a0 (.inl (E.2.1 6, n0, .inr (.inr (.inr (.inr f)))))) (hat : S.2.2.2 a = some (.inl (E.2.1 6, n1, .inr (.inr (.inr (.inr g)))))) (ha : E.2.2.2.1 ≤ a) (hx : x = 0) (hy : y = 0) (hz : z = nI n) (h4 : n ≤ n0) (h5 : n ≤ n1) (hn0 : n0 < 2 ^ 31) (hel : ∀ i : Nat, i < n → ∀ y : Nat, f i = some y → ∃ ci fs, S.2.2.2 y = some (.inr (ci, fs))) (hframes : 1 ≤ R.frames) (hlocals : (rest.map fun v => v.category).sum + (nativeFrameWords "java/lang/System" "arraycopy" 5 + 11) ≤ R.locals)
    (k : gk_G p l e R s m args below meth c E nL (gk_sd S a (.inl (E.2.1 6, n1, .inr (.inr (.inr (.inr (va_cpy f g 0 0 n))))))) cells slots Q (pc + 3) L rest) : gk_G p l e R s m args below meth c E nL S cells slots Q pc L (.int z :: .int y :: .ref a :: .int x :: .ref a0 :: rest) := by
  intro H locs ls hR hS hl
  subst hx; subst hy; subst hz
  have hK := X.2.2.2.2.2.1.1
  have c0 : (0 : Int32).toNatClampNeg = 0 := by decide
  have c3 : (nI n).toNatClampNeg = n := nI_clamp (by omega)
  have p3 : (nI n).toInt = (n : Int) := nI_toInt (by omega)
  have hcu : H[a0]? = some (vp_cell (E.2.1 6) (n0, .inr (.inr (.inr (.inr f))))) := hrd H hR
  have hcv : H[a]? = some (vp_cell (E.2.1 6) (n1, .inr (.inr (.inr (.inr g))))) := (hR.2 a _ hat).1
  intro T hT X1
  obtain ⟨-, k0, hk0, cm0, hkk0⟩ := (hK.2 6 (E.2.1 6, .object "java/lang/Object") rfl).1 n0 (fun j => va_rf (f j))
  obtain ⟨-, k1, hk1, cm1, hkk1⟩ := (hK.2 6 (E.2.1 6, .object "java/lang/Object") rfl).1 n1 (fun j => va_rf (g j))
  obtain ⟨vm', X', step⟩ := X1.arraycopy X.1 X.2.2.2.1 (X.2.2.2.2.1 _ hlink) (X.2.2.2.2.1 _ q237) (X.2.2.2.2.1 _ q236) (X.2.2.2.2.1 _ q138) (src := a0) (dst := a) (cs := vp_cell (E.2.1 6) (n0, .inr (.inr (.inr (.inr f))))) (cd := vp_cell (E.2.1 6) (n1, .inr (.inr (.inr (.inr g))))) (srcPos := 0) (destPos := 0) (n := nI n) (by rw [hT]; exact hcu) (by rw [hT]; exact hcv)
    (fun _ h => by cases h) (fun _ h => by cases h) (fun h => by cases h) (fun h => by cases h) hk0 hk1 hkk0 hkk1 rfl (by decide) (by decide) (nI_pos (by omega))
    (by rw [p3, show (0 : Int32).toInt = 0 by decide]; show ¬ _ > ((arrV (E.2.1 6) n0 (fun j => va_rf (f j))).slots.size : Int); rw [arrV_size]; omega)
    (by rw [p3, show (0 : Int32).toInt = 0 by decide]; show ¬ _ > ((arrV (E.2.1 6) n1 (fun j => va_rf (g j))).slots.size : Int); rw [arrV_size]; omega)
    (fun vm₁ hal i hi => by
      have hi : i < n := by rw [c3] at hi; exact hi
      have e : (vp_cell (E.2.1 6) (n0, .inr (.inr (.inr (.inr f))))).slots.getD ((0 : Int32).toNatClampNeg + i) .null = va_rf (f i) := by
        rw [show (0 : Int32).toNatClampNeg + i = i by rw [c0, Nat.zero_add]]
        show (arrV (E.2.1 6) n0 (fun j => va_rf (f j))).slots.getD _ _ = _
        rw [Array.getD_eq_getD_getElem?, arrV_read _ _ (by omega)]
        rfl
      rw [e]
      cases hy : f i with
      | none => exact ⟨rfl, trivial⟩
      | some y =>
        obtain ⟨ci, fs, hfs⟩ := hel i hi y hy
        obtain ⟨r, hr, cell9, w1, w2, w3, -⟩ := (hR.2 y _ hfs).1
        have hclT := (hK.1 ci r hr).2
        obtain ⟨kA, comp, r1, r2, r3, -⟩ := (hK.2 6 (E.2.1 6, .object "java/lang/Object") rfl).2
        cases hk1.symm.trans r1
        cases hkk1.symm.trans r2
        obtain ⟨c9, t9, f1, f2, f3⟩ := Cond.castable_spec (va_Nw.use (A := args) rfl (X.2.2.2.2.2.1.2.1 _ (gk_obj ci r hr) rfl))
        cases hclT.1.symm.trans f1
        cases r3.symm.trans f2
        obtain ⟨kC, hkC, -⟩ := hclT.2
        obtain ⟨kE, hkE, -⟩ := Vm.findClass_spec r3
        obtain ⟨kC', hkC', -⟩ := hal.2.2 _ _ hkC
        obtain ⟨kE', hkE', -⟩ := hal.2.2 _ _ hkE
        refine ⟨rfl, cell9, (show T.heap[y]? = some cell9 by rw [hT]; exact w1), (fun q h => by rw [w3] at h; cases h), ⟨kC', by rw [w2]; exact hkC'⟩, ?_, ?_⟩
        · exact ⟨kE', hkE'⟩
        · show vm₁.assignable _ _ = true
          rw [hal.assignable, w2]
          exact f3)
    (g := F0 m pc ls (.int (nI n) :: .int 0 :: .ref a :: .int 0 :: .ref a0 :: rest)) rfl (by rw [X.2.2.1]; exact hl.1) (rest := rest) rfl (by rw [X.2.1]; exact hdg) hframes (by show 2 * 0 + _ + _ ≤ _; omega)
  have e1 : copied (vp_cell (E.2.1 6) (n0, .inr (.inr (.inr (.inr f))))) (vp_cell (E.2.1 6) (n1, .inr (.inr (.inr (.inr g))))) 0 0 (nI n) = vp_cell (E.2.1 6) (n1, .inr (.inr (.inr (.inr (va_cpy f g 0 0 n))))) := by
    rw [vp_cell_q, vp_cell_q, vp_cell_q]
    have h9 := va_copied (fun z => va_rf z) (E.2.1 6) (E.2.1 6) f g (n0 := n0) (n1 := n1) (n := n) (sp := 0) (dp := 0) (by omega)
    unfold copied
    rw [c0, c3]
    exact h9
  rw [e1] at X' step
  have hla : a < H.size := (Array.getElem?_eq_some_iff.mp hcv).1
  have hheap : ((T.setVm vm').setCell a (vp_cell (E.2.1 6) (n1, .inr (.inr (.inr (.inr (va_cpy f g 0 0 n))))))).heap = H.setIfInBounds a (vp_cell (E.2.1 6) (n1, .inr (.inr (.inr (.inr (va_cpy f g 0 0 n)))))) := by rw [← hT]; rfl
  have oq : ∀ q : Nat, q ≠ a → (H.setIfInBounds a (vp_cell (E.2.1 6) (n1, .inr (.inr (.inr (.inr (va_cpy f g 0 0 n)))))))[q]? = H[q]? := fun q hq => by simp [Array.getElem?_setIfInBounds, Ne.symm hq]
  obtain ⟨t, a1, b1⟩ := k _ _ ls (hR.setd hat (show (H.setIfInBounds a _)[a]? = some _ by simp [Array.getElem?_setIfInBounds, hla]) oq) ⟨by simp; exact hS.1, fun q g1 g2 => by
      rw [oq q (fun e => g2 (by rw [e]; exact ha))]
      exact hS.2.1 q g1 g2, fun q hq => by
      rcases List.mem_append.mp hq with h | h
      · exact hS.2.2 q h
      · obtain ⟨z, -, hz⟩ := List.mem_map.mp h
        rw [← hz]
        exact ha⟩ hl _ hheap X'
  exact ⟨t, step t a1, b1⟩
end GKB
