/-! ROWS: new arrays of references, storing into them -/
set_option maxRecDepth 100000
section GKA
variable {p : Program} {l : Launch} {e : Env} {R : Room} {s : State} {m : MethodId} {args : Array Value} {below : List Frame} {meth : Method} {c : Code} {Q : State → Prop} {E : gk_E} {nL : Nat} {S : gk_S} {cells slots pc : Nat} {L : List (Option Value)} {rest : List Value} {cc : ByteArray} {own : String}
theorem g_anew (X : gk_X p s m args meth c cc own nL E) {t N index : Nat} {C : String} {n : Int32} (hdg : decode cc pc = .ok (.anewarray index, 3)) (hcl : Cond.classLink own index C ∈ lw_all) (hC : C ∈ gk_ao) (ht : (gk_tys E.2.1)[t]? = some (E.2.1 t, .object C)) (hn : n = nI N) (hN : N < 100000) (hcells : cells + 1 ≤ R.cells) (hslots : slots + N ≤ R.slots)
    (kk : ∀ q : Nat, S.2.2.2 q = none → E.2.2.2.1 ≤ q → gk_G p l e R s m args below meth c E nL (gk_sd S q (.inl (E.2.1 t, N, .inr (.inr (.inr (.inr (fun _ => none))))))) (cells + 1) (slots + N) Q (pc + 3) L (.ref q :: rest)) : gk_G p l e R s m args below meth c E nL S cells slots Q pc L (.int n :: rest) := by
  intro H locs ls hR hS hl
  have hn0 : ¬ n < 0 := by rw [hn]; exact nI_pos (by omega)
  have hnN : n.toNatClampNeg = N := by rw [hn]; exact nI_clamp (by omega)
  subst hnN
  refine W.anew X.1 X.2.1 X.2.2.2.1 (X.2.2.2.2.1 _ hcl) (va_AO.use (X.2.2.2.2.2.1.2.2.2.2.1 _ hC)) rfl hdg rfl hn0 (by omega) hcells hslots fun cA kA comp f1 f2 f3 f4 => ?_
  obtain ⟨kA', comp', g1, g2, g3, g4⟩ := (X.2.2.2.2.2.1.1.2 t _ ht).2
  have hcA : cA = E.2.1 t := Option.some.inj (f1.symm.trans g4)
  subst hcA
  generalize hH1 : H.push ({ cls := E.2.1 t, slots := Array.replicate n.toNatClampNeg .null, vm := .none } : Cell) = H1
  have z1 : H1.size = H.size + 1 := by rw [← hH1, Array.size_push]
  have e1 : H1[H.size]? = some (arrV (E.2.1 t) n.toNatClampNeg (fun _ => .null)) := by rw [← hH1, Array.getElem?_push_size, ← arrV_new]
  have o1 : ∀ q : Nat, q < H.size → H1[q]? = H[q]? := fun q hq => by rw [← hH1, Array.getElem?_push, if_neg (Nat.ne_of_lt hq)]
  obtain ⟨h1, h2⟩ := hR.new (e' := .inl (E.2.1 t, n.toNatClampNeg, .inr (.inr (.inr (.inr (fun _ => none)))))) (by show H1[H.size]? = some (vp_cell _ _); rw [vp_cell_q]; exact e1) o1
  exact kk H.size h2 (Nat.le_trans X.2.2.2.2.2.2.1 hS.1) H1 locs ls h1 ⟨Nat.le_trans hS.1 (by omega), fun x g1 g2 => (o1 x (Nat.lt_of_lt_of_le g1 hS.1)).trans (hS.2.1 x g1 g2), hS.2.2⟩ hl
theorem g_aastd (X : gk_X p s m args meth c cc own nL E) {a n j v ci t N : Nat} {C Cc : String} {T : u_T} {vs : List Value} {f : Nat → Option Nat} {y : Int32} (hdg : decode cc pc = .ok (.aastore, 1)) (ht : (gk_tys E.2.1)[t]? = some (E.2.1 t, .object C)) (hca : Cond.castable Cc C ∈ lw_tbl) (hat : S.2.2.2 a = some (.inl (E.2.1 t, n, .inr (.inr (.inr (.inr f)))))) (ha : E.2.2.2.1 ≤ a) (hrd : gk_Rd E S v (.inr (ci, vs))) (hc : gk_cl[ci]? = some (Cc, T, N)) (hy : y = nI j) (hj : j < n) (hn : n < 2 ^ 31)
    (k : gk_G p l e R s m args below meth c E nL (gk_sd S a (.inl (E.2.1 t, n, .inr (.inr (.inr (.inr (va_up f j (some v)))))))) cells slots Q (pc + 1) L rest) : gk_G p l e R s m args below meth c E nL S cells slots Q pc L (.ref v :: .int y :: .ref a :: rest) := by
  intro H locs ls hR hS hl
  subst hy
  have hcj : (nI j).toNatClampNeg = j := nI_clamp (Nat.lt_trans hj hn)
  have h0 : ¬ nI j < 0 := nI_pos (Nat.lt_trans hj hn)
  obtain ⟨r', hr', cellV, g1, g2, g3, -⟩ := hrd H hR
  have hcls := (X.2.2.2.2.2.1.1.1 ci _ hc).2
  obtain ⟨kA, comp, k1, k2, k3, -⟩ := (X.2.2.2.2.2.1.1.2 t _ ht).2
  obtain ⟨kE, hkE, -⟩ := Vm.findClass_spec k3
  obtain ⟨c0, t1, f1, f2, f3⟩ := Cond.castable_spec (va_Nw.use (A := args) rfl (X.2.2.2.2.2.1.2.1 _ hca rfl))
  cases hcls.1.symm.trans f1
  cases k3.symm.trans f2
  obtain ⟨kC, hkC, -⟩ := hcls.2
  refine W.aast X.1 X.2.1 (hR.2 a _ hat).1 (fun q h => by cases h) (fun h => by cases h) k1 k2 rfl hkE ⟨h0, by show _ < (arrV _ _ _).slots.size; rw [arrV_size, hcj]; exact hj⟩ g1 (fun q h => by rw [g3] at h; cases h) (by rw [g2]; exact hkC) (by rw [g2]; exact f3) rfl rfl hdg fun H1 e1 z oq => ?_
  refine k H1 _ ls (hR.setd hat ?_ oq) (hS.put z oq ha) hl
  show H1[a]? = some (vp_cell _ _)
  rw [e1]
  rw [vp_cell_q, vp_cell_q, arrV_store, hcj]
  congr 2
  funext q
  by_cases hq : q = j
  · subst hq
    simp [updV, va_up, va_rf]
  · simp [updV, va_up, hq]
end GKA
