/-! ROWS: casts, calls through the interfaces Sum and Asked -/
set_option maxRecDepth 100000
theorem lw_F {own : String} {idx : Nat} {C : String} {x y : MethodName} {b : ByteArray} {L : Nat} {r : Option FieldType} (h1 : Cond.methodLink own idx x ∈ lw_all) (h2 : Cond.instanceMethod y ∈ lw_all) (h3 : Cond.selects C x y ∈ lw_all) (h4 : Cond.initialized y.cls ∈ lw_all) (h5 : Cond.code y b L r ∈ lw_all) : GoodIn lw_all (va_wsF own idx C x y (ws_ y b L r)) := by
  refine lw_app ?_ (lw_meth h5)
  intro w hw
  simp only [List.mem_cons, List.not_mem_nil, or_false] at hw
  rcases hw with e | e | e | e
  · rw [e]; exact h1
  · rw [e]; exact h3
  · rw [e]; exact h2
  · rw [e]; exact h4
/-- the object at b answers the interface's method x over S by post -/
def gk_Im (l : Launch) (E : gk_E) (x : MethodName) (fr lo : Nat) (b : Nat) (As : List Value) (S : gk_S) (post : Option Value → gk_S → Prop) : Prop :=
  ∃ (y : MethodName) (cc : ByteArray) (nL : Nat) (ret : Option FieldType) (C : String) (T : u_T) (N ci : Nat) (fs : List Value), (C, x, y) ∈ gk_fw ∧ gk_cl[ci]? = some (C, T, N) ∧ gk_Rd E S b (.inr (ci, fs)) ∧ gk_T l E y cc nL ret fr lo 0 0 (.ref b :: As) S post ∧ nL ≤ 10 ∧
    Cond.instanceMethod y ∈ lw_all ∧ Cond.selects C x y ∈ lw_all ∧ Cond.initialized y.cls ∈ lw_all ∧ Cond.code y cc nL ret ∈ lw_all
section GK9
variable {p : Program} {l : Launch} {e : Env} {R : Room} {s : State} {m : MethodId} {args : Array Value} {below : List Frame} {meth : Method} {c : Code} {Q : State → Prop} {E : gk_E} {nL : Nat} {S : gk_S} {cells slots pc : Nat} {L : List (Option Value)} {rest : List Value} {cc : ByteArray} {own : String}
theorem gk_run5 {H : Heap} {locs : List Loc} {ls : Array Slot} {mc ms : Nat} {st0 : List Value} {a : Array Value} {post : Option Value → gk_S → Prop} (hr : va_Run5 p l e R s m args below meth c H locs cells slots mc ms (F0 m pc ls st0) rest (gk_Q E post a) (fun q => E.2.2.2.1 ≤ q)) (hS : va_S (fun q => E.2.2.2.1 ≤ q) s.heap H locs) (hl : gk_L ls nL L)
    (kk : ∀ (r : Option Value) (S' : gk_S), post r S' → gk_G p l e R s m args below meth c E nL S' (cells + mc) (slots + ms) Q (pc + 5) L (r.toList ++ rest)) : W p l e R s m args below meth c H locs cells slots Q (F0 m pc ls st0) := by
  intro T hT X
  obtain ⟨v, st₀, t, T', L1, h0, X', hL, e1, e2, ⟨⟨r, S', hv, hp, hR'⟩, hz, hk⟩, st⟩ := hr T hT X
  cases hv
  rw [h0] at hz hk
  obtain ⟨t2, a1, b1⟩ := kk v S' hp T'.heap (locs ++ L1) ls (by rw [e1]; exact hR')
    ⟨Nat.le_trans hS.1 (by rw [e1]; exact hz), fun q h1 h2 => by rw [e1, hk q (Nat.lt_of_lt_of_le h1 hS.1) h2]; exact hS.2.1 q h1 h2, fun q hq => by
      rcases List.mem_append.mp hq with h | h
      · exact hS.2.2 q h
      · exact hL q h⟩ hl T' rfl X'
  exact ⟨t2, st t2 a1, b1⟩
theorem g_castY (X : gk_X p s m args meth c cc own nL E) {C nm : String} {T : u_T} {N ci index b : Nat} {fs : List Value} (hdg : decode cc pc = .ok (.checkcast index, 3)) (hlink : Cond.classLink own index nm ∈ lw_all) (hc : Cond.castable C nm ∈ lw_tbl) (hrd : gk_Rd E S b (.inr (ci, fs))) (hcl : gk_cl[ci]? = some (C, T, N))
    (k : gk_G p l e R s m args below meth c E nL S cells slots Q (pc + 3) L (.ref b :: rest)) : gk_G p l e R s m args below meth c E nL S cells slots Q pc L (.ref b :: rest) := fun H locs ls hR hS hl =>
  va_castY X.1 X.2.1 X.2.2.2.1 (X.2.2.2.2.1 _ hlink) (X.2.2.2.2.2.1.2.1 _ hc rfl) (gk_recv X (hrd H hR) hcl) hdg (k H locs ls hR hS hl)
theorem g_castS (X : gk_X p s m args meth c cc own nL E) {C : String} {T : u_T} {N ci index b : Nat} {fs : List Value} (hdg : decode cc pc = .ok (.checkcast index, 3)) (hlink : Cond.classLink own index C ∈ lw_all) (hrd : gk_Rd E S b (.inr (ci, fs))) (hcl : gk_cl[ci]? = some (C, T, N))
    (k : gk_G p l e R s m args below meth c E nL S cells slots Q (pc + 3) L (.ref b :: rest)) : gk_G p l e R s m args below meth c E nL S cells slots Q pc L (.ref b :: rest) := fun H locs ls hR hS hl =>
  va_castS X.1 X.2.1 X.2.2.2.1 (X.2.2.2.2.1 _ hlink) ((X.2.2.2.2.2.1.1.1 ci _ hcl).2) (gk_recv X (hrd H hR) hcl) hdg (k H locs ls hR hS hl)
theorem g_callF (X : gk_X p s m args meth c cc own nL E) {x : MethodName} {index count fr lo n b : Nat} {As : List Value} {post : Option Value → gk_S → Prop} (hM : gk_Im l E x fr lo b As S post) (hlink : Cond.methodLink own index x ∈ lw_all) (hd : x.cls ≠ "java/lang/invoke/MethodHandle" ∧ x.cls ≠ "java/lang/invoke/VarHandle" ∧ (parseMethodDescriptor x.desc).map (fun d => d.parameters.length) = some n) (hdg : decode cc pc = .ok (.invokeinterface index count, 5)) (hn : As.length = n) (hroom : fr + 1 ≤ R.frames ∧ 29 + lo ≤ R.locals) (hcap : cells ≤ R.cells ∧ slots ≤ R.slots) (hrest : (rest.map fun v => v.category).sum ≤ 8)
    (kk : ∀ (r : Option Value) (S' : gk_S), post r S' → gk_G p l e R s m args below meth c E nL S' cells slots Q (pc + 5) L (r.toList ++ rest)) : gk_G p l e R s m args below meth c E nL S cells slots Q pc L (As.reverse ++ .ref b :: rest) := by
  obtain ⟨y, bytes, maxL, ret, C, T, N, ci, fs, hfw, hcl, hrd, hT, hnL, w1, w2, w3, w4⟩ := hM
  exact fun H locs ls hR hS hl =>
  gk_run5 (va_runF (As := As) (rest := rest) ((X.2.2.2.2.2.1.1.1 ci _ hcl).2) ⟨X.1, X.2.1, X.2.2.1, X.2.2.2.1, X.2.2.2.2.1⟩ hT (va_cwF n X.2.2.2.2.1 (lw_F hlink w1 w2 w3 w4) rfl rfl rfl (X.2.2.2.2.2.1.2.2.2.1 _ hfw) hd (by dsimp only; omega)) ⟨gk_blind, gk_recv X (hrd H hR) hcl, fun U hU hW => ⟨rfl, X.pre hR hS U hU hW⟩⟩ rfl hn hl.1 rfl (lv_room hrest) hdg hcap) hS hl kk
theorem g_castI (X : gk_X p s m args meth c cc own nL E) {x : MethodName} {index fr lo b : Nat} {As : List Value} {post : Option Value → gk_S → Prop} (hM : gk_Im l E x fr lo b As S post) (hdg : decode cc pc = .ok (.checkcast index, 3)) (hlink : Cond.classLink own index x.cls ∈ lw_all)
    (k : gk_G p l e R s m args below meth c E nL S cells slots Q (pc + 3) L (.ref b :: rest)) : gk_G p l e R s m args below meth c E nL S cells slots Q pc L (.ref b :: rest) := by
  obtain ⟨y, bytes, maxL, ret, C, T, N, ci, fs, hfw, hcl, hrd, -⟩ := hM
  exact fun H locs ls hR hS hl => va_castY X.1 X.2.1 X.2.2.2.1 (X.2.2.2.2.1 _ hlink) (X.2.2.2.2.2.1.2.2.2.1 _ hfw).2.2.2.2 (gk_recv X (hrd H hR) hcl) hdg (k H locs ls hR hS hl)
end GK9
theorem hd_ofT : gk_ofT.cls ≠ "java/lang/invoke/MethodHandle" ∧ gk_ofT.cls ≠ "java/lang/invoke/VarHandle" ∧ (parseMethodDescriptor gk_ofT.desc).map (fun d => d.parameters.length) = some 1 := by decide +kernel
theorem hd_isT : gk_isT.cls ≠ "java/lang/invoke/MethodHandle" ∧ gk_isT.cls ≠ "java/lang/invoke/VarHandle" ∧ (parseMethodDescriptor gk_isT.desc).map (fun d => d.parameters.length) = some 1 := by decide +kernel
