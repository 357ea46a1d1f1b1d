/-! CONTRACTS THAT MAY THROW A Wrong, over the picture -/
set_option maxRecDepth 100000
/-- the two statics that Throwable's constructor reads -/
def gk_Z (E : gk_E) (U : State) (H : Heap) : Prop := vz_Zq Bundle.tN "UNASSIGNED_STACK" Bundle.steD (fun q => E.2.2.2.1 ≤ q) U H ∧ vz_Zq Bundle.tN "SUPPRESSED_SENTINEL" Bundle.listD (fun q => E.2.2.2.1 ≤ q) U H ∧ va_Nw (.declares (Bundle.init0 Bundle.tN)) U ∧ va_Dc U ∧ va_Mi "[Ljava/lang/Object;" (E.2.2.1 905) U ∧ ArrOfT U (E.2.1 8) (.object "java/lang/Integer") ∧
  (∀ i, i < 28 → va_O "java/lang/String" (E.2.2.1 (1000 + i)) (fun q => E.2.2.2.1 ≤ q) U H ∧ va_OF "java/lang/String" "coder" "B" (.int 0) (E.2.2.1 (1000 + i)) (fun q => E.2.2.2.1 ≤ q) U H ∧ va_OF "java/lang/String" "value" "[B" (.ref (E.2.2.1 (1100 + i))) (E.2.2.1 (1000 + i)) (fun q => E.2.2.2.1 ≤ q) U H) ∧
  va_Zq "jdk/internal/util/Preconditions" "SIOOBE_FORMATTER" "Ljava/util/function/BiFunction;" (fun q => E.2.2.2.1 ≤ q) U H ∧ vk_R "SownByArgument$Tokens" 53 "<>=#+-*/();" (E.2.2.1 1027) U
theorem gk_Z.moved {E : gk_E} {u U : State} {H : Heap} (hW : u.WarmedH U.vm) (h : gk_Z E u H) : gk_Z E U H := by
  have hvm := hW.alike
  obtain ⟨h1, h2, h3, h4, h5, h6, h7, h8, h9⟩ := h
  exact ⟨vz_Zq.moved hvm h1, vz_Zq.moved hvm h2, va_tabs rfl (rfl : (u.setVm U.vm).vm = U.vm) (by rw [Cond.declares_setVm hvm]; exact h3), va_Dc.moved hvm h4, va_Mi.moved hvm h5, arrOfT_moved hvm h6, fun i hi => ⟨va_O.moved hvm (h7 i hi).1, va_OF.moved hvm (h7 i hi).2.1, va_OF.moved hvm (h7 i hi).2.2⟩, va_Zq.moved hvm h8, vk_R.warm hW h9⟩
theorem gk_Z.kept {E : gk_E} {U : State} {H H1 : Heap} (hq : ∀ a : Nat, a < H.size → ¬ E.2.2.2.1 ≤ a → H1[a]? = H[a]?) (h : gk_Z E U H) : gk_Z E U H1 := by
  obtain ⟨h1, h2, h3, h4, h5, h6, h7, h8, h9⟩ := h
  exact ⟨vz_Zq.kept h1 hq, vz_Zq.kept h2 hq, h3, h4, h5, h6, fun i hi => ⟨(h7 i hi).1.kept hq, (h7 i hi).2.1.kept hq, (h7 i hi).2.2.kept hq⟩, va_Zq.kept h8 hq, h9⟩
def gk_PX (E : gk_E) (S : gk_S) (U : State) : Prop := gk_P E S U ∧ gk_Z E U U.heap
theorem gk_X.preX {p : Program} {s : State} {m : MethodId} {args : Array Value} {meth : Method} {c : Code} {cc : ByteArray} {own : String} {nL : Nat} {E : gk_E} (X : gk_X p s m args meth c cc own nL E) (hZ : gk_Z E s s.heap) {S : gk_S} {H : Heap} {locs : List Loc} (hR : gk_R E S H) (hS : va_S (fun q => E.2.2.2.1 ≤ q) s.heap H locs) (U : State) (hU : U.heap = H) (hW : s.WarmedH U.vm) : gk_PX E S U :=
  ⟨X.pre hR hS U hU hW, gk_Z.moved hW (gk_Z.kept (fun a h1 h2 => by rw [hU]; exact hS.2.1 a h1 h2) hZ)⟩
theorem gk_blindX {E : gk_E} {S : gk_S} {av : List Value} : FrameBlind (va_Pc av (gk_PX E S)) := by
  intro a U g mk h
  obtain ⟨h1, h2, h3⟩ := h
  exact ⟨h1, (gk_blind a U g mk ⟨h1, h2⟩).2, gk_Z.moved (U := U.calling g mk a) (H := U.heap) (by rw [show (U.calling g mk a).vm = U.vm from rfl]; exact State.WarmedH.refl U) h3⟩
/-- a contract of a method that needs those statics, but throws nothing -/
def gk_TZ (l : Launch) (E : gk_E) (y : MethodName) (cc : ByteArray) (nL : Nat) (ret : Option FieldType) (fr lo mc ms : Nat) (av : List Value) (S : gk_S) (post : Option Value → gk_S → Prop) : Prop :=
  Met l y (ws_ y cc nL ret) ({ frames := fr, cells := mc, slots := ms, locals := lo }) (va_Pc av (gk_PX E S)) (gk_Q E post) mc ms (fun q => E.2.2.2.1 ≤ q)
def gk_XX (E : gk_E) (px : Nat → gk_S → Prop) : Addr → String → State → State → Prop := fun q En st t => En = RX5 ∧ (∃ S' : gk_S, px q S' ∧ gk_R E S' t.heap) ∧ va_F (fun a => E.2.2.2.1 ≤ a) st t
/-- y answers r with post r S', or throws the object at q with px q S' -/
def gk_TX (l : Launch) (E : gk_E) (y : MethodName) (cc : ByteArray) (nL : Nat) (ret : Option FieldType) (fr lo mc ms : Nat) (av : List Value) (S : gk_S) (post : Option Value → gk_S → Prop) (px : Nat → gk_S → Prop) : Prop :=
  ve_Met l y (ws_ y cc nL ret) ({ frames := fr, cells := mc, slots := ms, locals := lo }) (va_Pc av (gk_PX E S)) (gk_Q E post) (gk_XX E px) mc ms (fun q => E.2.2.2.1 ≤ q)
/-- what a body that may throw owes -/
abbrev gk_MX (E : gk_E) (below : List Frame) (args : Array Value) (s : State) (mc ms : Nat) (post : Option Value → gk_S → Prop) (px : Nat → gk_S → Prop) : State → Prop := ve_MQ below (gk_Q E post) (gk_XX E px) args s mc ms (fun q => E.2.2.2.1 ≤ q)
section GKX
variable {p : Program} {l : Launch} {e : Env} {R : Room} {s : State} {m : MethodId} {args : Array Value} {below : List Frame} {meth : Method} {c : Code} {E : gk_E} {nL : Nat} {S : gk_S} {cells slots pc : Nat} {L : List (Option Value)} {rest : List Value} {cc : ByteArray} {own : String} {mc0 ms0 : Nat} {post0 : Option Value → gk_S → Prop} {px0 : Nat → gk_S → Prop}
/-- its return -/
theorem g_ret {st : List Value} (k : gk_G p l e R s m args below meth c E nL S cells slots (MQ below (gk_Q E post0) args s mc0 ms0 (fun q => E.2.2.2.1 ≤ q)) pc L st) : gk_G p l e R s m args below meth c E nL S cells slots (gk_MX E below args s mc0 ms0 post0 px0) pc L st := fun H locs ls hR hS hl => ve_ret (k H locs ls hR hS hl)
/-- thrown out of it -/
theorem gk_out {H : Heap} {locs : List Loc} {ls : Array Slot} {ce : Cell} {q : Nat} (X : gk_X p s m args meth c cc own nL E) (hT : ∀ x ∈ c.exceptionTable.toList, False) (hR : gk_R E S H) (hS : va_S (fun q => E.2.2.2.1 ≤ q) s.heap H locs) (hc : cells ≤ mc0) (hs : slots ≤ ms0) (hp : px0 q S) (hcell : H[q]? = some ce) (hv : ce.vm = .none) (hcl : s.vm.findClass RX5 = some ce.cls) :
    ve_W p l e R s m args below meth c H locs cells slots (gk_MX E below args s mc0 ms0 post0 px0) (F0 m pc ls rest) q :=
  ve_out (E := RX5) (fun x hx => (hT x hx).elim) X.2.2.2.2.2.2.2 hcell hv hcl (fun t ht _ => ⟨rfl, ⟨S, hp, by rw [ht]; exact hR⟩, hS.F ht⟩) hS.2.2 hc hs
theorem gk_runX {H : Heap} {locs : List Loc} {ls : Array Slot} {mc ms : Nat} {st0 : List Value} {a : Array Value} {post : Option Value → gk_S → Prop} {px : Nat → gk_S → Prop} (X : gk_X p s m args meth c cc own nL E) (hT : ∀ x ∈ c.exceptionTable.toList, False) (hr : ve_Run p l e R s m args below meth c H locs cells slots mc ms (F0 m pc ls st0) rest (gk_Q E post a) (gk_XX E px) (fun q => E.2.2.2.1 ≤ q)) (hS : va_S (fun q => E.2.2.2.1 ≤ q) s.heap H locs) (hl : gk_L ls nL L) (hc : cells + mc ≤ mc0) (hs : slots + ms ≤ ms0)
    (kx : ∀ (q : Nat) (S' : gk_S), px q S' → px0 q S')
    (kk : ∀ (r : Option Value) (S' : gk_S), post r S' → gk_G p l e R s m args below meth c E nL S' (cells + mc) (slots + ms) (gk_MX E below args s mc0 ms0 post0 px0) (pc + 3) L (r.toList ++ rest)) : W p l e R s m args below meth c H locs cells slots (gk_MX E below args s mc0 ms0 post0 px0) (F0 m pc ls st0) := by
  intro T hT0 X0
  rcases hr T hT0 X0 with ⟨v, st₀, t, T', L1, h0, X', hL, e1, e2, ⟨⟨r, S', hv, hp, hR'⟩, hz, hk⟩, st⟩ | ⟨q, st₀, t, T', L1, En, ce, h0, X', hL, e1, e2, ⟨rfl, ⟨S', hp, hR'⟩, hz, hk⟩, hce, hcv, hcl, st⟩
  · cases hv
    rw [h0] at hz hk
    obtain ⟨t2, a1, b1⟩ := kk v S' hp T'.heap (locs ++ L1) ls (by rw [e1]; exact hR')
      ⟨Nat.le_trans hS.1 (by rw [e1]; exact hz), fun q h1 h2 => by rw [e1, hk q (Nat.lt_of_lt_of_le h1 hS.1) h2]; exact hS.2.1 q h1 h2, fun q hq => by
        rcases List.mem_append.mp hq with h | h
        · exact hS.2.2 q h
        · exact hL q h⟩ hl T' rfl X'
    exact ⟨t2, st t2 a1, b1⟩
  · rw [h0] at hz hk
    obtain ⟨t2, a1, b1⟩ := gk_out (rest := rest) (pc := pc) (ls := ls) (post0 := post0) X hT (S := S') (H := T'.heap) (by rw [e1]; exact hR')
      ⟨Nat.le_trans hS.1 (by rw [e1]; exact hz), fun q h1 h2 => by rw [e1, hk q (Nat.lt_of_lt_of_le h1 hS.1) h2]; exact hS.2.1 q h1 h2, fun q hq => by
        rcases List.mem_append.mp hq with h | h
        · exact hS.2.2 q h
        · exact hL q h⟩ hc hs (kx q S' hp) (by rw [e1]; exact hce) hcv hcl T' rfl X'
    exact ⟨t2, st.trans a1, b1⟩
/-- a call, within a body that may throw, of a method that may throw: what is thrown goes on -/
theorem g_callVX (X : gk_X p s m args meth c cc own nL E) (hZ : gk_Z E s s.heap) (hT : ∀ x ∈ c.exceptionTable.toList, False) {C : String} {T : u_T} {N ci index maxL fr lo mc ms n b : Nat} {y : MethodName} {bytes : ByteArray} {ret : Option FieldType} {As : List Value} {fs : List Value} {post : Option Value → gk_S → Prop} {px : Nat → gk_S → Prop} (hM : gk_TX l E y bytes maxL ret fr lo mc ms (.ref b :: As) S post px) (hw : GoodIn lw_all (wsV own index C y (ws_ y bytes maxL ret))) (hd : y.cls = C ∧ y.cls ≠ "java/lang/invoke/MethodHandle" ∧ y.cls ≠ "java/lang/invoke/VarHandle" ∧ (parseMethodDescriptor y.desc).map (fun d => d.parameters.length) = some n) (hdg : decode cc pc = .ok (.invokevirtual index, 3)) (hrd : gk_Rd E S b (.inr (ci, fs))) (hc : gk_cl[ci]? = some (C, T, N)) (hn : As.length = n) (hroom : fr + 1 ≤ R.frames ∧ 8 + (maxL + 11) + lo ≤ R.locals) (hcap : cells + mc ≤ R.cells ∧ slots + ms ≤ R.slots) (hrest : (rest.map fun v => v.category).sum ≤ 8) (hmc : cells + mc ≤ mc0) (hms : slots + ms ≤ ms0)
    (kx : ∀ (q : Nat) (S' : gk_S), px q S' → px0 q S')
    (kk : ∀ (r : Option Value) (S' : gk_S), post r S' → gk_G p l e R s m args below meth c E nL S' (cells + mc) (slots + ms) (gk_MX E below args s mc0 ms0 post0 px0) (pc + 3) L (r.toList ++ rest)) : gk_G p l e R s m args below meth c E nL S cells slots (gk_MX E below args s mc0 ms0 post0 px0) pc L (As.reverse ++ .ref b :: rest) := fun H locs ls hR hS hl =>
  gk_runX X hT (ve_runV (As := As) (rest := rest) ⟨X.1, X.2.1, X.2.2.1, X.2.2.2.1, X.2.2.2.2.1⟩ hM (cwV n X.2.2.2.2.1 hw rfl rfl rfl hd hroom) ⟨gk_blindX, gk_recv X (hrd H hR) hc, fun U hU hW => ⟨rfl, X.preX hZ hR hS U hU hW⟩⟩ rfl hn hl.1 rfl (lv_room hrest) hdg hcap) hS hl hmc hms kx kk
/-- a call through an object of ours of a method that needs the statics of Throwable -/
theorem g_callVZ (X : gk_X p s m args meth c cc own nL E) (hZ : gk_Z E s s.heap) {Q : State → Prop} {C : String} {T : u_T} {N ci index maxL fr lo mc ms n b : Nat} {y : MethodName} {bytes : ByteArray} {ret : Option FieldType} {As : List Value} {fs : List Value} {post : Option Value → gk_S → Prop} (hM : gk_TZ l E y bytes maxL ret fr lo mc ms (.ref b :: As) S post) (hw : GoodIn lw_all (wsV own index C y (ws_ y bytes maxL ret))) (hd : y.cls = C ∧ y.cls ≠ "java/lang/invoke/MethodHandle" ∧ y.cls ≠ "java/lang/invoke/VarHandle" ∧ (parseMethodDescriptor y.desc).map (fun d => d.parameters.length) = some n) (hdg : decode cc pc = .ok (.invokevirtual index, 3)) (hrd : gk_Rd E S b (.inr (ci, fs))) (hc : gk_cl[ci]? = some (C, T, N)) (hn : As.length = n) (hroom : fr + 1 ≤ R.frames ∧ 8 + (maxL + 11) + lo ≤ R.locals) (hcap : cells + mc ≤ R.cells ∧ slots + ms ≤ R.slots) (hrest : (rest.map fun v => v.category).sum ≤ 8)
    (kk : ∀ (r : Option Value) (S' : gk_S), post r S' → gk_G p l e R s m args below meth c E nL S' (cells + mc) (slots + ms) Q (pc + 3) L (r.toList ++ rest)) : gk_G p l e R s m args below meth c E nL S cells slots Q pc L (As.reverse ++ .ref b :: rest) := fun H locs ls hR hS hl =>
  gk_run (va_runV (As := As) (rest := rest) ⟨X.1, X.2.1, X.2.2.1, X.2.2.2.1, X.2.2.2.2.1⟩ hM (cwV n X.2.2.2.2.1 hw rfl rfl rfl hd hroom) ⟨gk_blindX, gk_recv X (hrd H hR) hc, fun U hU hW => ⟨rfl, X.preX hZ hR hS U hU hW⟩⟩ rfl hn hl.1 rfl (lv_room hrest) hdg hcap) hS hl kk
/-- .. a static one -/
theorem g_callSZ (X : gk_X p s m args meth c cc own nL E) (hZ : gk_Z E s s.heap) {Q : State → Prop} {index maxL fr lo mc ms n : Nat} {y : MethodName} {bytes : ByteArray} {ret : Option FieldType} {As : List Value} {post : Option Value → gk_S → Prop} (hM : gk_TZ l E y bytes maxL ret fr lo mc ms As S post) (hw : GoodIn lw_all (va_wsS own index y (ws_ y bytes maxL ret))) (hd : y.cls ≠ "java/lang/invoke/MethodHandle" ∧ y.cls ≠ "java/lang/invoke/VarHandle" ∧ (parseMethodDescriptor y.desc).map (fun d => d.parameters.length) = some n) (hdg : decode cc pc = .ok (.invokestatic index, 3)) (hn : As.length = n) (hroom : fr + 1 ≤ R.frames ∧ 8 + (maxL + 11) + lo ≤ R.locals) (hcap : cells + mc ≤ R.cells ∧ slots + ms ≤ R.slots) (hrest : (rest.map fun v => v.category).sum ≤ 8)
    (kk : ∀ (r : Option Value) (S' : gk_S), post r S' → gk_G p l e R s m args below meth c E nL S' (cells + mc) (slots + ms) Q (pc + 3) L (r.toList ++ rest)) : gk_G p l e R s m args below meth c E nL S cells slots Q pc L (As.reverse ++ rest) := fun H locs ls hR hS hl =>
  gk_run (va_runS (As := As) (rest := rest) ⟨X.1, X.2.1, X.2.2.1, X.2.2.2.1, X.2.2.2.2.1⟩ hM (va_cwS n X.2.2.2.2.1 hw rfl rfl rfl hd hroom) ⟨gk_blindX, fun U hU hW => ⟨rfl, X.preX hZ hR hS U hU hW⟩⟩ rfl hn hl.1 rfl (lv_room hrest) hdg hcap) hS hl kk
/-- throw -/
theorem g_athrow (X : gk_X p s m args meth c cc own nL E) (hT : ∀ x ∈ c.exceptionTable.toList, False) {q : Nat} {fs : List Value} (hdg : decode cc pc = .ok (.athrow, 1)) (hq : S.2.2.2 q = some (.inr (5, fs))) (hc : cells ≤ mc0) (hs : slots ≤ ms0) (hp : px0 q S) : gk_G p l e R s m args below meth c E nL S cells slots (gk_MX E below args s mc0 ms0 post0 px0) pc L (.ref q :: rest) := by
  intro H locs ls hR hS hl
  obtain ⟨q', h1, cell, g1, g2, g3, g4⟩ := (hR.2 q _ hq).1
  refine ve_athrow X.1 X.2.1 hdg (gk_out X hT hR hS hc hs hp g1 g3 ?_)
  have h2 := (X.2.2.2.2.2.1.1.1 5 _ rfl).2.1
  rw [g2]
  exact h2
end GKX
/-- a method's start -/
theorem gk_TX.of {l : Launch} {E : gk_E} {y : MethodName} {cc : ByteArray} {nL : Nat} {ret : Option FieldType} {fr lo mc ms : Nat} {av : List Value} {S : gk_S} {post : Option Value → gk_S → Prop} {px : Nat → gk_S → Prop} (L : List (Option Value)) (hy : plainName y.cls = true) (hn : (lg_sl av).length ≤ nL) (hL : ∀ (i : Nat) (v : Value), L[i]? = some (some v) → (gk_args av)[i]? = some (some v))
    (body : ∀ (p : Program) (e : Env) (R : Room) (s : State) (m : MethodId) (args : Array Value) (below : List Frame) (meth : Method) (c : Code), R = ({ frames := fr, cells := mc, slots := ms, locals := lo }) → gk_X p s m args meth c cc y.cls nL E → gk_Z E s s.heap → (∀ x ∈ c.exceptionTable.toList, False) → meth.sig.returnType = ret → meth.name = y.name → gk_G p l e R s m args below meth c E nL S 0 0 (gk_MX E below args s mc ms post px) 0 L []) : gk_TX l E y cc nL ret fr lo mc ms av S post px := by
  refine ve_ofW (cc := cc) (maxL := nL) (ret := ret) hy rfl ?_
  intro p e s m args below meth c s₁ B hml hT hv
  obtain ⟨rfl, ⟨hK, hR, hB⟩, hZ⟩ := hv
  have hts := atoms_spec (ws := ws_ y cc nL ret) B.pre
  have hts : ∀ w ∈ lw_all, w.before _ s = true := fun w h => hts w (List.mem_cons_of_mem _ h)
  have hl := lv_entry av (n := nL) hn
  rw [lg_entry_eq]
  exact body p e _ s m _ below meth c rfl ⟨B.exec, B.bytes, hml, findClass_of_methodNamed B.named, hts, hK, hB, B.notSynchronized⟩ hZ hT B.returns (name_of_methodNamed B.named B.method).1 s.heap [] _ hR va_S.rf
    (gk_sub_pairs hl (fun i v h => by have := gk_args_mem av 0 i v (hL i v h); simpa using this))
/-- a method's start -/
theorem gk_TZ.of {l : Launch} {E : gk_E} {y : MethodName} {cc : ByteArray} {nL : Nat} {ret : Option FieldType} {fr lo mc ms : Nat} {av : List Value} {S : gk_S} {post : Option Value → gk_S → Prop} (L : List (Option Value)) (hy : plainName y.cls = true) (hn : (lg_sl av).length ≤ nL) (hL : ∀ (i : Nat) (v : Value), L[i]? = some (some v) → (gk_args av)[i]? = some (some v))
    (body : ∀ (p : Program) (e : Env) (R : Room) (s : State) (m : MethodId) (args : Array Value) (below : List Frame) (meth : Method) (c : Code), R = ({ frames := fr, cells := mc, slots := ms, locals := lo }) → gk_X p s m args meth c cc y.cls nL E → gk_Z E s s.heap → meth.sig.returnType = ret → meth.name = y.name → gk_G p l e R s m args below meth c E nL S 0 0 (MQ below (gk_Q E post) args s mc ms (fun q => E.2.2.2.1 ≤ q)) 0 L []) : gk_TZ l E y cc nL ret fr lo mc ms av S post := by
  refine Met.ofW (cc := cc) (maxL := nL) (ret := ret) hy rfl ?_
  intro p e s m args below meth c s₁ B hml hv
  obtain ⟨rfl, ⟨hK, hR, hB⟩, hZ⟩ := hv
  have hts := atoms_spec (ws := ws_ y cc nL ret) B.pre
  have hts : ∀ w ∈ lw_all, w.before _ s = true := fun w h => hts w (List.mem_cons_of_mem _ h)
  have hl := lv_entry av (n := nL) hn
  rw [lg_entry_eq]
  exact body p e _ s m _ below meth c rfl ⟨B.exec, B.bytes, hml, findClass_of_methodNamed B.named, hts, hK, hB, B.notSynchronized⟩ hZ B.returns (name_of_methodNamed B.named B.method).1 s.heap [] _ hR va_S.rf
    (gk_sub_pairs hl (fun i v h => by have := gk_args_mem av 0 i v (hL i v h); simpa using this))

