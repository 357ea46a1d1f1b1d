/-! A NEW Wrong: Exception's constructor, called within Wrong's own, on the new cell -/
set_option maxRecDepth 100000
def vz_in (own : String) (ic : Nat) (P X : String) (n : Nat) : List Cond :=
  Bundle.throwableAtoms ++ Bundle.chain0Atoms P [] ++
  [.methodLink own ic (Bundle.init0 P), .instantiable X n, .selects X Bundle.tFill0 Bundle.tFill0, .selects X Bundle.tFill Bundle.tFill,
   .lays X Bundle.tN "cause" "Ljava/lang/Throwable;", .lays X Bundle.tN "stackTrace" Bundle.steD, .lays X Bundle.tN "suppressedExceptions" Bundle.listD, .lays X Bundle.tN "detailMessage" "Ljava/lang/String;",
   .isRef (.static Bundle.tN "UNASSIGNED_STACK" Bundle.steD), .isRef (.static Bundle.tN "SUPPRESSED_SENTINEL" Bundle.listD),
   .fieldLink Bundle.tN 198 Bundle.tN "backtrace" "Ljava/lang/Object;", .lays Bundle.tN Bundle.tN "backtrace" "Ljava/lang/Object;", .lays X Bundle.tN "backtrace" "Ljava/lang/Object;"]
section VZC
variable {p : Program} {l : Launch} {e : Env} {R : Room} {s : State} {m₀ : MethodId} {args : Array Value} {below : List Frame} {meth : Method} {c : Code} {W : State} {locs : List Loc} {cells slots : Nat}
set_option maxHeartbeats 1000000 in
theorem vz_ctorIn (X : Stand p l e R s m₀ args below meth c W locs cells slots) (hexec : p.tables.exec = Jvm.exec) (htr : e.platform.stackTraces = false) {own P cls : String} {n ic : Nat}
    (hown : s.vm.findClass own = some m₀.cls) (hcls : Bundle.fit P = true)
    (h : ∀ a ∈ vz_in own ic P cls n, a.before args s = true)
    (hlocs : ∀ x ∈ locs, ∀ cell, s.heap[x.base]? = some cell → cell.vm.isStatics = false)
    {a : Addr} {cX : ClassId} {kX : Class} (hfoundX : s.vm.findClass cls = some cX) (hkX : s.vm.classes[cX]? = some kX) (hcell : W.heap[a]? = some (freshCell cX kX))
    {g : JFrame} (hg : g.method = m₀) (hsize : g.locals.size = c.maxLocals) {rest : List Value} (hstack : g.stack = .ref a :: rest)
    (hd6 : decode c.code g.pc = .ok (.invokespecial ic, 3))
    (hRframes : 3 < R.frames) (hRlocals : 2 * g.monitorRoom + (rest.map fun v => v.category).sum + 54 ≤ R.locals) :
    ∃ (V : State) (ce : Cell) (L : List Loc), Stand p l e R s m₀ args below meth c (V.setCell a ce) (locs ++ L) cells slots ∧ (∀ y ∈ L, y.base = a) ∧ a < V.heap.size ∧ ce.cls = cX ∧ ce.vm = .none ∧ V.heap = W.heap ∧ ce.slots.size = (freshCell cX kX).slots.size ∧
      ∀ target, Steps p.tables e below ((V.setCell a ce).setTop { g with stack := rest, pc := g.pc + 3 }) target → Steps p.tables e below (W.setTop g) target := by
  have howns : e.platform.frameOwnsMonitors = true := by rw [X.admits.platform]
  have hfin : e.platform.finalization = false := by rw [X.admits.platform]
  have hpl : e.platform.magicAccessors = ({} : Platform).magicAccessors := by rw [X.admits.platform]
  have a' : ∀ x, x ∈ vz_in own ic P cls n → x.holds args s none s [] = true := fun x hx => h x hx
  obtain ⟨T, Z, L, LZ, Y⟩ := ThrowableC.of_atoms (args := args) howns hfin hpl (fun x hx => h x (by simp [vz_in, hx]))
  obtain ⟨P1, Ps, hlen, L1, hL, hP1m, hlink1, hlink⟩ := Bundle.chain0 (args := args) hpl Y.init0 [] P hcls (fun n hn => by cases hn) (fun x hx => h x (by simp [vz_in, hx]))
  obtain ⟨c1, kX', hc1, hk, hord, -, -, hn6⟩ := Cond.instantiable_spec (a' (.instantiable cls n) (by simp [vz_in]))
  cases Option.some.inj (hc1.symm.trans hfoundX)
  cases Option.some.inj (hkX.symm.trans hk)
  have hfound := hfoundX
  have hsel0 : selectMethod e.platform s.vm cX T.fill0 = .method T.fill0 := by
    obtain ⟨c2, r2, m2, q1, q2, q3, q4, -⟩ := Cond.selects_spec (a' (.selects cls Bundle.tFill0 Bundle.tFill0) (by simp [vz_in]))
    cases Option.some.inj (q1.symm.trans hfound)
    cases Option.some.inj (q2.symm.trans (State.methodFound?_of_named Y.fill0 (by decide)))
    cases Option.some.inj (q3.symm.trans Y.fill0)
    rw [Launch.admits_selectMethod X.admits]; exact q4
  have hselF : selectMethod e.platform s.vm cX T.fill = .method T.fill := by
    obtain ⟨c2, r2, m2, q1, q2, q3, q4, -⟩ := Cond.selects_spec (a' (.selects cls Bundle.tFill Bundle.tFill) (by simp [vz_in]))
    cases Option.some.inj (q1.symm.trans hfound)
    cases Option.some.inj (q2.symm.trans (State.methodFound?_of_named Y.fill (by decide)))
    cases Option.some.inj (q3.symm.trans Y.fill)
    rw [Launch.admits_selectMethod X.admits]; exact q4
  obtain ⟨cellS0, hcS0, hiss⟩ := Y.statics
  obtain ⟨u0, hu0⟩ := Cond.staticRefV Y.unassigned L.unassignedStatic L.statics hcS0 hiss (a' (.isRef (.static Bundle.tN "UNASSIGNED_STACK" Bundle.steD)) (by simp [vz_in]))
  obtain ⟨sen, hsen⟩ := Cond.staticRefV Y.sentinel L.sentinelStatic L.statics hcS0 hiss (a' (.isRef (.static Bundle.tN "SUPPRESSED_SENTINEL" Bundle.listD)) (by simp [vz_in]))
  obtain ⟨ci198, i198, fB, hk198, hg198, ha198, hsB, -, hnB, htB, hffB⟩ := Cond.ownField (t := .object "java/lang/Object") Y.found L.cls (by decide +kernel) (a' (.fieldLink Bundle.tN 198 Bundle.tN "backtrace" "Ljava/lang/Object;") (by simp [vz_in])) (a' (.lays Bundle.tN Bundle.tN "backtrace" "Ljava/lang/Object;") (by simp [vz_in])) e.platform hpl
  obtain ⟨cellS, hcS', heS, -, hkeep⟩ := X.same.2.2.2.2.2 T.aS cellS0 hcS0
  have hcellS : W.heap[T.aS]? = some cellS := hcS'
  have hout' : ∀ i, (⟨T.aS, i⟩ : Loc) ∉ locs := fun i hmem => by
    have := hlocs _ hmem cellS0 hcS0
    rw [hiss] at this; cases this
  have hknownS : cellS.vm ≠ .unknown := by
    rw [heS]; intro hu
    rw [show cellS0.vm = .unknown from hu] at hiss
    cases hiss
  have hneS : T.aS ≠ a := by
    intro he
    rw [he, hcell] at hcellS
    have h1 : cellS.vm = .none := by rw [← Option.some.inj hcellS]
    have h2 : cellS0.vm = .none := by rw [← h1, heS]
    rw [h2] at hiss
    cases hiss
  obtain ⟨iM, hffM⟩ := Y.msg
  obtain ⟨tyC, dC, hdC, hdnC⟩ := Cond.laysAt hfound hk Y.cause (a' (.lays cls Bundle.tN "cause" "Ljava/lang/Throwable;") (by simp [vz_in]))
  obtain ⟨tyS, dS, hdS, hdnS⟩ := Cond.laysAt hfound hk Y.stack (a' (.lays cls Bundle.tN "stackTrace" Bundle.steD) (by simp [vz_in]))
  obtain ⟨tyP, dP, hdP, hdnP⟩ := Cond.laysAt hfound hk Y.supp (a' (.lays cls Bundle.tN "suppressedExceptions" Bundle.listD) (by simp [vz_in]))
  obtain ⟨tyM, dM, hdM, hdnM⟩ := Cond.laysAt hfound hk hffM (a' (.lays cls Bundle.tN "detailMessage" "Ljava/lang/String;") (by simp [vz_in]))
  obtain ⟨tyB, dB, hdB, hdnB⟩ := Cond.laysAt hfound hk hffB (a' (.lays cls Bundle.tN "backtrace" "Ljava/lang/Object;") (by simp [vz_in]))
  have bC := Cond.laysApart hdB hdC hdnB hdnC (by rw [hnB, Y.causeName]; decide)
  have bS := Cond.laysApart hdB hdS hdnB hdnS (by rw [hnB, Y.stackName]; decide)
  have bP := Cond.laysApart hdB hdP hdnB hdnP (by rw [hnB, Y.suppName]; decide)
  have hskip : SkipFacts T e.platform s (fun u => u) u0 ((preparedCellV T.toThrowableT (freshCell cX kX) a u0 sen).withEntry W.cur) :=
    ⟨{ ci198 := ci198, i198 := i198, fBack := fB }, ⟨hk198, hg198, ha198, hsB⟩, by
      have := fresh_default (c := cX) tyB
      rw [htB] at this
      simpa [preparedCellV, Cell.setSlot, Cell.withEntry, Array.getElem?_setIfInBounds, bC, bS, bP, bC.symm, bS.symm, bP.symm, defaultValue] using this, fun _ _ => rfl⟩
  obtain ⟨tm, methC, cdC, kC, vm₁, hnC, -, -, -, -, -, -, -, hW₁, st1⟩ := Steps.initCold (tb := p.tables) (e := e) (below := below) (s := s) (U := W) X.here hexec X.warmed hpl hown (t := Bundle.init0 P) rfl rfl (Bundle.fit_spec hcls).2
    (a' (.methodLink own ic (Bundle.init0 P)) (by simp [vz_in])) (h (.instanceMethod (Bundle.init0 P)) (by simp [vz_in, Bundle.chain0Atoms, Bundle.passAtoms])) (bytes := Bundle.five) (maxL := 1) (h (.code (Bundle.init0 P) Bundle.five 1 none) (by simp [vz_in, Bundle.chain0Atoms, Bundle.passAtoms]))
    (f := g) hg (a := a) (rest := rest) hstack hd6
  cases Option.some.inj (hnC.symm.trans hP1m)
  have X₁ := X.noted hW₁
  obtain ⟨vm₂, X₂, st2⟩ := X₁.ctorPlainOffV hexec (g := { g with stack := rest }) hg hsize T L Z LZ (P1 :: Ps)
    (fun P hP => by rcases List.mem_cons.mp hP with rfl | hP; exact L1; exact hL P hP) ⟨hlink1, hlink⟩ (u0 := u0) (sen := sen) (self := a) (cell := freshCell cX kX) (cellS := cellS)
    hcell (fun _ => by simp) (by simp) rfl rfl hsel0 hselF hcellS hneS hknownS (by rw [hkeep _ (hout' _)]; exact hu0) (by rw [hkeep _ (hout' _)]; exact hsen)
    (Takes.of_laid hk hord tyC (by rw [Y.causeType]; rfl)) (Takes.of_laid hk hord tyS (by rw [Y.stackType]; exact fits_refV_array _ u0)) (Takes.of_laid hk hord tyP (by rw [Y.suppType]; exact fits_refV_object _ sen)) Y.objLocals hskip htr [] hd6
    (by simp only [List.length_cons, hlen]; exact hRframes) (by simp only [List.length_cons, hlen]; exact hRlocals)
  have hlt : a < ((W.setVm vm₁).setVm vm₂).heap.size := (Array.getElem?_eq_some_iff.mp hcell).1
  refine ⟨(W.setVm vm₁).setVm vm₂, _, _, X₂, fun y hy => ?_, hlt, rfl, rfl, rfl, by simp [preparedCellV, Cell.setSlot, Cell.withEntry], fun target hwalk => st1 _ (fun acts => ?_)⟩
  · simp only [List.mem_cons, List.not_mem_nil, or_false] at hy
    rcases hy with rfl | rfl | rfl | rfl <;> rfl
  · rw [doInvoke_state]
    exact st2 _ hwalk
end VZC
/-- the words of it, but five, are among the claim's words -/
theorem vz_inW : ∀ w ∈ (vz_in RX5 1 "java/lang/Exception" RX5 8).filter (fun w => vz_no w && !decide (w = .declares (Bundle.init0 Bundle.tN))), w ∈ lw_all := by decide +kernel
theorem vz_inD : Cond.declares (Bundle.init0 Bundle.tN) ∈ lw_tbl := by decide +kernel
theorem vz_words {s : State} {args : Array Value} {E : gk_E} (h1 : ∀ w ∈ lw_all, w.before args s = true) (hZ : gk_Z E s s.heap) : ∀ a ∈ vz_in RX5 1 "java/lang/Exception" RX5 8, a.before args s = true := by
  refine vz_own (fun w hw => ?_) (vz_isRefq hZ.1.1) (vz_isRefq hZ.2.1.1) hZ.1.2.word hZ.2.1.2.word
  obtain ⟨h2, h3⟩ := List.mem_filter.mp hw
  by_cases hd : w = .declares (Bundle.init0 Bundle.tN)
  · rw [hd]; exact va_Nw.use rfl hZ.2.2.1
  · exact h1 _ (vz_inW w (List.mem_filter.mpr ⟨h2, by rw [h3, decide_eq_false hd]; rfl⟩))
theorem vz_sdsd {S : gk_S} {q : Nat} {x y : va_E} : gk_sd (gk_sd S q x) q y = gk_sd S q y := by
  unfold gk_sd
  congr 3
  funext k
  simp only [va_up]
  split <;> rfl
section VZD
variable {p : Program} {l : Launch} {e : Env} {R : Room} {s : State} {m : MethodId} {args : Array Value} {below : List Frame} {meth : Method} {c : Code} {Q : State → Prop} {E : gk_E} {nL : Nat} {S : gk_S} {cells slots pc : Nat} {L : List (Option Value)} {rest : List Value} {cc : ByteArray}
theorem vz_init (X : gk_X p s m args meth c cc RX5 nL E) (hZ : gk_Z E s s.heap) (hl0 : l.stackTraces = false) {H : Heap} {ls : Array Slot} {q : Nat} {fs : List Value} {kX : Class} (hd : decode cc pc = .ok (.invokespecial 1, 3)) (hR : gk_R E S H) (hS : va_S (fun q => E.2.2.2.1 ≤ q) s.heap H []) (hls : gk_L ls nL L) (hq : S.2.2.2 q = some (.inr (5, fs))) (hb : E.2.2.2.1 ≤ q) (hkX : s.vm.classes[E.1.1 5]? = some kX) (hcell : H[q]? = some (freshCell (E.1.1 5) kX)) (hf : 3 < R.frames) (hlo : (rest.map fun v => v.category).sum + 54 ≤ R.locals)
    (kk : ∀ gs : List Value, gs.length = 8 → gk_G p l e R s m args below meth c E nL (gk_sd S q (.inr (5, gs))) cells slots Q (pc + 3) L rest) : W p l e R s m args below meth c H [] cells slots Q (F0 m pc ls (.ref q :: rest)) := by
  intro T hT X0
  subst hT
  have htr : e.platform.stackTraces = false := (show e.platform.stackTraces = l.stackTraces by rw [X0.admits.platform]).trans hl0
  have hr0 : 2 * (F0 m pc ls (.ref q :: rest)).monitorRoom = 0 := rfl
  obtain ⟨V, ce, Lc, Z, hL, hlt, hc1, hv1, hV, hsz, st⟩ := vz_ctorIn X0 X.1 htr (own := RX5) (P := "java/lang/Exception") (cls := RX5) (n := 8) (ic := 1) X.2.2.2.1 (by decide +kernel) (vz_words X.2.2.2.2.1 hZ) (fun x hx => nomatch hx) ((X.2.2.2.2.2.1.1.1 5 _ rfl).2.1) hkX hcell (g := F0 m pc ls (.ref q :: rest)) rfl (by rw [X.2.2.1]; exact hls.1) (rest := rest) rfl (by rw [X.2.1]; exact hd) hf (by rw [hr0]; omega)
  have hat : va_at E.1 gk_cl (q, .inr (5, (List.range 8).map (fun k => (ce.slots[E.1.2 5 k]?).getD .null))) (V.setCell q ce).heap := by
    obtain ⟨r, h1, cell, g1, g2, g3, g4⟩ := (hR.2 q _ hq).1
    refine ⟨r, h1, ce, heapAt_setCell_self (s := V) ce hlt, hc1, hv1, fun k hk => ?_⟩
    cases h1
    have h5 := g4 k hk
    have g1' : T.heap[q]? = some cell := g1
    rw [hcell] at g1'
    cases g1'
    have hi : E.1.2 5 k < ce.slots.size := by rw [hsz]; exact (Array.getElem?_eq_some_iff.mp h5).1
    have hk8 : k < 8 := hk
    show ce.slots[E.1.2 5 k]? = some (vp_V ((List.range 8).map (fun k => (ce.slots[E.1.2 5 k]?).getD .null)) k)
    rw [vp_V, List.getD_eq_getElem?_getD, List.getElem?_map, List.getElem?_range hk8]
    show _ = some ((ce.slots[E.1.2 5 k]?).getD .null)
    rw [Array.getElem?_eq_getElem hi]
    rfl
  have oq : ∀ x : Nat, x ≠ q → (V.setCell q ce).heap[x]? = T.heap[x]? := fun x hx => by
    show (V.heap.setIfInBounds q ce)[x]? = _
    rw [Array.getElem?_setIfInBounds_ne (Ne.symm hx), hV]
  have hsize : (V.setCell q ce).heap.size = T.heap.size := by
    show (V.heap.setIfInBounds q ce).size = _
    rw [Array.size_setIfInBounds, hV]
  obtain ⟨t, a1, b1⟩ := kk _ (by simp) (V.setCell q ce).heap Lc ls (hR.setd hq hat oq) ⟨by rw [hsize]; exact hS.1, fun x h1 h2 => by rw [oq x (fun e => h2 (by rw [e]; exact hb))]; exact hS.2.1 x h1 h2, fun y hy => by rw [hL y hy]; exact hb⟩ hls _ rfl Z
  exact ⟨t, st t a1, b1⟩
end VZD
/-- a state before Wrong's constructor: its cell is new -/
def gk_W0 (E : gk_E) (S : gk_S) (q : Nat) (U : State) : Prop := gk_PX E S U ∧ ∃ kX : Class, U.vm.classes[E.1.1 5]? = some kX ∧ U.heap[q]? = some (freshCell (E.1.1 5) kX)
theorem vz_8 : ∀ {gs : List Value} {a b : Value}, gs.length = 8 → (gs.set 6 a).set 7 b = gs.take 6 ++ [a, b] := by
  intro gs a b h
  match gs, h with
  | [_, _, _, _, _, _, _, _], _ => rfl
theorem k_X5_init {l : Launch} {E : gk_E} {S : gk_S} {q : Nat} {fs : List Value} {a b : Int32} (hl0 : l.stackTraces = false) (hq : S.2.2.2 q = some (.inr (5, fs))) (hb : E.2.2.2.1 ≤ q) :
    Met l yX5_init (ws_ yX5_init cX5_init 3 none) ({ frames := 4, cells := 0, slots := 0, locals := 60 }) (va_Pc [.ref q, .int a, .int b] (gk_W0 E S q)) (gk_Q E (fun r S' => r = none ∧ ∃ gs : List Value, gs.length = 6 ∧ S' = gk_sd S q (.inr (5, gs ++ [.int a, .int b])))) 0 0 (fun q => E.2.2.2.1 ≤ q) := by
  refine Met.ofW (cc := cX5_init) (maxL := 3) (ret := none) (by decide +kernel) rfl ?_
  intro p e s m args below meth c s₁ B hml hv
  obtain ⟨rfl, ⟨⟨hK, hR, hB⟩, hZ⟩, kX, hkX, hcell⟩ := hv
  have hts := atoms_spec (ws := ws_ yX5_init cX5_init 3 none) B.pre
  have hts : ∀ w ∈ lw_all, w.before _ s = true := fun w h => hts w (List.mem_cons_of_mem _ h)
  have hl := lv_entry [.ref q, .int a, .int b] (n := 3) (Nat.le_refl 3)
  have X : gk_X p s m _ meth c cX5_init RX5 3 E := ⟨B.exec, B.bytes, hml, findClass_of_methodNamed B.named, hts, hK, hB, B.notSynchronized⟩
  have hin : meth.name = "<init>" := (name_of_methodNamed B.named B.method).1
  rw [lg_entry_eq]
  have hls : gk_L _ 3 [some (.ref q), some (.int a), some (.int b)] := gk_sub_pairs hl (fun i v h => by
    have := gk_args_mem [.ref q, .int a, .int b] 0 i v (by
      match i, h with
      | 0, h => exact h
      | 1, h => exact h
      | 2, h => exact h
      | i + 3, h => simp at h)
    simpa using this)
  refine lv_aload_n X.1 X.2.1 dX5_init_0 rfl (hls.get (i := 0) rfl) ?_
  refine vz_init X hZ hl0 dX5_init_1 hR va_S.rf hls hq hb hkX hcell (by show (3 : Nat) < 4; decide) (by show (0 : Nat) + 54 ≤ 60; decide) (fun gs h8 => ?_)
  have d1 : ∀ x : va_E, (gk_sd S q x).2.2.2 q = some x := fun x => by simp [gk_sd, va_up]
  refine g_aload_n X dX5_init_4 rfl ?_
  refine g_iload_n X dX5_init_5 rfl ?_
  refine g_putFd (C := RX5) (T := TX5) (N := 8) X 6 in_X5 tyX5 tyX5_ok nmX5 dX5_init_6 q528 (d1 _) hb rfl (by decide) (fun _ h9 => h9) rfl hin rfl rfl rfl (by omega) ?_
  rw [vz_sdsd]
  refine g_aload_n X dX5_init_9 rfl ?_
  refine g_iload_n X dX5_init_10 rfl ?_
  refine g_putFd (C := RX5) (T := TX5) (N := 8) X 7 in_X5 tyX5 tyX5_ok nmX5 dX5_init_11 q530 (d1 _) hb rfl (by decide) (fun _ h9 => h9) rfl hin rfl rfl rfl (by rw [List.length_set]; omega) ?_
  rw [vz_sdsd, vz_8 h8]
  exact g_vret X B.returns dX5_init_14 (Nat.le_refl _) (Nat.le_refl _) ⟨rfl, _, by rw [List.length_take]; omega, rfl⟩
theorem k_X3_wrong {l : Launch} {E : gk_E} {S : gk_S} {o1 : Nat} {fs : List Value} {n tok : Int32} (hl0 : l.stackTraces = false) (h : gk_Rd E S o1 (.inr (3, fs))) (hf : fs[3]? = some (.int tok)) :
    gk_TZ l E yX3_wrong cX3_wrong 2 (some (.object "SownByArgument$Wrong")) 5 82 1 8 [.ref o1, .int n] S (fun r S' => ∃ (q : Nat) (gs : List Value), r = some (.ref q) ∧ S.2.2.2 q = none ∧ E.2.2.2.1 ≤ q ∧ gs.length = 6 ∧ S' = gk_sd S q (.inr (5, gs ++ [.int n, .int tok]))) := by
  refine gk_TZ.of [some (.ref o1), some (.int n)] (by decide +kernel) (Nat.le_refl 2) (fun i v hi => by
      match i, hi with
      | 0, hi => exact hi
      | 1, hi => exact hi
      | i + 2, hi => simp at hi) ?_
  intro p e R s m args below meth c hRm X hZ hret hname
  subst hRm
  intro H locs ls hR hS hls
  have hKn := X.2.2.2.2.2.1.1.1 5 _ rfl
  refine W.newcK X.1 X.2.1 X.2.2.2.1 (X.2.2.2.2.1 _ q484) (X.2.2.2.2.1 _ q485) (X.2.2.2.2.1 _ q152) rfl dX3_wrong_0 (by decide) (by decide) hKn.2.1 rfl fun H1 kC hkC e1 z1 o1' => ?_
  obtain ⟨h1, h2⟩ := hR.new (e' := .inr (5, [.null, .null, .null, .null, .null, .int 0, .int 0, .int 0])) ⟨_, rfl, (u_born tyX5 X.2.2.2.2.1 in_X5 hKn hkC e1 tyX5_ok).to (by decide)⟩ o1'
  have hbq : E.2.2.2.1 ≤ H.size := Nat.le_trans X.2.2.2.2.2.2.1 hS.1
  have hS1 : va_S (fun q => E.2.2.2.1 ≤ q) s.heap H1 locs := ⟨Nat.le_trans hS.1 (by omega), fun x g1 g2 => (o1' x (Nat.lt_of_lt_of_le g1 hS.1)).trans (hS.2.1 x g1 g2), hS.2.2⟩
  have hd1 : (gk_sd S H.size (.inr (5, [.null, .null, .null, .null, .null, .int 0, .int 0, .int 0]))).2.2.2 H.size = some (.inr (5, [.null, .null, .null, .null, .null, .int 0, .int 0, .int 0])) := by simp [gk_sd, va_up]
  refine lv_dup X.1 X.2.1 dX3_wrong_3 rfl ?_
  refine lv_iload_n X.1 X.2.1 dX3_wrong_4 rfl (hls.get (i := 1) rfl) ?_
  refine lv_aload_n X.1 X.2.1 dX3_wrong_5 rfl (hls.get (i := 0) rfl) ?_
  have hat1 : va_at E.1 gk_cl (o1, .inr (3, fs)) H1 := (h H hR).kept (o1' _ (h H hR).lt)
  refine va_get (D := E.1) (cl := gk_cl) (tys := gk_tys E.2.1) X.1 X.2.1 X.2.2.2.2.1 in_X3 X.2.2.2.1 X.2.2.2.2.2.1.1 (gk_sgl hat1) 0 rfl (C := RX3) (T := TX3) (N := 8) rfl 3 (by decide) (X.2.2.2.2.1 _ q331) (fun _ h9 => h9) hf dX3_wrong_6 ?_
  refine gk_run (va_runI (As := [.int n, .int tok]) (rest := [.ref H.size]) ⟨X.1, X.2.1, X.2.2.1, X.2.2.2.1, X.2.2.2.2.1⟩ (k_X5_init hl0 hd1 hbq) (cwI 2 X.2.2.2.2.1 (lw_meth q523) rfl rfl rfl (X.2.2.2.2.1 _ q152) (X.2.2.2.2.1 _ q521) (X.2.2.2.2.1 _ q522) rfl hd_X5_init ⟨by decide, by decide⟩)
    ⟨?_, fun U hU hW => ⟨rfl, X.preX hZ h1 hS1 U hU hW, ?_⟩⟩ rfl rfl hls.1 rfl (lv_room (show (1 : Nat) ≤ 8 by decide)) dX3_wrong_9 ⟨by decide, by decide⟩) hS1 hls ?_
  · intro a U g mk h9
    obtain ⟨g1, g2, kX, g3, g4⟩ := h9
    exact ⟨g1, (gk_blindX a U g mk ⟨g1, g2⟩).2, kX, g3, g4⟩
  · obtain ⟨k', hk', he⟩ := hW.alike.2.2 _ _ hkC
    exact ⟨k', hk', by rw [hU, e1, he]; rfl⟩
  · rintro r S' ⟨rfl, gs, hg, rfl⟩
    rw [vz_sdsd]
    refine g_aret X hret (Or.inl ⟨_, rfl⟩) dX3_wrong_12 (by decide) (by decide) ⟨_, gs, rfl, h2, hbq, hg, rfl⟩
