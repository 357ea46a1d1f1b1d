/-! ROWS THAT READ AND WRITE THE HEAP, over the picture of the whole heap -/
set_option maxRecDepth 100000
theorem gk_sgl {D : va_G} {cl : List vw_C} {a : Nat} {e : va_E} {H : Heap} (h : va_at D cl (a, e) H) : va_P D cl [(a, e)] H := by
  intro k q hk
  match k, hk with
  | 0, hk => cases hk; exact h
  | k + 1, hk => simp at hk
section GK2
variable {p : Program} {l : Launch} {e : Env} {R : Room} {s : State} {m : MethodId} {args : Array Value} {below : List Frame} {meth : Method} {c : Code} {Q : State → Prop} {E : gk_E} {nL : Nat} {S : gk_S} {cells slots pc : Nat} {L : List (Option Value)} {rest : List Value} {cc : ByteArray} {own : String}
theorem g_get (X : gk_X p s m args meth c cc own nL E) {ref C : String} {T : u_T} {N ci index a : Nat} {fs : List Value} {v : Value} (k : Nat) (hin : ∀ w ∈ u_ws C T N, w ∈ lw_all) (hdg : decode cc pc = .ok (.getfield index, 3)) (hlink : Cond.fieldLink own index ref (T k).2.1 (T k).2.2.1 ∈ lw_all) (hrd : gk_Rd E S a (.inr (ci, fs))) (hc : gk_cl[ci]? = some (C, T, N)) (hk : k < N) (hsame : ∀ x, s.fieldFound? (T k).1 (T k).2.1 (T k).2.2.1 = some x → s.fieldFound? ref (T k).2.1 (T k).2.2.1 = some x) (hv : fs[k]? = some v)
    (kk : gk_G p l e R s m args below meth c E nL S cells slots Q (pc + 3) L (v :: rest)) : gk_G p l e R s m args below meth c E nL S cells slots Q pc L (.ref a :: rest) := fun H locs ls hR hS hl =>
  va_get (D := E.1) (cl := gk_cl) (tys := gk_tys E.2.1) X.1 X.2.1 X.2.2.2.2.1 hin X.2.2.2.1 X.2.2.2.2.2.1.1 (gk_sgl (hrd H hR)) 0 rfl hc k hk (X.2.2.2.2.1 _ hlink) hsame hv hdg (kk H locs ls hR hS hl)
theorem g_getN (X : gk_X p s m args meth c cc own nL E) {ref C host : String} {T : u_T} {N ci index a : Nat} {fs : List Value} {v : Value} (k : Nat) (hin : ∀ w ∈ u_ws C T N, w ∈ lw_all) (hdg : decode cc pc = .ok (.getfield index, 3)) (hlink : Cond.fieldLinkNest own index ref (T k).2.1 (T k).2.2.1 host ∈ lw_tbl) (hrd : gk_Rd E S a (.inr (ci, fs))) (hc : gk_cl[ci]? = some (C, T, N)) (hk : k < N) (hsame : ∀ x, s.fieldFound? (T k).1 (T k).2.1 (T k).2.2.1 = some x → s.fieldFound? ref (T k).2.1 (T k).2.2.1 = some x) (hv : fs[k]? = some v)
    (kk : gk_G p l e R s m args below meth c E nL S cells slots Q (pc + 3) L (v :: rest)) : gk_G p l e R s m args below meth c E nL S cells slots Q pc L (.ref a :: rest) := fun H locs ls hR hS hl =>
  va_getN (D := E.1) (cl := gk_cl) (tys := gk_tys E.2.1) X.1 X.2.1 X.2.2.2.2.1 hin X.2.2.2.1 X.2.2.2.2.2.1.1 (gk_sgl (hrd H hR)) 0 rfl hc k hk (va_Nw.use rfl (X.2.2.2.2.2.1.2.1 _ hlink rfl)) hsame hv hdg (kk H locs ls hR hS hl)
/-- a field is written: raw -/
theorem gk_putr (X : gk_X p s m args meth c cc own nL E) {H : Heap} {locs : List Loc} {ls : Array Slot} {ref C : String} {T : u_T} {N ci index a : Nat} {fs : List Value} {v : Value} (k : Nat) (hin : ∀ w ∈ u_ws C T N, w ∈ lw_all) (ty0 : Nat → FieldType) (hty : ∀ k, k < N → parseFieldDescriptor (T k).2.2.1 = some (ty0 k)) (hnm : ∀ a, a < N → ∀ b, b < N → a ≠ b → (T a).2.1 ≠ (T b).2.1) (hdg : decode cc pc = .ok (.putfield index, 3)) (hlink : Cond.fieldLink own index ref (T k).2.1 (T k).2.2.1 ∈ lw_all ∨ ∃ host, Cond.fieldLinkNest own index ref (T k).2.1 (T k).2.2.1 host ∈ lw_tbl) (hat : va_at E.1 gk_cl (a, .inr (ci, fs)) H) (hc : gk_cl[ci]? = some (C, T, N)) (hk : k < N) (hsame : ∀ x, s.fieldFound? (T k).1 (T k).2.1 (T k).2.2.1 = some x → s.fieldFound? ref (T k).2.1 (T k).2.2.1 = some x) (hfin : (T k).2.2.2 = false) (hn : narrow (ty0 k) v = v) (hfit : fits (ty0 k) v = true) (hl : k < fs.length)
    (hS0 : va_S (fun q => E.2.2.2.1 ≤ q) s.heap H locs) (ha : E.2.2.2.1 ≤ a)
    (kk : ∀ (H1 : Heap) (locs1 : List Loc), va_at E.1 gk_cl (a, .inr (ci, fs.set k v)) H1 → (∀ q, q ≠ a → H1[q]? = H[q]?) → va_S (fun q => E.2.2.2.1 ≤ q) s.heap H1 locs1 → W p l e R s m args below meth c H1 locs1 cells slots Q (F0 m (pc + 3) ls rest)) : W p l e R s m args below meth c H locs cells slots Q (F0 m pc ls (v :: .ref a :: rest)) := by
  obtain ⟨hx, hb, hml, hown, hts, hK', hB, hlk⟩ := X
  have hK := hK'.1
  have hap := va_apart (own := own) hts hin ty0 hty hnm hK hc
  obtain ⟨r, h1, cell, q1, q2, q3, q4⟩ := hat
  have hr : r = (C, T, N) := Option.some.inj (h1.symm.trans hc)
  subst hr
  obtain ⟨hS, hfc, kC, hkC, hkind⟩ := hK.1 ci _ hc
  obtain ⟨cf, kf, fi, f, hi, hsl⟩ := hS k hk
  have hlay := hts _ (hin _ (u_in_lay hk))
  unfold u_lay at hlay
  rw [if_neg (by rw [hfin]; decide)] at hlay
  have hst := (u_facts hfc hkC (u_lays hts hin hk) hi).1
  have h6 := u_store hfc hkC hkind hlay hi (hty k hk) hn hfit
  rcases hlink with hlink | ⟨host, hlink⟩
  · refine W.putK hx hb (f := f) ⟨hown, hts _ hlink, ⟨_, _, _, hsame _ hi⟩, hst⟩ (by rw [q2]; exact h6) q1 q3 (by rw [hsl]; exact k2_hasslot (q4 k hk)) rfl rfl hdg fun H' e1 e2 e3 => ?_
    rw [hsl] at e1 ⊢
    exact kk H' _ ⟨_, hc, t_OB.to (V := updV (vp_V fs) k v) ⟨_, e1, q2, q3, t_set q4 hap hk v⟩ (fun j _ => vp_updV_set hl v j)⟩ e3 (hS0.put e2 e3 ha)
  · refine va_WputK hx hb (f := f) hown (va_Nw.use rfl (hK'.2.1 _ hlink rfl)) (hsame _ hi) hst (by rw [q2]; exact h6) q1 q3 (by rw [hsl]; exact k2_hasslot (q4 k hk)) rfl rfl hdg fun H' e1 e2 e3 => ?_
    rw [hsl] at e1 ⊢
    exact kk H' _ ⟨_, hc, t_OB.to (V := updV (vp_V fs) k v) ⟨_, e1, q2, q3, t_set q4 hap hk v⟩ (fun j _ => vp_updV_set hl v j)⟩ e3 (hS0.put e2 e3 ha)
/-- a final field is written by its constructor: raw -/
theorem gk_putFr (X : gk_X p s m args meth c cc own nL E) {H : Heap} {locs : List Loc} {ls : Array Slot} {ref C : String} {T : u_T} {N ci index a : Nat} {fs : List Value} {v : Value} (k : Nat) (hin : ∀ w ∈ u_ws C T N, w ∈ lw_all) (ty0 : Nat → FieldType) (hty : ∀ k, k < N → parseFieldDescriptor (T k).2.2.1 = some (ty0 k)) (hnm : ∀ a, a < N → ∀ b, b < N → a ≠ b → (T a).2.1 ≠ (T b).2.1) (hdg : decode cc pc = .ok (.putfield index, 3)) (hlink : Cond.fieldLink own index ref (T k).2.1 (T k).2.2.1 ∈ lw_all) (hat : va_at E.1 gk_cl (a, .inr (ci, fs)) H) (hc : gk_cl[ci]? = some (C, T, N)) (hk : k < N) (hsame : ∀ x, s.fieldFound? (T k).1 (T k).2.1 (T k).2.2.1 = some x → s.fieldFound? ref (T k).2.1 (T k).2.2.1 = some x) (hfin : (T k).2.2.2 = true) (hin2 : meth.name = "<init>") (hdecl : (T k).1 = own) (hn : narrow (ty0 k) v = v) (hfit : fits (ty0 k) v = true) (hl : k < fs.length)
    (hS0 : va_S (fun q => E.2.2.2.1 ≤ q) s.heap H locs) (ha : E.2.2.2.1 ≤ a)
    (kk : ∀ (H1 : Heap) (locs1 : List Loc), va_at E.1 gk_cl (a, .inr (ci, fs.set k v)) H1 → (∀ q, q ≠ a → H1[q]? = H[q]?) → va_S (fun q => E.2.2.2.1 ≤ q) s.heap H1 locs1 → W p l e R s m args below meth c H1 locs1 cells slots Q (F0 m (pc + 3) ls rest)) : W p l e R s m args below meth c H locs cells slots Q (F0 m pc ls (v :: .ref a :: rest)) := by
  obtain ⟨hx, hb, hml, hown, hts, hK', hB, hlk⟩ := X
  have hK := hK'.1
  have hap := va_apart (own := own) hts hin ty0 hty hnm hK hc
  obtain ⟨r, h1, cell, q1, q2, q3, q4⟩ := hat
  have hr : r = (C, T, N) := Option.some.inj (h1.symm.trans hc)
  subst hr
  obtain ⟨hS, hfc, kC, hkC, hkind⟩ := hK.1 ci _ hc
  obtain ⟨cf, kf, fi, f, hi, hsl⟩ := hS k hk
  have hlay := hts _ (hin _ (u_in_lay hk))
  unfold u_lay at hlay
  rw [if_pos hfin] at hlay
  have hst := (u_facts hfc hkC (u_lays hts hin hk) hi).1
  have hcf : m.cls = cf := by
    obtain ⟨_, _, c', _, _, _, -, -, hf', -, -, -, hown2, -⟩ := Cond.laysFinal_spec hlay
    have e1 : c' = cf := by have := hi.symm.trans hf'; simp at this; exact this.1.symm
    rw [hdecl] at hown2
    rw [← e1]; exact Option.some.inj (hown.symm.trans hown2)
  have h6 := u_fits hfc hkC hkind (Or.inr hlay) hi (hty k hk) hn hfit
  refine W.putFinK hx hb hown (hts _ hlink) (hsame _ hi) hst hcf hin2 (by rw [q2]; exact h6) q1 q3 (by rw [hsl]; exact k2_hasslot (q4 k hk)) rfl rfl hdg fun H' e1 e2 e3 => ?_
  rw [hsl] at e1 ⊢
  exact kk H' _ ⟨_, hc, t_OB.to (V := updV (vp_V fs) k v) ⟨_, e1, q2, q3, t_set q4 hap hk v⟩ (fun j _ => vp_updV_set hl v j)⟩ e3 (hS0.put e2 e3 ha)
/-- a field of a cell that isn't fixed -/
theorem g_putd (X : gk_X p s m args meth c cc own nL E) {ref C : String} {T : u_T} {N ci index a : Nat} {fs : List Value} {v : Value} (k : Nat) (hin : ∀ w ∈ u_ws C T N, w ∈ lw_all) (ty0 : Nat → FieldType) (hty : ∀ k, k < N → parseFieldDescriptor (T k).2.2.1 = some (ty0 k)) (hnm : ∀ a, a < N → ∀ b, b < N → a ≠ b → (T a).2.1 ≠ (T b).2.1) (hdg : decode cc pc = .ok (.putfield index, 3)) (hlink : Cond.fieldLink own index ref (T k).2.1 (T k).2.2.1 ∈ lw_all ∨ ∃ host, Cond.fieldLinkNest own index ref (T k).2.1 (T k).2.2.1 host ∈ lw_tbl) (hat : S.2.2.2 a = some (.inr (ci, fs))) (ha : E.2.2.2.1 ≤ a) (hc : gk_cl[ci]? = some (C, T, N)) (hk : k < N) (hsame : ∀ x, s.fieldFound? (T k).1 (T k).2.1 (T k).2.2.1 = some x → s.fieldFound? ref (T k).2.1 (T k).2.2.1 = some x) (hfin : (T k).2.2.2 = false) (hn : narrow (ty0 k) v = v) (hfit : fits (ty0 k) v = true) (hl : k < fs.length)
    (kk : gk_G p l e R s m args below meth c E nL (gk_sd S a (.inr (ci, fs.set k v))) cells slots Q (pc + 3) L rest) : gk_G p l e R s m args below meth c E nL S cells slots Q pc L (v :: .ref a :: rest) := fun H locs ls hR hS hl1 =>
  gk_putr X k hin ty0 hty hnm hdg hlink (hR.2 a _ hat).1 hc hk hsame hfin hn hfit hl hS ha (fun H1 locs1 h1 h2 h3 => kk H1 locs1 ls (hR.setd hat h1 h2) h3 hl1)
theorem g_putFd (X : gk_X p s m args meth c cc own nL E) {ref C : String} {T : u_T} {N ci index a : Nat} {fs : List Value} {v : Value} (k : Nat) (hin : ∀ w ∈ u_ws C T N, w ∈ lw_all) (ty0 : Nat → FieldType) (hty : ∀ k, k < N → parseFieldDescriptor (T k).2.2.1 = some (ty0 k)) (hnm : ∀ a, a < N → ∀ b, b < N → a ≠ b → (T a).2.1 ≠ (T b).2.1) (hdg : decode cc pc = .ok (.putfield index, 3)) (hlink : Cond.fieldLink own index ref (T k).2.1 (T k).2.2.1 ∈ lw_all) (hat : S.2.2.2 a = some (.inr (ci, fs))) (ha : E.2.2.2.1 ≤ a) (hc : gk_cl[ci]? = some (C, T, N)) (hk : k < N) (hsame : ∀ x, s.fieldFound? (T k).1 (T k).2.1 (T k).2.2.1 = some x → s.fieldFound? ref (T k).2.1 (T k).2.2.1 = some x) (hfin : (T k).2.2.2 = true) (hin2 : meth.name = "<init>") (hdecl : (T k).1 = own) (hn : narrow (ty0 k) v = v) (hfit : fits (ty0 k) v = true) (hl : k < fs.length)
    (kk : gk_G p l e R s m args below meth c E nL (gk_sd S a (.inr (ci, fs.set k v))) cells slots Q (pc + 3) L rest) : gk_G p l e R s m args below meth c E nL S cells slots Q pc L (v :: .ref a :: rest) := fun H locs ls hR hS hl1 =>
  gk_putFr X k hin ty0 hty hnm hdg hlink (hR.2 a _ hat).1 hc hk hsame hfin hin2 hdecl hn hfit hl hS ha (fun H1 locs1 h1 h2 h3 => kk H1 locs1 ls (hR.setd hat h1 h2) h3 hl1)
theorem gk_fx_200 {x : Nat → Int32} {j : Nat} (hj : j ≠ 0) : gk_fx E (gk_si S 200 x) j = gk_fx E S j := by
  have hb : Nat.beq j 0 = false := by
    cases h : Nat.beq j 0 with
    | false => rfl
    | true => exact absurd (Nat.eq_of_beq_eq_true h) hj
  unfold gk_fx
  cases hk : gk_kd j with
  | some k' =>
    have h200 : j ≠ 200 := fun z => by rw [z] at hk; cases (show gk_kd 200 = none from rfl).symm.trans hk
    simp [gk_si, va_up, h200]
  | none =>
    simp only [gk_si, va_up, gk_fo, hb, cond_false]
    simp
theorem gk_fx_201 {x : Nat → Int32} {j : Nat} (hj : j ≠ 3) : gk_fx E (gk_si S 201 x) j = gk_fx E S j := by
  have hb : Nat.beq j 3 = false := by
    cases h : Nat.beq j 3 with
    | false => rfl
    | true => exact absurd (Nat.eq_of_beq_eq_true h) hj
  unfold gk_fx
  cases hk : gk_kd j with
  | some k' =>
    have h200 : j ≠ 201 := fun z => by rw [z] at hk; cases (show gk_kd 201 = none from rfl).symm.trans hk
    simp [gk_si, va_up, h200]
  | none =>
    simp only [gk_si, va_up, gk_fo, hb, cond_false]
    simp
theorem gk_fx_l1 {x : Nat → Int64} {j : Nat} (hj : j ≠ 3) : gk_fx E (gk_sl S 1 x) j = gk_fx E S j := by
  have hb : Nat.beq j 3 = false := by
    cases h : Nat.beq j 3 with
    | false => rfl
    | true => exact absurd (Nat.eq_of_beq_eq_true h) hj
  unfold gk_fx
  cases hk : gk_kd j with
  | some k' => rfl
  | none =>
    simp only [gk_sl, va_up, gk_fo, hb, cond_false]
    simp
theorem gk_fx_l0 {x : Nat → Int64} {j : Nat} (hj : j ≠ 406) : gk_fx E (gk_sl S 0 x) j = gk_fx E S j := by
  have hb : Nat.beq j 406 = false := by
    cases h : Nat.beq j 406 with
    | false => rfl
    | true => exact absurd (Nat.eq_of_beq_eq_true h) hj
  unfold gk_fx
  cases hk : gk_kd j with
  | some k' => rfl
  | none =>
    simp only [gk_sl, va_up, gk_fo, hb, cond_false]
    simp
theorem gk_fx_q0 {x : Nat → Option Nat} {j : Nat} (hj : j ≠ 17) : gk_fx E (gk_sq S 0 x) j = gk_fx E S j := by
  have hb : Nat.beq j 17 = false := by
    cases h : Nat.beq j 17 with
    | false => rfl
    | true => exact absurd (Nat.eq_of_beq_eq_true h) hj
  unfold gk_fx
  cases hk : gk_kd j with
  | some k' => rfl
  | none =>
    simp only [gk_sq, va_up, gk_fo, hb, cond_false]
    simp
theorem gk_fx_q1 {x : Nat → Option Nat} {j : Nat} (hj : j ≠ 117) : gk_fx E (gk_sq S 1 x) j = gk_fx E S j := by
  have hb : Nat.beq j 117 = false := by
    cases h : Nat.beq j 117 with
    | false => rfl
    | true => exact absurd (Nat.eq_of_beq_eq_true h) hj
  unfold gk_fx
  cases hk : gk_kd j with
  | some k' => rfl
  | none =>
    simp only [gk_sq, va_up, gk_fo, hb, cond_false]
    simp
/-- a field of the component -/
theorem g_put0 (X : gk_X p s m args meth c cc own nL E) (ho : E.2.2.2.2 = true) {index : Nat} {x : Int32} {fs : List Value} (k : Nat) (hdg : decode cc pc = .ok (.putfield index, 3)) (hlink : Cond.fieldLink own index RX0 (TX0 k).2.1 (TX0 k).2.2.1 ∈ lw_all) (hf : gk_fx E S 0 = some (.inr (0, fs))) (hk : k < 13) (hd : (TX0 k).1 = RX0) (hfin : (TX0 k).2.2.2 = false) (hn : narrow (tyX0 k) (.int x) = .int x) (hfit : fits (tyX0 k) (.int x) = true) (hl : k < fs.length) (hs : gk_fx E (gk_si S 200 (upd (S.1 200) k x)) 0 = some (.inr (0, fs.set k (.int x))))
    (kk : gk_G p l e R s m args below meth c E nL (gk_si S 200 (upd (S.1 200) k x)) cells slots Q (pc + 3) L rest) : gk_G p l e R s m args below meth c E nL S cells slots Q pc L (.int x :: .ref (E.2.2.1 0) :: rest) := fun H locs ls hR hS hl1 =>
  gk_putr X (C := RX0) (T := TX0) (N := 13) k in_X0 tyX0 tyX0_ok nmX0 hdg (Or.inl hlink) (hR.1 ho 0 _ hf) rfl hk (fun y h9 => by rw [hd] at h9; exact h9) hfin hn hfit hl hS ((X.2.2.2.2.2.1.2.2.2.2.2 ho).2 0 rfl) (fun H1 locs1 h1 h2 h3 => kk H1 locs1 ls (hR.setx X.2.2.2.2.2.1.2.2.2.2.2 ho rfl hs (fun _ hj => gk_fx_200 hj) rfl h1 h2) h3 hl1)
/-- a field of the model -/
theorem g_put3 (X : gk_X p s m args meth c cc own nL E) (ho : E.2.2.2.2 = true) {index : Nat} {x : Int32} {fs : List Value} (k : Nat) (hdg : decode cc pc = .ok (.putfield index, 3)) (hlink : Cond.fieldLink own index RX2 (TX2 k).2.1 (TX2 k).2.2.1 ∈ lw_all) (hf : gk_fx E S 3 = some (.inr (2, fs))) (hk : k < 35) (hd : (TX2 k).1 = RX2) (hfin : (TX2 k).2.2.2 = false) (hn : narrow (tyX2 k) (.int x) = .int x) (hfit : fits (tyX2 k) (.int x) = true) (hl : k < fs.length) (hs : gk_fx E (gk_si S 201 (upd (S.1 201) k x)) 3 = some (.inr (2, fs.set k (.int x))))
    (kk : gk_G p l e R s m args below meth c E nL (gk_si S 201 (upd (S.1 201) k x)) cells slots Q (pc + 3) L rest) : gk_G p l e R s m args below meth c E nL S cells slots Q pc L (.int x :: .ref (E.2.2.1 3) :: rest) := fun H locs ls hR hS hl1 =>
  gk_putr X (C := RX2) (T := TX2) (N := 35) k in_X2 tyX2 tyX2_ok nmX2 hdg (Or.inl hlink) (hR.1 ho 3 _ hf) rfl hk (fun y h9 => by rw [hd] at h9; exact h9) hfin hn hfit hl hS ((X.2.2.2.2.2.1.2.2.2.2.2 ho).2 3 rfl) (fun H1 locs1 h1 h2 h3 => kk H1 locs1 ls (hR.setx X.2.2.2.2.2.1.2.2.2.2.2 ho rfl hs (fun _ hj => gk_fx_201 hj) rfl h1 h2) h3 hl1)
theorem g_put3l (X : gk_X p s m args meth c cc own nL E) (ho : E.2.2.2.2 = true) {index : Nat} {x : Int64} {fs : List Value} (hdg : decode cc pc = .ok (.putfield index, 3)) (hlink : Cond.fieldLink own index RX2 (TX2 11).2.1 (TX2 11).2.2.1 ∈ lw_all) (hf : gk_fx E S 3 = some (.inr (2, fs))) (hl : 11 < fs.length) (hs : gk_fx E (gk_sl S 1 (fun _ => x)) 3 = some (.inr (2, fs.set 11 (.long x))))
    (kk : gk_G p l e R s m args below meth c E nL (gk_sl S 1 (fun _ => x)) cells slots Q (pc + 3) L rest) : gk_G p l e R s m args below meth c E nL S cells slots Q pc L (.long x :: .ref (E.2.2.1 3) :: rest) := fun H locs ls hR hS hl1 =>
  gk_putr X (C := RX2) (T := TX2) (N := 35) 11 in_X2 tyX2 tyX2_ok nmX2 hdg (Or.inl hlink) (hR.1 ho 3 _ hf) rfl (by decide) (fun y h9 => h9) rfl rfl rfl hl hS ((X.2.2.2.2.2.1.2.2.2.2.2 ho).2 3 rfl) (fun H1 locs1 h1 h2 h3 => kk H1 locs1 ls (hR.setx X.2.2.2.2.2.1.2.2.2.2.2 ho rfl hs (fun _ hj => gk_fx_l1 hj) rfl h1 h2) h3 hl1)
/-! arrays -/
theorem g_iald (X : gk_X p s m args meth c cc own nL E) {a n j : Nat} {i : Int32} {f : Nat → Int32} (hdg : decode cc pc = .ok (.iaload, 1)) (hrd : gk_Rd E S a (.inl (E.2.1 0, n, .inl f))) (hi : i = nI j) (hj : j < n) (hn : n < 2 ^ 31) (k : gk_G p l e R s m args below meth c E nL S cells slots Q (pc + 1) L (.int (f j) :: rest)) : gk_G p l e R s m args below meth c E nL S cells slots Q pc L (.int i :: .ref a :: rest) := by
  intro H locs ls hR hS hl
  subst hi
  refine va_iald (D := E.1) (cl := gk_cl) (tys := gk_tys E.2.1) X.1 X.2.1 X.2.2.2.2.2.1.1 (gk_sgl (hrd H hR)) 0 0 rfl rfl (vp_in_nI hj hn) hdg ?_
  rw [nI_clamp (Nat.lt_trans hj hn)]
  exact k H locs ls hR hS hl
theorem g_bald (X : gk_X p s m args meth c cc own nL E) {a n j : Nat} {i : Int32} {f : Nat → Int32} (hdg : decode cc pc = .ok (.baload, 1)) (hrd : gk_Rd E S a (.inl (E.2.1 1, n, .inl f))) (hi : i = nI j) (hj : j < n) (hn : n < 2 ^ 31) (k : gk_G p l e R s m args below meth c E nL S cells slots Q (pc + 1) L (.int (f j) :: rest)) : gk_G p l e R s m args below meth c E nL S cells slots Q pc L (.int i :: .ref a :: rest) := by
  intro H locs ls hR hS hl
  subst hi
  refine va_bald (D := E.1) (cl := gk_cl) (tys := gk_tys E.2.1) X.1 X.2.1 X.2.2.2.2.2.1.1 (gk_sgl (hrd H hR)) 0 1 rfl rfl (vp_in_nI hj hn) hdg ?_
  rw [nI_clamp (Nat.lt_trans hj hn)]
  exact k H locs ls hR hS hl
theorem g_zald (X : gk_X p s m args meth c cc own nL E) {a n j : Nat} {i : Int32} {f : Nat → Int32} (hdg : decode cc pc = .ok (.baload, 1)) (hrd : gk_Rd E S a (.inl (E.2.1 2, n, .inl f))) (hi : i = nI j) (hj : j < n) (hn : n < 2 ^ 31) (k : gk_G p l e R s m args below meth c E nL S cells slots Q (pc + 1) L (.int (f j) :: rest)) : gk_G p l e R s m args below meth c E nL S cells slots Q pc L (.int i :: .ref a :: rest) := by
  intro H locs ls hR hS hl
  subst hi
  refine va_zald (D := E.1) (cl := gk_cl) (tys := gk_tys E.2.1) X.1 X.2.1 X.2.2.2.2.2.1.1 (gk_sgl (hrd H hR)) 0 2 rfl rfl (vp_in_nI hj hn) hdg ?_
  rw [nI_clamp (Nat.lt_trans hj hn)]
  exact k H locs ls hR hS hl
theorem g_lald (X : gk_X p s m args meth c cc own nL E) {a n j : Nat} {i : Int32} {f : Nat → Int64} (hdg : decode cc pc = .ok (.laload, 1)) (hrd : gk_Rd E S a (.inl (E.2.1 3, n, .inr (.inl f)))) (hi : i = nI j) (hj : j < n) (hn : n < 2 ^ 31) (k : gk_G p l e R s m args below meth c E nL S cells slots Q (pc + 1) L (.long (f j) :: rest)) : gk_G p l e R s m args below meth c E nL S cells slots Q pc L (.int i :: .ref a :: rest) := by
  intro H locs ls hR hS hl
  subst hi
  refine va_lald (D := E.1) (cl := gk_cl) (tys := gk_tys E.2.1) X.1 X.2.1 X.2.2.2.2.2.1.1 (gk_sgl (hrd H hR)) 0 3 rfl rfl (vp_in_nI hj hn) hdg ?_
  rw [nI_clamp (Nat.lt_trans hj hn)]
  exact k H locs ls hR hS hl
/-- an array of references: t its type (4 arrays of ints, 5 Texts, 6 Objects, 7 Strings) -/
theorem g_aald (X : gk_X p s m args meth c cc own nL E) {t a n j : Nat} {i : Int32} {f : Nat → Option Nat} {v : Value} {ty : FieldType} (hdg : decode cc pc = .ok (.aaload, 1)) (hrd : gk_Rd E S a (.inl (E.2.1 t, n, .inr (.inr (.inr (.inr f)))))) (ht : (gk_tys E.2.1)[t]? = some (E.2.1 t, ty)) (hty : ty.isReference = true) (hi : i = nI j) (hj : j < n) (hn : n < 2 ^ 31) (hv : va_rf (f j) = v) (k : gk_G p l e R s m args below meth c E nL S cells slots Q (pc + 1) L (v :: rest)) : gk_G p l e R s m args below meth c E nL S cells slots Q pc L (.int i :: .ref a :: rest) := by
  intro H locs ls hR hS hl
  subst hi
  subst hv
  have hc : (nI j).toNatClampNeg = j := nI_clamp (Nat.lt_trans hj hn)
  have hin : ¬ (nI j < 0 ∨ n ≤ (nI j).toNatClampNeg) := vp_in_nI hj hn
  exact W.aald (v := va_rf (f j)) (ty := ty) X.1 X.2.1 (hrd H hR) ((X.2.2.2.2.2.1.1.2 t _ ht).1 n (fun j => va_rf (f j))) hty (fun q => by cases q) (by show ¬ (_ ∨ (arrV _ _ _).slots.size ≤ _); rw [arrV_size]; exact hin) (by show (arrV _ _ _).slots[_]? = _; rw [hc, arrV_read _ _ hj]) rfl rfl hdg (k H locs ls hR hS hl)
theorem g_alen (X : gk_X p s m args meth c cc own nL E) {t a : Nat} {x : vp_A} {ty : FieldType} (hdg : decode cc pc = .ok (.arraylength, 1)) (hrd : gk_Rd E S a (.inl (E.2.1 t, x))) (ht : (gk_tys E.2.1)[t]? = some (E.2.1 t, ty)) (k : gk_G p l e R s m args below meth c E nL S cells slots Q (pc + 1) L (.int (nI x.1) :: rest)) : gk_G p l e R s m args below meth c E nL S cells slots Q pc L (.ref a :: rest) := fun H locs ls hR hS hl =>
  va_alen (D := E.1) (cl := gk_cl) (tys := gk_tys E.2.1) X.1 X.2.1 X.2.2.2.2.2.1.1 (gk_sgl (hrd H hR)) 0 t rfl ht rfl hdg (k H locs ls hR hS hl)
theorem gk_celli {H1 : Heap} {a n j : Nat} {cA : ClassId} {f : Nat → Int32} {x : Int32} (e1 : H1[a]? = some ((vp_cell cA (n, .inl f)).setSlot j (.int x))) : va_at E.1 gk_cl (a, .inl (cA, n, .inl (upd f j x))) H1 := by
  show H1[a]? = some (vp_cell _ _)
  rw [e1, vp_cell_i, vp_cell_i, arrV_store]
  congr 2
  funext q
  by_cases hq : q = j
  · subst hq
    simp [updV, upd]
  · simp [updV, upd, hq]
theorem gk_celll {H1 : Heap} {a n j : Nat} {cA : ClassId} {f : Nat → Int64} {x : Int64} (e1 : H1[a]? = some ((vp_cell cA (n, .inr (.inl f))).setSlot j (.long x))) : va_at E.1 gk_cl (a, .inl (cA, n, .inr (.inl (vp_updL f j x)))) H1 := by
  show H1[a]? = some (vp_cell _ _)
  rw [e1, vp_cell_l, vp_cell_l, arrV_store]
  congr 2
  funext q
  by_cases hq : q = j
  · subst hq
    simp [updV, vp_updL]
  · simp [updV, vp_updL, hq]
theorem gk_cellq {H1 : Heap} {a n j : Nat} {cA : ClassId} {f : Nat → Option Nat} {x : Option Nat} (e1 : H1[a]? = some ((vp_cell cA (n, .inr (.inr (.inr (.inr f))))).setSlot j (va_rf x))) : va_at E.1 gk_cl (a, .inl (cA, n, .inr (.inr (.inr (.inr (va_up f j x)))))) H1 := by
  show H1[a]? = some (vp_cell _ _)
  rw [e1, vp_cell_q, vp_cell_q, arrV_store]
  congr 2
  funext q
  by_cases hq : q = j
  · subst hq
    simp [updV, va_up]
  · simp [updV, va_up, hq]
/-- a fixed array of ints: number i, place j -/
theorem g_iast (X : gk_X p s m args meth c cc own nL E) (ho : E.2.2.2.2 = true) {a : Nat} (i : Nat) {n j : Nat} {x y : Int32} (hdg : decode cc pc = .ok (.iastore, 1)) (ha : a = E.2.2.1 i) (hk : gk_kd i = some (0, n)) (hy : y = nI j) (hj : j < n) (hn : n < 2 ^ 31)
    (k : gk_G p l e R s m args below meth c E nL (gk_si S i (upd (S.1 i) j x)) cells slots Q (pc + 1) L rest) : gk_G p l e R s m args below meth c E nL S cells slots Q pc L (.int x :: .int y :: .ref a :: rest) := by
  intro H locs ls hR hS hl
  subst hy
  subst ha
  have hc : (nI j).toNatClampNeg = j := nI_clamp (Nat.lt_trans hj hn)
  have hin : ¬ (nI j < 0 ∨ n ≤ (nI j).toNatClampNeg) := vp_in_nI hj hn
  have hat := hR.1 ho i (.inl (E.2.1 0, n, .inl (S.1 i))) (by unfold gk_fx; rw [hk])
  refine W.iast X.1 X.2.1 hat ((X.2.2.2.2.2.1.1.2 0 _ rfl).1 n (fun j => .int (S.1 i j))) (fun q => by cases q) (by show ¬ (_ ∨ (arrV _ _ _).slots.size ≤ _); rw [arrV_size]; exact hin) rfl rfl hdg fun H1 e1 z oq => ?_
  rw [hc] at e1 ⊢
  exact k H1 _ ls (hR.seti X.2.2.2.2.2.1.2.2.2.2.2 ho hk (gk_celli e1) oq) (hS.put z oq ((X.2.2.2.2.2.1.2.2.2.2.2 ho).2 i (gk_dom_kd hk))) hl
theorem g_bast (X : gk_X p s m args meth c cc own nL E) (ho : E.2.2.2.2 = true) {a : Nat} (i : Nat) {n j : Nat} {x y : Int32} (hdg : decode cc pc = .ok (.bastore, 1)) (ha : a = E.2.2.1 i) (hk : gk_kd i = some (1, n)) (hy : y = nI j) (hj : j < n) (hn : n < 2 ^ 31)
    (k : gk_G p l e R s m args below meth c E nL (gk_si S i (upd (S.1 i) j (vp_nar .byte x))) cells slots Q (pc + 1) L rest) : gk_G p l e R s m args below meth c E nL S cells slots Q pc L (.int x :: .int y :: .ref a :: rest) := by
  intro H locs ls hR hS hl
  subst hy
  subst ha
  have hc : (nI j).toNatClampNeg = j := nI_clamp (Nat.lt_trans hj hn)
  have hin : ¬ (nI j < 0 ∨ n ≤ (nI j).toNatClampNeg) := vp_in_nI hj hn
  have hat := hR.1 ho i (.inl (E.2.1 1, n, .inl (S.1 i))) (by unfold gk_fx; rw [hk])
  refine W.bast X.1 X.2.1 hat ((X.2.2.2.2.2.1.1.2 1 _ rfl).1 n (fun j => .int (S.1 i j))) (fun q => by cases q) (by show ¬ (_ ∨ (arrV _ _ _).slots.size ≤ _); rw [arrV_size]; exact hin) rfl rfl hdg fun H1 e1 z oq => ?_
  rw [hc] at e1 ⊢
  exact k H1 _ ls (hR.seti X.2.2.2.2.2.1.2.2.2.2.2 ho hk (gk_celli e1) oq) (hS.put z oq ((X.2.2.2.2.2.1.2.2.2.2.2 ho).2 i (gk_dom_kd hk))) hl
theorem g_zast (X : gk_X p s m args meth c cc own nL E) (ho : E.2.2.2.2 = true) {a : Nat} (i : Nat) {n j : Nat} {x y : Int32} (hdg : decode cc pc = .ok (.bastore, 1)) (ha : a = E.2.2.1 i) (hk : gk_kd i = some (2, n)) (hy : y = nI j) (hj : j < n) (hn : n < 2 ^ 31)
    (k : gk_G p l e R s m args below meth c E nL (gk_si S i (upd (S.1 i) j (vp_nar .boolean x))) cells slots Q (pc + 1) L rest) : gk_G p l e R s m args below meth c E nL S cells slots Q pc L (.int x :: .int y :: .ref a :: rest) := by
  intro H locs ls hR hS hl
  subst hy
  subst ha
  have hc : (nI j).toNatClampNeg = j := nI_clamp (Nat.lt_trans hj hn)
  have hin : ¬ (nI j < 0 ∨ n ≤ (nI j).toNatClampNeg) := vp_in_nI hj hn
  have hat := hR.1 ho i (.inl (E.2.1 2, n, .inl (S.1 i))) (by unfold gk_fx; rw [hk])
  refine W.zast X.1 X.2.1 hat ((X.2.2.2.2.2.1.1.2 2 _ rfl).1 n (fun j => .int (S.1 i j))) (fun q => by cases q) (by show ¬ (_ ∨ (arrV _ _ _).slots.size ≤ _); rw [arrV_size]; exact hin) rfl rfl hdg fun H1 e1 z oq => ?_
  rw [hc] at e1 ⊢
  exact k H1 _ ls (hR.seti X.2.2.2.2.2.1.2.2.2.2.2 ho hk (gk_celli e1) oq) (hS.put z oq ((X.2.2.2.2.2.1.2.2.2.2.2 ho).2 i (gk_dom_kd hk))) hl
theorem gk_fx_406 : gk_fx E S 406 = some (.inl (E.2.1 3, 330, .inr (.inl (S.2.1 0)))) := rfl
theorem g_last (X : gk_X p s m args meth c cc own nL E) (ho : E.2.2.2.2 = true) {a j : Nat} {x : Int64} {y : Int32} (hdg : decode cc pc = .ok (.lastore, 1)) (ha : a = E.2.2.1 406) (hy : y = nI j) (hj : j < 330)
    (k : gk_G p l e R s m args below meth c E nL (gk_sl S 0 (vp_updL (S.2.1 0) j x)) cells slots Q (pc + 1) L rest) : gk_G p l e R s m args below meth c E nL S cells slots Q pc L (.long x :: .int y :: .ref a :: rest) := by
  intro H locs ls hR hS hl
  subst hy
  subst ha
  obtain ⟨N, hN⟩ : ∃ N : Nat, N = 330 := ⟨_, rfl⟩
  have hj' : j < N := by omega
  have hN2 : N < 2 ^ 31 := by omega
  have hc : (nI j).toNatClampNeg = j := nI_clamp (Nat.lt_trans hj' hN2)
  have hin : ¬ (nI j < 0 ∨ N ≤ (nI j).toNatClampNeg) := vp_in_nI hj' hN2
  have hat := hR.1 ho 406 (.inl (E.2.1 3, N, .inr (.inl (S.2.1 0)))) (by rw [hN]; exact gk_fx_406)
  refine W.last X.1 X.2.1 hat ((X.2.2.2.2.2.1.1.2 3 _ rfl).1 N (fun j => .long (S.2.1 0 j))) (fun q => by cases q) (by show ¬ (_ ∨ (arrV _ _ _).slots.size ≤ _); rw [arrV_size]; exact hin) rfl rfl hdg fun H1 e1 z oq => ?_
  rw [hc] at e1 ⊢
  exact k H1 _ ls (hR.setx X.2.2.2.2.2.1.2.2.2.2.2 ho rfl (e' := .inl (E.2.1 3, N, .inr (.inl (vp_updL (S.2.1 0) j x)))) (by rw [hN]; exact gk_fx_406 (S := gk_sl S 0 (vp_updL (S.2.1 0) j x))) (fun _ hq => gk_fx_l0 hq) rfl (gk_celll e1) oq) (hS.put z oq ((X.2.2.2.2.2.1.2.2.2.2.2 ho).2 406 rfl)) hl
/-- an array of ints that isn't fixed -/
theorem g_iastd (X : gk_X p s m args meth c cc own nL E) {a n j : Nat} {f : Nat → Int32} {x y : Int32} (hdg : decode cc pc = .ok (.iastore, 1)) (hat : S.2.2.2 a = some (.inl (E.2.1 0, n, .inl f))) (ha : E.2.2.2.1 ≤ a) (hy : y = nI j) (hj : j < n) (hn : n < 2 ^ 31)
    (k : gk_G p l e R s m args below meth c E nL (gk_sd S a (.inl (E.2.1 0, n, .inl (upd f j x)))) cells slots Q (pc + 1) L rest) : gk_G p l e R s m args below meth c E nL S cells slots Q pc L (.int x :: .int y :: .ref a :: rest) := by
  intro H locs ls hR hS hl
  subst hy
  have hc : (nI j).toNatClampNeg = j := nI_clamp (Nat.lt_trans hj hn)
  have hin : ¬ (nI j < 0 ∨ n ≤ (nI j).toNatClampNeg) := vp_in_nI hj hn
  refine W.iast X.1 X.2.1 (hR.2 a _ hat).1 ((X.2.2.2.2.2.1.1.2 0 _ rfl).1 n (fun j => .int (f j))) (fun q => by cases q) (by show ¬ (_ ∨ (arrV _ _ _).slots.size ≤ _); rw [arrV_size]; exact hin) rfl rfl hdg fun H1 e1 z oq => ?_
  rw [hc] at e1 ⊢
  exact k H1 _ ls (hR.setd hat (gk_celli e1) oq) (hS.put z oq ha) hl
/-- new cells: their address is new -/
theorem g_new (X : gk_X p s m args meth c cc own nL E) {C : String} {T : u_T} {N ci index : Nat} {fs : List Value} (hin : ∀ w ∈ u_ws C T N, w ∈ lw_all) (ty : Nat → FieldType) (hty : ∀ k, k < N → parseFieldDescriptor (T k).2.2.1 = some (ty k)) (hdg : decode cc pc = .ok (.new index, 3)) (hcl : Cond.classLink own index C ∈ lw_all) (hinst : Cond.instantiable C N ∈ lw_all) (hini : Cond.initialized C ∈ lw_all) (hc : gk_cl[ci]? = some (C, T, N)) (hfs : ∀ j, j < N → defaultValue (ty j) = vp_V fs j) (hcells : cells + 1 ≤ R.cells) (hslots : slots + N ≤ R.slots)
    (kk : ∀ q : Nat, S.2.2.2 q = none → E.2.2.2.1 ≤ q → gk_G p l e R s m args below meth c E nL (gk_sd S q (.inr (ci, fs))) (cells + 1) (slots + N) Q (pc + 3) L (.ref q :: rest)) : gk_G p l e R s m args below meth c E nL S cells slots Q pc L rest := by
  intro H locs ls hR hS hl
  have hKn := X.2.2.2.2.2.1.1.1 ci _ hc
  refine W.newcK X.1 X.2.1 X.2.2.2.1 (X.2.2.2.2.1 _ hcl) (X.2.2.2.2.1 _ hinst) (X.2.2.2.2.1 _ hini) rfl hdg hcells hslots hKn.2.1 rfl fun H1 kC hkC e1 z1 o1 => ?_
  obtain ⟨h1, h2⟩ := hR.new (e' := .inr (ci, fs)) ⟨_, hc, (u_born ty X.2.2.2.2.1 hin hKn hkC e1 hty).to hfs⟩ o1
  exact kk H.size h2 (Nat.le_trans X.2.2.2.2.2.2.1 hS.1) H1 locs ls h1 ⟨Nat.le_trans hS.1 (by omega), fun x g1 g2 => (o1 x (Nat.lt_of_lt_of_le g1 hS.1)).trans (hS.2.1 x g1 g2), hS.2.2⟩ hl
theorem gk_newr (X : gk_X p s m args meth c cc own nL E) {t N : Nat} {at0 : ArrayType} {n : Int32} {a0 : vp_A} (hdg : decode cc pc = .ok (.newarray at0, 2)) (harr : Cond.arrayClass (newarray.typeOf at0) ∈ lw_all) (ht : (gk_tys E.2.1)[t]? = some (E.2.1 t, newarray.typeOf at0)) (hnm : va_RA s (E.2.1 t) (newarray.typeOf at0) → s.vm.findClass ("[" ++ (newarray.typeOf at0).toString) = some (E.2.1 t)) (ha : ∀ cA : ClassId, vp_cell cA a0 = arrV cA N (fun _ => defaultValue (newarray.typeOf at0))) (hn : ¬ n < 0) (hN : n.toNatClampNeg = N) (hbytes : N * componentBytes (newarray.typeOf at0) ≤ 536870912) (hcells : cells + 1 ≤ R.cells) (hslots : slots + N ≤ R.slots)
    (kk : ∀ q : Nat, S.2.2.2 q = none → E.2.2.2.1 ≤ q → gk_G p l e R s m args below meth c E nL (gk_sd S q (.inl (E.2.1 t, a0))) (cells + 1) (slots + N) Q (pc + 2) L (.ref q :: rest)) : gk_G p l e R s m args below meth c E nL S cells slots Q pc L (.int n :: rest) := by
  intro H locs ls hR hS hl
  refine va_newaK X.1 X.2.1 (X.2.2.2.2.1 _ harr) rfl hdg rfl hn hN hbytes hcells hslots rfl fun H1 cA e1 z1 o1 hAr hNm => ?_
  have hcA : cA = E.2.1 t := Option.some.inj (hNm.symm.trans (hnm (X.2.2.2.2.2.1.1.2 t _ ht).2))
  subst hcA
  obtain ⟨h1, h2⟩ := hR.new (e' := .inl (E.2.1 t, a0)) (by show H1[H.size]? = some (vp_cell _ _); rw [ha]; exact e1) o1
  exact kk H.size h2 (Nat.le_trans X.2.2.2.2.2.2.1 hS.1) H1 locs ls h1 ⟨Nat.le_trans hS.1 (by omega), fun x g1 g2 => (o1 x (Nat.lt_of_lt_of_le g1 hS.1)).trans (hS.2.1 x g1 g2), hS.2.2⟩ hl
theorem g_newi (X : gk_X p s m args meth c cc own nL E) {N : Nat} {n : Int32} (hdg : decode cc pc = .ok (.newarray .int, 2)) (hn : n = nI N) (hN : N < 100000) (hcells : cells + 1 ≤ R.cells) (hslots : slots + N ≤ R.slots)
    (kk : ∀ q : Nat, S.2.2.2 q = none → E.2.2.2.1 ≤ q → gk_G p l e R s m args below meth c E nL (gk_sd S q (.inl (E.2.1 0, N, .inl (fun _ => 0)))) (cells + 1) (slots + N) Q (pc + 2) L (.ref q :: rest)) : gk_G p l e R s m args below meth c E nL S cells slots Q pc L (.int n :: rest) :=
  gk_newr X (t := 0) hdg q227 rfl (fun h => h) (fun _ => rfl) (by rw [hn]; exact nI_pos (by omega)) (by rw [hn]; exact nI_clamp (by omega)) (by show N * 4 ≤ _; omega) hcells hslots kk
theorem g_newb (X : gk_X p s m args meth c cc own nL E) {N : Nat} {n : Int32} (hdg : decode cc pc = .ok (.newarray .byte, 2)) (hn : n = nI N) (hN : N < 100000) (hcells : cells + 1 ≤ R.cells) (hslots : slots + N ≤ R.slots)
    (kk : ∀ q : Nat, S.2.2.2 q = none → E.2.2.2.1 ≤ q → gk_G p l e R s m args below meth c E nL (gk_sd S q (.inl (E.2.1 1, N, .inl (fun _ => 0)))) (cells + 1) (slots + N) Q (pc + 2) L (.ref q :: rest)) : gk_G p l e R s m args below meth c E nL S cells slots Q pc L (.int n :: rest) :=
  gk_newr X (t := 1) hdg q281 rfl (fun h => h) (fun _ => rfl) (by rw [hn]; exact nI_pos (by omega)) (by rw [hn]; exact nI_clamp (by omega)) (by show N * 1 ≤ _; omega) hcells hslots kk
theorem g_newz (X : gk_X p s m args meth c cc own nL E) {N : Nat} {n : Int32} (hdg : decode cc pc = .ok (.newarray .boolean, 2)) (hn : n = nI N) (hN : N < 100000) (hcells : cells + 1 ≤ R.cells) (hslots : slots + N ≤ R.slots)
    (kk : ∀ q : Nat, S.2.2.2 q = none → E.2.2.2.1 ≤ q → gk_G p l e R s m args below meth c E nL (gk_sd S q (.inl (E.2.1 2, N, .inl (fun _ => 0)))) (cells + 1) (slots + N) Q (pc + 2) L (.ref q :: rest)) : gk_G p l e R s m args below meth c E nL S cells slots Q pc L (.int n :: rest) :=
  gk_newr X (t := 2) hdg q282 rfl (fun h => h) (fun _ => rfl) (by rw [hn]; exact nI_pos (by omega)) (by rw [hn]; exact nI_clamp (by omega)) (by show N * 1 ≤ _; omega) hcells hslots kk
theorem g_newl (X : gk_X p s m args meth c cc own nL E) {N : Nat} {n : Int32} (hdg : decode cc pc = .ok (.newarray .long, 2)) (hn : n = nI N) (hN : N < 100000) (hcells : cells + 1 ≤ R.cells) (hslots : slots + N ≤ R.slots)
    (kk : ∀ q : Nat, S.2.2.2 q = none → E.2.2.2.1 ≤ q → gk_G p l e R s m args below meth c E nL (gk_sd S q (.inl (E.2.1 3, N, .inr (.inl (fun _ => 0))))) (cells + 1) (slots + N) Q (pc + 2) L (.ref q :: rest)) : gk_G p l e R s m args below meth c E nL S cells slots Q pc L (.int n :: rest) :=
  gk_newr X (t := 3) hdg q1511 rfl (fun h => h) (fun _ => rfl) (by rw [hn]; exact nI_pos (by omega)) (by rw [hn]; exact nI_clamp (by omega)) (by show N * 8 ≤ _; omega) hcells hslots kk
theorem g_gets (X : gk_X p s m args meth c cc own nL E) {C n d ref : String} {v : Value} {index : Nat} (hdg : decode cc pc = .ok (.getstatic index, 3)) (hlink : Cond.fieldLink own index ref n d ∈ lw_all) (hst : (C, n, d, v) ∈ gk_st E) (hsame : ∀ x, s.fieldFound? C n d = some x → s.fieldFound? ref n d = some x) (k : gk_G p l e R s m args below meth c E nL S cells slots Q (pc + 3) L (v :: rest)) : gk_G p l e R s m args below meth c E nL S cells slots Q pc L rest := fun H locs ls hR hS hl =>
  va_gets X.1 X.2.1 (X.2.2.2.2.2.1.2.2.1 _ hst) hS X.2.2.2.1 (X.2.2.2.2.1 _ hlink) hsame hdg (k H locs ls hR hS hl)
theorem g_ldc (X : gk_X p s m args meth c cc own nL E) {index : Nat} {v : Int32} (hdg : decode cc pc = .ok (.ldc index, 2)) (hconst : Cond.constant own index v ∈ lw_all) (k : gk_G p l e R s m args below meth c E nL S cells slots Q (pc + 2) L (.int v :: rest)) : gk_G p l e R s m args below meth c E nL S cells slots Q pc L rest := fun H locs ls hR hS hl =>
  lv_ldc X.1 X.2.1 X.2.2.2.1 (X.2.2.2.2.1 _ hconst) hdg (k H locs ls hR hS hl)
theorem g_ldc2 (X : gk_X p s m args meth c cc own nL E) {index : Nat} {v : Int64} (hdg : decode cc pc = .ok (.ldc2_w index, 3)) (hconst : Cond.constantLong own index v ∈ lw_all) (k : gk_G p l e R s m args below meth c E nL S cells slots Q (pc + 3) L (.long v :: rest)) : gk_G p l e R s m args below meth c E nL S cells slots Q pc L rest := fun H locs ls hR hS hl =>
  lv_ldc2 X.1 X.2.1 X.2.2.2.1 (X.2.2.2.2.1 _ hconst) hdg (k H locs ls hR hS hl)
/-- Object.<init> -/
theorem g_objInit (X : gk_X p s m args meth c cc own nL E) {index a : Nat} (hdg : decode cc pc = .ok (.invokespecial index, 3)) (hlink : Cond.methodLink own index Lib.objectInit ∈ lw_all) (hinst : Cond.instanceMethod Lib.objectInit ∈ lw_all) (hcode : Cond.code Lib.objectInit ⟨#[0xb1]⟩ 1 none ∈ lw_all) (hfr : 1 ≤ R.frames) (hlo : (rest.map fun v => v.category).sum + 12 ≤ R.locals) (k : gk_G p l e R s m args below meth c E nL S cells slots Q (pc + 3) L rest) : gk_G p l e R s m args below meth c E nL S cells slots Q pc L (.ref a :: rest) := by
  intro H locs ls hR hS hl
  refine W.objInit X.1 X.2.1 X.2.2.2.1 (X.2.2.2.2.1 _ hlink) (X.2.2.2.2.1 _ hinst) (X.2.2.2.2.1 _ hcode) rfl (by rw [X.2.2.1]; exact hl.1) rfl hdg hfr ?_ (k H locs ls hR hS hl)
  have h0 : 2 * (F0 m pc ls (.ref a :: rest)).monitorRoom = 0 := rfl
  omega
end GK2
