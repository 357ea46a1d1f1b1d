theorem gk_T.imp {l : Launch} {E : gk_E} {y : MethodName} {cc : ByteArray} {nL : Nat} {ret : Option FieldType} {fr lo mc ms : Nat} {av : List Value} {S : gk_S} {post post' : Option Value → gk_S → Prop} (h : gk_T l E y cc nL ret fr lo mc ms av S post) (hq : ∀ r S', post r S' → post' r S') : gk_T l E y cc nL ret fr lo mc ms av S post' := by
  intro p e ha hc hk s m args below hf happ hP hK
  obtain ⟨n, o, h1, h2, h3, ⟨⟨r, S', e1, e2, e3⟩, e4⟩, e5⟩ := h p e ha hc hk s m args below hf happ hP hK
  exact ⟨n, o, h1, h2, h3, ⟨⟨⟨r, S', e1, hq r S' e2, e3⟩, e4⟩, e5⟩⟩
/-! A SPRING OF THE MODEL as a function of its row alone -/
def nmA (o A : Nat → Int32) (f k : Nat) : Nat → Int32 := nmd o (A 5) (nI k) (A (32 + k)) (nI f) (A (27 + f)) (A (37 + 5 * f + k))
def vcA (o A : Nat → Int32) (f k n : Nat) : Nat → Int32 := fun i => if i < 4 then o (6 + i) else if i < 10 then nmA o A f k (i - 4) else bP (i - 10 < n ∧ hs (A 7) (nI (i - 10)))
theorem vcM_A {S : gk_S} {f k n : Nat} : vcM S f k n = vcA (S.1 405) (S.1 400) f k n := rfl
def vlA (o : Nat → Int32) (n : Nat) (A : Nat → Int32) (W : Option mnB) (f k : Nat) : Int32 := wvM W (vcA o A f k n)
theorem vlM_A {S : gk_S} {n : Nat} {A : Nat → Int32} {W : Option mnB} : vlM S n A W = vlA (S.1 405) n A W := rfl
def z0 : Nat → Int32 := fun _ => 0
def pbA (n nf : Nat) (g A : Nat → Int32) : pM := bMs n g (clA A 8, ix (A 6), z0, 0) nf
def pdA (wr : Bool) (o : Nat → Int32) (n nf : Nat) (g : Nat → Int32) (W : Option mnB) (A : Nat → Int32) : pC :=
  cM2 wr (vlA o n (pbA n nf g A).1 W) (pbA n nf g A).2.2.1 (pbA n nf g A).2.2.2 nf (cM1 wr (vlA o n (pbA n nf g A).1 W) (pbA n nf g A).2.2.1 (pbA n nf g A).2.2.2 ((pbA n nf g A).1, 31, ix (A 8)) nf) nf
def pmA (wr : Bool) (o : Nat → Int32) (n nf : Nat) (g : Nat → Int32) (W : Option mnB) (A : Nat → Int32) : (Nat → Int32) × Int32 := (upd (pdA wr o n nf g W A).1 5 ((pdA wr o n nf g W A).1 5 + 1), (pbA n nf g A).2.2.2)
theorem bMs_in {n v : Nat} {g A cl cl' : Nat → Int32} {bad : Int32} : ∀ {i : Nat}, (bMs n g (A, v, cl, bad) i).1 = (bMs n g (A, v, cl', bad) i).1 ∧ (bMs n g (A, v, cl, bad) i).2.1 = (bMs n g (A, v, cl', bad) i).2.1 ∧ (bMs n g (A, v, cl, bad) i).2.2.2 = (bMs n g (A, v, cl', bad) i).2.2.2 ∧ ∀ f, f < i → (bMs n g (A, v, cl, bad) i).2.2.1 f = (bMs n g (A, v, cl', bad) i).2.2.1 f
  | 0 => by rw [bMs_0, bMs_0]; exact ⟨rfl, rfl, rfl, fun f hf => absurd hf (by omega)⟩
  | i + 1 => by
    obtain ⟨h1, h2, h3, h4⟩ := bMs_in (n := n) (v := v) (g := g) (A := A) (cl := cl) (cl' := cl') (bad := bad) (i := i)
    rw [bMs_s, bMs_s]
    unfold bM
    dsimp only
    rw [h1, h2, h3]
    refine ⟨rfl, rfl, rfl, fun f hf => ?_⟩
    by_cases e : f = i
    · subst e
      rw [upd_s, upd_s]
    · rw [upd_n e, upd_n e]
      exact h4 f (by omega)
theorem cM_c {wr : Bool} {V : Nat → Nat → Int32} {cl cl' : Nat → Int32} {z : Int32} {f : Nat} {q : pC} (h : cl f = cl' f) : cM wr V cl z f q = cM wr V cl' z f q := by
  unfold cM
  rw [h]
theorem cM1_c {wr : Bool} {V : Nat → Nat → Int32} {cl cl' : Nat → Int32} {bad : Int32} {q0 : pC} : ∀ {i : Nat}, (∀ f, f < i → cl f = cl' f) → cM1 wr V cl bad q0 i = cM1 wr V cl' bad q0 i
  | 0, _ => by rw [cM1_0, cM1_0]
  | i + 1, h => by
    have e := cM1_c (wr := wr) (V := V) (bad := bad) (q0 := q0) (i := i) (cl := cl) (cl' := cl') (fun f hf => h f (by omega))
    by_cases c : hs bad (nI i)
    · rw [cM1_t c, cM1_t c, e]
    · rw [cM1_f c, cM1_f c, e, cM_c (h i (by omega))]
theorem cM2_c {wr : Bool} {V : Nat → Nat → Int32} {cl cl' : Nat → Int32} {bad : Int32} {nf : Nat} {q0 : pC} (h : ∀ f, f < nf → cl f = cl' f) : ∀ {i : Nat}, i ≤ nf → cM2 wr V cl bad nf q0 i = cM2 wr V cl' bad nf q0 i
  | 0, _ => by rw [cM2_0, cM2_0]
  | i + 1, hi => by
    have e := cM2_c (wr := wr) (V := V) (bad := bad) (q0 := q0) (i := i) h (by omega)
    by_cases c : hs bad (nI (nf - 1 - i))
    · rw [cM2_t rfl c, cM2_t rfl c, e, cM_c (h _ (by omega))]
    · rw [cM2_f rfl c, cM2_f rfl c, e]
theorem psBM_in {S : gk_S} {n nf v : Nat} {g : Nat → Int32} (hv : S.1 400 6 = nI v) (hv2 : v < 30859) : (psBM S n nf v g).1 = (pbA n nf g (S.1 400)).1 ∧ (psBM S n nf v g).2.2.2 = (pbA n nf g (S.1 400)).2.2.2 ∧ ∀ f, f < nf → (psBM S n nf v g).2.2.1 f = (pbA n nf g (S.1 400)).2.2.1 f := by
  unfold psBM pbA
  rw [hv, ix_n (by omega)]
  obtain ⟨h1, h2, h3, h4⟩ := bMs_in (n := n) (v := v) (g := g) (A := clA (S.1 400) 8) (cl := S.1 408) (cl' := z0) (bad := 0) (i := nf)
  exact ⟨h1, h3, h4⟩
theorem psRM_in {S : gk_S} {wr : Bool} {n nf v nb : Nat} {g : Nat → Int32} {W : Option mnB} (hv : S.1 400 6 = nI v) (hv2 : v < 30859) (hb : S.1 400 8 = nI nb) (hb2 : nb ≤ 20) : psRM wr S n nf v nb g W = (pmA wr (S.1 405) n nf g W (S.1 400)).1 ∧ (psBM S n nf v g).2.2.2 = (pmA wr (S.1 405) n nf g W (S.1 400)).2 := by
  obtain ⟨h1, h2, h3⟩ := psBM_in (n := n) (nf := nf) (g := g) hv hv2
  refine ⟨?_, h2⟩
  have e : psDM wr S n nf v nb g W = pdA wr (S.1 405) n nf g W (S.1 400) := by
    unfold psDM psCM pdA
    rw [h1, h2, hb, ix_n (by omega), vlM_A, cM1_c h3, cM2_c h3 (Nat.le_refl _)]
  unfold psRM pmA
  rw [e]
/-- what the model's springs stand on -/
def EnM (S : gk_S) (n nf : Nat) (g : Nat → Int32) (W : Option mnB) : Prop := MU S n g ∧ S.1 400 0 = nI nf ∧ nf ≤ 5 ∧ wtM (S.1 402) (S.1 400 2) W ∧ S.1 201 24 = 0
/-- a row of the model as springs want it -/
def roM (A : Nat → Int32) : Prop := (∃ v, v < 30859 ∧ A 6 = nI v) ∧ (∃ nb, nb ≤ 20 ∧ A 8 = nI nb) ∧ smA A
theorem k_X2_passA {l : Launch} {E : gk_E} (ho : E.2.2.2.2 = true) {S : gk_S} {n nf : Nat} {g : Nat → Int32} {W : Option mnB} {wr : Bool} (he : EnM S n nf g W) (hro : roM (S.1 400)) (hlw : lwB (S.2.1 0)) (hwr : wr = true ↔ ¬ S.1 201 25 = 0) : gk_T l E yX2_pass cX2_pass 4 none 5 122 0 0 [.ref (E.2.2.1 3)] S (fun r S' => ∃ (cl F : Nat → Int32) (L1 : Nat → Int64) (T : Nat → Int32), r = none ∧ S' = gk_m4 S (pmA wr (S.1 405) n nf g W (S.1 400)).1 cl (upd (S.1 201) 26 (S.1 201 26 + bcI (pmA wr (S.1 405) n nf g W (S.1 400)).2)) F L1 T ∧ offM F (S.1 405) ∧ lwB L1) := by
  obtain ⟨⟨v, hv2, hv⟩, ⟨nb, hb2, hb⟩, hsm⟩ := hro
  obtain ⟨h1, h2, h3, h4, h5⟩ := he
  obtain ⟨e1, e2⟩ := psRM_in (wr := wr) (n := n) (nf := nf) (g := g) (W := W) hv hv2 hb hb2
  refine gk_T.imp (k_X2_pass ho h1 h2 h3 hv hv2 hb hb2 h4 h5 hsm hlw hwr) ?_
  rintro r S' ⟨F, L1, T, z1, z2, z3, z4⟩
  rw [e1, e2] at z2
  exact ⟨_, F, L1, T, z1, z2, z3, z4⟩
