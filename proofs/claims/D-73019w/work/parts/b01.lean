/-! THE COMPONENT'S SPRINGS by the model's row -/
/-- all but X stays -/
def FrC (X : Nat → Prop) (S S' : gk_S) : Prop := S'.2 = S.2 ∧ (∀ i, ¬ X i → S'.1 i = S.1 i) ∧ offC (S'.1 301) (S.1 301)
theorem FrC.tr {X : Nat → Prop} {S S1 S2 : gk_S} (h : FrC X S S1) (k : FrC X S1 S2) : FrC X S S2 := ⟨k.1.trans h.1, fun i hi => (k.2.1 i hi).trans (h.2.1 i hi), fun i hi => (k.2.2 i hi).trans (h.2.2 i hi)⟩
theorem FrC.rf {X : Nat → Prop} {S : gk_S} : FrC X S S := ⟨rfl, fun _ _ => rfl, fun _ _ => rfl⟩
theorem FrC.mono {X Y : Nat → Prop} {S S' : gk_S} (h : FrC X S S') (hx : ∀ i, X i → Y i) : FrC Y S S' := ⟨h.1, fun i hi => h.2.1 i (fun z => hi (hx i z)), h.2.2⟩
theorem FrC.si {X : Nat → Prop} {S : gk_S} {j : Nat} {f : Nat → Int32} (hx : X j) (hj : j ≠ 301) : FrC X S (gk_si S j f) := ⟨rfl, fun i hi => si_n (fun z => hi (by rw [z]; exact hx)), fun i _ => by rw [si_n (Ne.symm hj)]⟩
/-- what the component's springs stand on -/
def EnC (E : gk_E) (ic : Nat → Nat) (S : gk_S) (a n nf : Nat) (g : Nat → Int32) (W : Option mnB) : Prop := RU E S a n g ∧ S.1 10 0 = nI nf ∧ nf ≤ 5 ∧ wtO E ic S.2.2.2 a W ∧ icA S ic ∧ WOK W
theorem RU_c {E : gk_E} {S S' : gk_S} {a n : Nat} {g : Nat → Int32} (h : RU E S a n g) (h2 : S'.1 10 2 = S.1 10 2) (h3 : S'.2 = S.2) : RU E S' a n g := by
  obtain ⟨x1, x2, x3⟩ := h
  refine ⟨x1, ?_, ?_⟩
  · rw [h2, h3]
    exact x2
  · unfold txo at x3 ⊢
    rw [h3]
    exact x3
theorem EnC.c {E : gk_E} {ic : Nat → Nat} {S S' : gk_S} {a n nf : Nat} {g : Nat → Int32} {W : Option mnB} (h : EnC E ic S a n nf g W) (h0 : S'.1 10 0 = S.1 10 0) (h2 : S'.1 10 2 = S.1 10 2) (h3 : S'.2 = S.2) : EnC E ic S' a n nf g W := by
  obtain ⟨x1, x2, x3, x4, x5, x6⟩ := h
  refine ⟨RU_c x1 h2 h3, h0.trans x2, x3, ?_, ?_, x6⟩
  · rw [h3]
    exact x4
  · unfold icA at x5 ⊢
    rw [h3]
    exact x5
theorem p4_X {S : gk_S} {q : Nat} {R sy ln F : Nat → Int32} (hq : q ≠ 301) (hF : offC F (S.1 301)) : FrC (fun i => i = q ∨ i = 301 ∨ i = 302 ∨ i = 303) S (gk_p4 S q R sy ln F) := by
  refine ⟨rfl, fun i hi => ?_, ?_⟩
  · unfold gk_p4
    rw [si_n (fun z => hi (Or.inl z)), si_n (fun z => hi (Or.inr (Or.inl z))), si_n (fun z => hi (Or.inr (Or.inr (Or.inr z)))), si_n (fun z => hi (Or.inr (Or.inr (Or.inl z))))]
  · unfold gk_p4
    rw [si_n (Ne.symm hq), si_s]
    exact hF
theorem k_X0_passR_11 {l : Launch} {E : gk_E} (ho : E.2.2.2.2 = true) {S : gk_S} {ic : Nat → Nat} {a n nf : Nat} {g o A : Nat → Int32} {W : Option mnB} (he : EnC E ic S a n nf g W) (hA : rwM A) (hl : ldR S A) (hr : rwR true (S.1 11) A) (h5 : ¬ A 5 = 9999) : gk_T l E yX0_passes cX0_passes 8 (some .int) 252 8051 0 0 [.ref (E.2.2.1 0), .ref (E.2.2.1 11)] S (fun r S' => r = some (.int (pmA true o n nf g W A).2) ∧ rwR true (S'.1 11) (pmA true o n nf g W A).1 ∧ FrC (fun i => i = 11 ∨ i = 301 ∨ i = 302 ∨ i = 303) S S') := by
  obtain ⟨x1, x2, x3, x4, x5, x6⟩ := he
  obtain ⟨hco, nb, hb2, hb, hbk⟩ := hr
  obtain ⟨⟨v, hv2, hv⟩, -, -⟩ := hA.1
  obtain ⟨e1, e2⟩ := pass_eq (S := S) (q := 11) (o := o) (g := g) (wr := true) (Or.inl rfl) x6 x1.1 x3 hA hl hco hv hv2 hb hb2 hbk h5
  refine gk_T.imp (k_X0_passes_11 ho x1 x2 x3 (hco.2.1.trans hv) hv2 hb hb2 x4 x5) ?_
  rintro r S' ⟨F, h1, h2, h3⟩
  subst h2
  refine ⟨by rw [h1, e2], ?_, p4_X (by decide) h3⟩
  have e3 : (gk_p4 S 11 (psR S 11 n nf v nb g W) (psB S 11 n nf v g).2.2.1 (psB S 11 n nf v g).2.2.2.1 F).1 11 = psR S 11 n nf v nb g W := by unfold gk_p4; rw [si_s]
  rw [e3]
  exact e1
theorem k_X0_passR_304 {l : Launch} {E : gk_E} (ho : E.2.2.2.2 = true) {S : gk_S} {ic : Nat → Nat} {a n nf : Nat} {g o A : Nat → Int32} {W : Option mnB} (he : EnC E ic S a n nf g W) (hA : rwM A) (hl : ldR S A) (hr : rwR false (S.1 304) A) (h5 : ¬ A 5 = 9999) : gk_T l E yX0_passes cX0_passes 8 (some .int) 252 8051 0 0 [.ref (E.2.2.1 0), .ref (E.2.2.1 304)] S (fun r S' => r = some (.int (pmA false o n nf g W A).2) ∧ rwR false (S'.1 304) (pmA false o n nf g W A).1 ∧ FrC (fun i => i = 304 ∨ i = 301 ∨ i = 302 ∨ i = 303) S S') := by
  obtain ⟨x1, x2, x3, x4, x5, x6⟩ := he
  obtain ⟨hco, nb, hb2, hb, hbk⟩ := hr
  obtain ⟨⟨v, hv2, hv⟩, -, -⟩ := hA.1
  obtain ⟨e1, e2⟩ := pass_eq (S := S) (q := 304) (o := o) (g := g) (wr := false) (Or.inr rfl) x6 x1.1 x3 hA hl hco hv hv2 hb hb2 hbk h5
  refine gk_T.imp (k_X0_passes_304 ho x1 x2 x3 (hco.2.1.trans hv) hv2 hb hb2 x4 x5) ?_
  rintro r S' ⟨F, h1, h2, h3⟩
  subst h2
  refine ⟨by rw [h1, e2], ?_, p4_X (by decide) h3⟩
  have e3 : (gk_p4 S 304 (psR S 304 n nf v nb g W) (psB S 304 n nf v g).2.2.1 (psB S 304 n nf v g).2.2.2.1 F).1 304 = psR S 304 n nf v nb g W := by unfold gk_p4; rw [si_s]
  rw [e3]
  exact e1
