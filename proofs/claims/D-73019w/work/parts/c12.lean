/-! A LIST GROWS, as relations between the pictures -/
/-- all that was there stays, but P; nothing else of the picture changes -/
def FrN (P : Nat → Prop) (S S' : gk_S) : Prop := S'.1 = S.1 ∧ S'.2.1 = S.2.1 ∧ S'.2.2.1 = S.2.2.1 ∧ ∀ q e, S.2.2.2 q = some e → ¬ P q → S'.2.2.2 q = some e
theorem FrN.rf {P : Nat → Prop} {S : gk_S} : FrN P S S := ⟨rfl, rfl, rfl, fun _ _ h _ => h⟩
theorem FrN.tr {P : Nat → Prop} {S1 S2 S3 : gk_S} (h1 : FrN P S1 S2) (h2 : FrN P S2 S3) : FrN P S1 S3 := ⟨h2.1.trans h1.1, h2.2.1.trans h1.2.1, h2.2.2.1.trans h1.2.2.1, fun q e h p => h2.2.2.2 q e (h1.2.2.2 q e h p) p⟩
theorem FrN.wk {P P' : Nat → Prop} {S1 S2 : gk_S} (h1 : FrN P S1 S2) (h : ∀ q e, S1.2.2.2 q = some e → P q → P' q) : FrN P' S1 S2 := ⟨h1.1, h1.2.1, h1.2.2.1, fun q e h2 p => h1.2.2.2 q e h2 (fun z => p (h q e h2 z))⟩
theorem FrN.sd {P : Nat → Prop} {S : gk_S} {q : Nat} {x : va_E} (h : P q ∨ S.2.2.2 q = none) : FrN P S (gk_sd S q x) := ⟨rfl, rfl, rfl, fun y e hy hp => by
  by_cases hyq : y = q
  · rcases h with h | h
    · rw [hyq] at hp; exact absurd h hp
    · rw [hyq, h] at hy; cases hy
  · exact (sd_n2 hyq).trans hy⟩
/-- the state after an add: the list's data lie at b2, with room n2 -/
theorem LsB.up {E : gk_E} {S : gk_S} {o : Nat} {mo mo2 : Int32} {b n k b2 n2 v ci : Nat} {x : Nat → Option Nat} {vs : List Value} (h : LsB E S o mo b n k x) (hv : S.2.2.2 v = some (.inr (ci, vs))) (hvo : v ≠ o) (hob : o ≠ b2) (hb2 : ∀ y z, S.2.2.2 y = some (.inr z) → y ≠ b2) (hk : k < n2) (hn : n2 < 100000) (h10 : 10 ≤ n2) (hB : E.2.2.2.1 ≤ b2) :
    LsB E (gk_sd (gk_sd S b2 (.inl (E.2.1 6, n2, .inr (.inr (.inr (.inr (va_up x k (some v)))))))) o (.inr (17, [.int mo2, .ref b2, .int (nI (k + 1))]))) o mo2 b2 n2 (k + 1) (va_up x k (some v)) := by
  have hb : (gk_sd (gk_sd S b2 (.inl (E.2.1 6, n2, .inr (.inr (.inr (.inr (va_up x k (some v)))))))) o (.inr (17, [.int mo2, .ref b2, .int (nI (k + 1))]))).2.2.2 b2 = some (.inl (E.2.1 6, n2, .inr (.inr (.inr (.inr (va_up x k (some v))))))) := (sd_n2 (Ne.symm hob)).trans gk_sda
  refine ⟨⟨gk_sda, rd_dy hb, hk, hn⟩, h.2.1, Or.inr ⟨h10, hB⟩, hb, fun i y hy => ?_⟩
  have key : ∀ y ci fs, S.2.2.2 y = some (.inr (ci, fs)) → ∃ ci fs, (gk_sd (gk_sd S b2 (.inl (E.2.1 6, n2, .inr (.inr (.inr (.inr (va_up x k (some v)))))))) o (.inr (17, [.int mo2, .ref b2, .int (nI (k + 1))]))).2.2.2 y = some (.inr (ci, fs)) := by
    intro y ci fs hy
    by_cases hyo : y = o
    · exact ⟨_, _, by rw [hyo]; exact gk_sda⟩
    · exact ⟨ci, fs, (sd_n2 hyo).trans ((sd_n2 (hb2 y _ hy)).trans hy)⟩
  by_cases hik : i = k
  · subst hik
    have e : v = y := by simpa [va_up] using hy
    subst e
    exact ⟨by omega, key _ _ _ hv⟩
  · have e : x i = some y := by simpa [va_up, hik] using hy
    obtain ⟨h1, ci9, fs9, h2⟩ := h.2.2.2.2 i y e
    exact ⟨by omega, key _ _ _ h2⟩
theorem k_add_f {l : Launch} {E : gk_E} {S : gk_S} {o1 v b n k ci : Nat} {mo : Int32} {x : Nat → Option Nat} {vs : List Value} (h : LsB E S o1 mo b n k x) (hv : S.2.2.2 v = some (.inr (ci, vs))) (hvo : v ≠ o1) (hrr : ∃ r9 : vw_C, gk_cl[ci]? = some r9) (hk : k < n) :
    gk_T l E yJ3_add cJ3_add 2 (some .boolean) 2 100 0 0 [.ref o1, .ref v] S (fun r S' => r = some (.int 1) ∧ LsB E S' o1 (mo + 1) b n (k + 1) (va_up x k (some v)) ∧ FrN (fun q => q = o1 ∨ q = b) S S') := by
  refine gk_T.imp (k_J3_add_f h hv hvo hrr hk) ?_
  rintro r S' ⟨rfl, rfl⟩
  obtain ⟨hB, hb⟩ := al_b h hk
  have h10 : 10 ≤ n := by
    rcases h.2.2.1 with h1 | h1
    · omega
    · exact h1.1
  exact ⟨rfl, h.up hv hvo (al_ob h.1.1 hb) (fun y z hy => al_ob hy hb) hk h.1.2.2.2 h10 hB, (FrN.sd (Or.inl (Or.inr rfl))).tr (FrN.sd (Or.inl (Or.inl rfl)))⟩
theorem gk_TZ.imp {l : Launch} {E : gk_E} {y : MethodName} {cc : ByteArray} {nL : Nat} {ret : Option FieldType} {fr lo mc ms : Nat} {av : List Value} {S : gk_S} {post post' : Option Value → gk_S → Prop} (h : gk_TZ l E y cc nL ret fr lo mc ms av S post) (hq : ∀ r S', post r S' → post' r S') : gk_TZ l E y cc nL ret fr lo mc ms av S post' := by
  intro p e ha hc hk s m args below hf happ hP hK
  obtain ⟨n, o, h1, h2, h3, ⟨⟨r, S', e1, e2, e3⟩, e4⟩, e5⟩ := h p e ha hc hk s m args below hf happ hP hK
  exact ⟨n, o, h1, h2, h3, ⟨⟨⟨r, S', e1, hq r S' e2, e3⟩, e4⟩, e5⟩⟩
theorem k_add_g {l : Launch} {E : gk_E} {S : gk_S} {o1 v b n k ci : Nat} {mo : Int32} {x : Nat → Option Nat} {vs : List Value} (h : LsB E S o1 mo b n k x) (hv : S.2.2.2 v = some (.inr (ci, vs))) (hvo : v ≠ o1) (hrr : ∃ r9 : vw_C, gk_cl[ci]? = some r9) (hk : k = n) (h5 : n < 50000) :
    gk_TZ l E yJ3_add cJ3_add 2 (some .boolean) 6 290 1 (grw n) [.ref o1, .ref v] S (fun r S' => r = some (.int 1) ∧ ∃ b2 : Nat, LsB E S' o1 (mo + 1) b2 (grw n) (k + 1) (va_up x k (some v)) ∧ S.2.2.2 b2 = none ∧ FrN (fun q => q = o1) S S') := by
  refine gk_TZ.imp (k_J3_add_g h hv hvo hrr hk h5) ?_
  rintro r S' ⟨rfl, b2, hn, hB, rfl⟩
  have h0 : n = 0 ∨ 10 ≤ n := by
    rcases h.2.2.1 with h1 | h1
    · exact Or.inl h1.1
    · exact Or.inr h1.1
  have hg : 10 ≤ grw n ∧ grw n < 100000 := by
    unfold grw
    split <;> omega
  exact ⟨rfl, b2, h.up hv hvo (al_oq h.1.1 hn) (fun y z hy => al_oq hy hn) (by rw [hk]; exact grw_lt h0) hg.2 hg.1 hB, hn, (FrN.sd (Or.inr hn)).tr (FrN.sd (Or.inl rfl))⟩
