/-! A contract within more room; one that asks nothing of the statics, among those that do; the list's add as ONE contract -/
theorem gk_room {s : State} {pl : Platform} {a b : Room} (h : s.hasRoom pl a = true) (h1 : b.frames ≤ a.frames) (h2 : b.locals ≤ a.locals) (h3 : b.cells ≤ a.cells) (h4 : b.slots ≤ a.slots) : s.hasRoom pl b = true := by
  simp only [State.hasRoom, Bool.and_eq_true, decide_eq_true_eq] at h ⊢
  obtain ⟨⟨⟨⟨g1, g2⟩, g3⟩, g4⟩, g5⟩ := h
  exact ⟨⟨⟨⟨by omega, by omega, by omega, by omega, by omega, g2.2.2.2.2⟩, by omega⟩, by omega⟩, g5⟩
theorem gk_TZ.wide {l : Launch} {E : gk_E} {y : MethodName} {cc : ByteArray} {nL : Nat} {ret : Option FieldType} {fr lo mc ms fr2 lo2 mc2 ms2 : Nat} {av : List Value} {S : gk_S} {post : Option Value → gk_S → Prop} (h : gk_TZ l E y cc nL ret fr lo mc ms av S post) (h1 : fr ≤ fr2) (h2 : lo ≤ lo2) (h3 : mc ≤ mc2) (h4 : ms ≤ ms2) : gk_TZ l E y cc nL ret fr2 lo2 mc2 ms2 av S post := by
  intro p e ha hc hk s m args below hf happ hP hK
  obtain ⟨a1, a2, a3, a4, a5, a6, a7, a8⟩ := (Spec.appliesLoose_iff hf).mp happ
  obtain ⟨n, o, g1, g2, g3, g4, L, ⟨g5, g6, g7⟩, g8⟩ := h p e ha hc hk s m args below hf ((Spec.appliesLoose_iff hf).mpr ⟨a1, a2, a3, a4, a5, a6, gk_room a7 h1 h2 h3 h4, a8⟩) hP hK
  exact ⟨n, o, g1, g2, g3, g4, L, ⟨g5, g6, g7.mono h3 h4⟩, g8⟩
theorem gk_T.wide {l : Launch} {E : gk_E} {y : MethodName} {cc : ByteArray} {nL : Nat} {ret : Option FieldType} {fr lo mc ms fr2 lo2 mc2 ms2 : Nat} {av : List Value} {S : gk_S} {post : Option Value → gk_S → Prop} (h : gk_T l E y cc nL ret fr lo mc ms av S post) (h1 : fr ≤ fr2) (h2 : lo ≤ lo2) (h3 : mc ≤ mc2) (h4 : ms ≤ ms2) : gk_T l E y cc nL ret fr2 lo2 mc2 ms2 av S post := by
  intro p e ha hc hk s m args below hf happ hP hK
  obtain ⟨a1, a2, a3, a4, a5, a6, a7, a8⟩ := (Spec.appliesLoose_iff hf).mp happ
  obtain ⟨n, o, g1, g2, g3, g4, L, ⟨g5, g6, g7⟩, g8⟩ := h p e ha hc hk s m args below hf ((Spec.appliesLoose_iff hf).mpr ⟨a1, a2, a3, a4, a5, a6, gk_room a7 h1 h2 h3 h4, a8⟩) hP hK
  exact ⟨n, o, g1, g2, g3, g4, L, ⟨g5, g6, g7.mono h3 h4⟩, g8⟩
theorem gk_T.toZ {l : Launch} {E : gk_E} {y : MethodName} {cc : ByteArray} {nL : Nat} {ret : Option FieldType} {fr lo mc ms : Nat} {av : List Value} {S : gk_S} {post : Option Value → gk_S → Prop} (h : gk_T l E y cc nL ret fr lo mc ms av S post) : gk_TZ l E y cc nL ret fr lo mc ms av S post := by
  intro p e ha hc hk s m args below hf happ hP hK
  exact h p e ha hc hk s m args below hf happ ⟨hP.1, hP.2.1⟩ hK
/-- what an add costs -/
def adN (k n : Nat) : Nat := if k < n then n else grw n
def adC (k n : Nat) : Nat := if k < n then 0 else 1
def adS (k n : Nat) : Nat := if k < n then 0 else grw n
theorem k_add {l : Launch} {E : gk_E} {S : gk_S} {o1 v b n k ci : Nat} {mo : Int32} {x : Nat → Option Nat} {vs : List Value} (h : LsB E S o1 mo b n k x) (hv : S.2.2.2 v = some (.inr (ci, vs))) (hvo : v ≠ o1) (hrr : ∃ r9 : vw_C, gk_cl[ci]? = some r9) (h5 : n < 50000) :
    gk_TZ l E yJ3_add cJ3_add 2 (some .boolean) 6 290 (adC k n) (adS k n) [.ref o1, .ref v] S (fun r S' => r = some (.int 1) ∧ ∃ b2 : Nat, LsB E S' o1 (mo + 1) b2 (adN k n) (k + 1) (va_up x k (some v)) ∧ ((b2 = b ∧ k < n) ∨ (¬ k < n ∧ S.2.2.2 b2 = none)) ∧ FrN (fun q => q = o1 ∨ (q = b ∧ k < n)) S S') := by
  by_cases hk : k < n
  · unfold adC adS adN
    rw [if_pos hk, if_pos hk, if_pos hk]
    refine gk_TZ.imp (gk_TZ.wide (k_add_f h hv hvo hrr hk).toZ (by decide) (by decide) (by decide) (by decide)) ?_
    rintro r S' ⟨rfl, h1, h2⟩
    exact ⟨rfl, b, h1, Or.inl ⟨rfl, hk⟩, h2.wk (fun q e _ hp => hp.imp id (fun z => ⟨z, hk⟩))⟩
  · have hkn : k = n := Nat.le_antisymm h.1.2.2.1 (Nat.not_lt.mp hk)
    unfold adC adS adN
    rw [if_neg hk, if_neg hk, if_neg hk]
    refine gk_TZ.imp (k_add_g h hv hvo hrr hkn h5) ?_
    rintro r S' ⟨rfl, b2, h1, h2, h3⟩
    exact ⟨rfl, b2, h1, Or.inr ⟨hk, h2⟩, h3.wk (fun q e _ hp => Or.inl hp)⟩
