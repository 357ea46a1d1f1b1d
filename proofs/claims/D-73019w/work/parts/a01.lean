/-! THE TWO WORTHS ARE ONE -/
theorem b_1 : ∀ i, i < 32 → bt 1 i = decide (i = 0) := by decide +kernel
theorem bit_and (x : Int32) {c : Nat} (hc : c < 32) : (x >>> (nI c &&& 31)) &&& 1 = bP (bt x c = true) := by
  apply b_ext
  intro i hi
  rw [b_and, b_1 i hi, b_sshr c hc x hi]
  by_cases h0 : i = 0
  · subst h0
    rw [if_pos (by omega), Nat.add_zero]
    unfold bP
    cases bt x c <;> simp [b_0, b_1]
  · have e : decide (i = 0) = false := decide_eq_false h0
    rw [e, Bool.and_false]
    unfold bP
    split
    · rw [b_1 i hi, e]
    · rw [b_0]
theorem hs_bt {x : Int32} {c : Nat} (hc : c < 32) : hs x (nI c) ↔ bt x c = true := by
  unfold hs
  rw [bit_and x hc]
  exact bP_1
theorem al_bt : ∀ n, n < 9 → ∀ c, c < 8 → (bt (alC n) c = true ↔ c < n) := by decide +kernel
theorem held_bit {h : Int32} {n c : Nat} (hn : n ≤ 8) (hc : c < 8) : ((h &&& alC n) >>> (nI c &&& 31)) &&& 1 = bP (c < n ∧ hs h (nI c)) := by
  rw [bit_and _ (by omega), b_and]
  refine bP_iff ?_
  rw [Bool.and_eq_true_iff, al_bt n (by omega) c hc, hs_bt (by omega)]
  exact And.comm
/-- a worth that a code computes -/
def WOK (W : Option mnB) : Prop := ∀ M, W = some M → ∃ C, mC false C M
theorem cut_eq (x : Int64) : hdC x (-99) 99 = cuM x (-99) 99 := by
  have e1 : (-99 : Int32).toInt64 = (-99 : Int64) := by decide
  have e2 : (99 : Int32).toInt64 = (99 : Int64) := by decide
  unfold hdC cuM
  rw [e1, e2]
  have a1 : ∀ {a b : Int64}, a < b ↔ a.toInt < b.toInt := Int64.lt_iff_toInt_lt
  have t1 : (-99 : Int64).toInt = -99 := by decide
  have t2 : (99 : Int64).toInt = 99 := by decide
  by_cases h1 : x < -99
  · have h2 : x < 99 := a1.mpr (by have := a1.mp h1; omega)
    rw [if_pos h2, if_pos h1, if_pos h1]
    decide
  · by_cases h2 : x < 99
    · rw [if_pos h2, if_neg h1, if_neg h1, if_neg (fun z => by have := a1.mp h2; have := a1.mp z; omega)]
    · rw [if_neg h2, if_neg h1, if_neg (fun z => by have := a1.mp z; omega)]
      by_cases h3 : (99 : Int64) < x
      · rw [if_pos h3]
        decide
      · rw [if_neg h3]
        have : x = 99 := Int64.toInt_inj.mp (by
          have z1 : ¬ x.toInt < 99 := fun z => h2 (a1.mpr (by rw [t2]; exact z))
          have z2 : ¬ 99 < x.toInt := fun z => h3 (a1.mpr (by rw [t2]; exact z))
          rw [t2]
          omega)
        rw [this]
theorem hd_id {w : Int32} (h1 : -99 ≤ w.toInt) (h2 : w.toInt ≤ 99) : hdC w.toInt64 (-99) 99 = w := by
  rw [cut_eq]
  unfold cuM
  have e1 : (-99 : Int32).toInt = -99 := by decide
  have e2 : (99 : Int32).toInt = 99 := by decide
  rw [if_neg (fun z => by have := Int64.lt_iff_toInt_lt.mp z; simp only [Int32.toInt_toInt64] at this; omega), if_neg (fun z => by have := Int64.lt_iff_toInt_lt.mp z; simp only [Int32.toInt_toInt64] at this; omega)]
  exact Int32.toInt32_toInt64 w
theorem wv_eq {W : Option mnB} {F v : Nat → Int32} (hW : WOK W) (h : agK false F v) (h9 : -99 ≤ (F 9).toInt ∧ (F 9).toInt ≤ 99) : wvC W F = wvM W v := by
  have hv : agK false v v := fun k hk hr => ⟨rfl, by rw [← (h k hk hr).1]; exact (h k hk hr).2⟩
  cases W with
  | none =>
    have e : F 9 = v 9 := (h 9 (by decide) (by rw [if_neg (by decide)]; decide)).1
    show hdC (F 9).toInt64 (-99) 99 = v 9
    rw [hd_id h9.1 h9.2, e]
  | some M =>
    obtain ⟨C, hC⟩ := hW M rfl
    show hdC (M F) (-99) 99 = cuM (M v) (-99) 99
    have e1 := (hC F v h).2 [] []
    have e2 := (hC v v hv).2 [] []
    rw [e1] at e2
    have e3 : M F = M v := by
      have := Option.some.inj e2
      exact (List.cons.inj (Prod.mk.inj this).1).1
    rw [e3, cut_eq]
/-- fields, farmers, wants of the two -/
def ldR (S : gk_S) (A : Nat → Int32) : Prop := (∀ k, k < 5 → S.1 13 k = A (32 + k)) ∧ (∀ f, f < 5 → S.1 12 f = A (27 + f)) ∧ (∀ f k, f < 5 → k < 5 → S.1 (20 + f) k = A (37 + 5 * f + k)) ∧ ∀ f k, f < 5 → k < 5 → -99 ≤ (A (37 + 5 * f + k)).toInt ∧ (A (37 + 5 * f + k)).toInt ≤ 99
theorem nmC_at {S : gk_S} {q n f k i : Nat} (h : 4 ≤ i ∧ i < 10) : nmC S q n f k i = nm6 (S.1 301) (S.1 q 0) (nI k) (S.1 13 k) (nI f) (S.1 12 f) (S.1 (20 + f) k) i := by
  unfold nmC
  rw [nmL_n (by omega)]
theorem ag_CM {S : gk_S} {q n f k : Nat} {o A : Nat → Int32} (hn : n ≤ 8) (hf : f < 5) (hk : k < 5) (hl : ldR S A) (hsm : smA A) (h0 : S.1 q 0 = A 5) (h2 : S.1 q 2 = A 7) : agK false (nmC S q n f k) (vcA o A f k n) := by
  intro i hi hr
  rw [if_neg (by decide)] at hr
  have hsmall : ∀ j, j < 5 → -9999 ≤ (nI j).toInt ∧ (nI j).toInt ≤ 9999 := fun j hj => by rw [nI_toInt (by omega)]; omega
  by_cases h10 : i < 10
  · have e : nmC S q n f k i = vcA o A f k n i := by
      rw [nmC_at ⟨hr, h10⟩]
      unfold vcA
      rw [if_neg (by omega), if_pos h10]
      unfold nmA nm6 nmd
      rw [h0, hl.1 k hk, hl.2.1 f hf, hl.2.2.1 f k hf hk]
      unfold upd
      rcases (show i = 4 ∨ i = 5 ∨ i = 6 ∨ i = 7 ∨ i = 8 ∨ i = 9 by omega) with e | e | e | e | e | e <;> subst e <;> rfl
    refine ⟨e, ?_⟩
    rw [e]
    unfold vcA
    rw [if_neg (by omega), if_pos h10]
    unfold nmA
    rcases nmd_g (o := o) (x0 := A 5) (x1 := nI k) (x2 := A (32 + k)) (x3 := nI f) (x4 := A (27 + f)) (x5 := A (37 + 5 * f + k)) (i := i - 4) (by omega) with e | e | e | e | e | e <;> rw [e]
    · exact hsm _ (by omega)
    · exact hsmall _ hk
    · exact hsm _ (by omega)
    · exact hsmall _ hf
    · exact hsm _ (by omega)
    · exact hsm _ (by omega)
  · obtain ⟨c, rfl⟩ := Nat.le.dest (show 10 ≤ i by omega)
    have e1 : nmC S q n f k (10 + c) = bP (c < n ∧ hs (A 7) (nI c)) := by
      unfold nmC
      rw [nmL_g (by omega), h2, held_bit hn (by omega)]
    have e2 : vcA o A f k n (10 + c) = bP (c < n ∧ hs (A 7) (nI c)) := by
      unfold vcA
      rw [if_neg (by omega), if_neg (by omega), show 10 + c - 10 = c by omega]
    rw [e1, e2]
    refine ⟨rfl, ?_⟩
    unfold bP
    split <;> decide
theorem nmC_9 {S : gk_S} {q n f k : Nat} : nmC S q n f k 9 = S.1 (20 + f) k := by
  rw [nmC_at (by omega)]
  unfold nm6
  rw [upd_s]
/-- the two choose by the same values -/
theorem vl_eq {S : gk_S} {q n f k : Nat} {o A R : Nat → Int32} {W : Option mnB} (hW : WOK W) (hn : n ≤ 8) (hf : f < 5) (hk : k < 5) (hl : ldR (gk_si S q R) A) (hsm : smA A) (h0 : R 0 = A 5) (h2 : R 2 = A 7) : vlC S q n R W f k = vlA o n A W f k := by
  unfold vlC vlA
  refine wv_eq hW (ag_CM hn hf hk hl hsm (by rw [si_s]; exact h0) (by rw [si_s]; exact h2)) ?_
  rw [nmC_9, hl.2.2.1 f k hf hk]
  exact hl.2.2.2 f k hf hk
