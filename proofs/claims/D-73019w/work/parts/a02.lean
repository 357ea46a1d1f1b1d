/-! ROWS OF THE TWO: a spring's first half -/
def coR (R A : Nat → Int32) : Prop := R 0 = A 5 ∧ R 1 = A 6 ∧ R 2 = A 7 ∧ (∀ c, c < 8 → R (3 + c) = A (9 + c)) ∧ (∀ f, f < 5 → R (11 + f) = A (17 + 2 * f)) ∧ ∀ f, f < 5 → R (16 + f) = A (18 + 2 * f) ∧ ∃ l, l ≤ 9999 ∧ A (18 + 2 * f) = nI l
theorem co_clear {R A : Nat → Int32} (h : coR R A) : coR (clC R 8) (clA A 8) := by
  obtain ⟨h0, h1, h2, h3, h4, h5⟩ := h
  refine ⟨?_, ?_, ?_, fun c hc => ?_, fun f hf => ?_, fun f hf => ⟨?_, ?_⟩⟩
  · rw [clC_n (by omega), clA_n (by omega), upd_n (by decide), upd_n (by decide)]
    exact h0
  · rw [clC_n (by omega), clA_n (by omega), upd_n (by decide), upd_n (by decide)]
    exact h1
  · rw [clC_n (by omega), clA_n (by omega), upd_s, upd_s]
  · rw [clC_g hc, clA_g hc, h3 c hc, h0]
  · rw [clC_n (by omega), clA_n (by omega), upd_n (by omega), upd_n (by omega)]
    exact h4 f hf
  · rw [clC_n (by omega), clA_n (by omega), upd_n (by omega), upd_n (by omega)]
    exact (h5 f hf).1
  · rw [clA_n (by omega), upd_n (by omega)]
    exact (h5 f hf).2
theorem cu_l {l : Nat} (h : l ≤ 9999) : cuM (nI l + 1).toInt64 0 9999 = (if nI l + 1 < 9999 then nI l + 1 else 9999) ∧ ∃ m, m ≤ 9999 ∧ cuM (nI l + 1).toInt64 0 9999 = nI m := by
  have e0 : (0 : Int32).toInt = 0 := by decide
  have e9 : (9999 : Int32).toInt = 9999 := by decide
  rw [nI_1]
  have ei : (nI (l + 1)).toInt = ((l + 1 : Nat) : Int) := nI_toInt (by omega)
  unfold cuM
  rw [if_neg (fun z => by have := Int64.lt_iff_toInt_lt.mp z; simp only [Int32.toInt_toInt64] at this; omega)]
  by_cases c : l + 1 < 9999
  · rw [if_neg (fun z => by have := Int64.lt_iff_toInt_lt.mp z; simp only [Int32.toInt_toInt64] at this; omega), if_pos (Int32.lt_iff_toInt_lt.mpr (by rw [ei, e9]; omega)), Int32.toInt32_toInt64]
    exact ⟨rfl, l + 1, by omega, rfl⟩
  · rw [if_neg (c := nI (l + 1) < 9999) (fun z => by have := Int32.lt_iff_toInt_lt.mp z; rw [ei, e9] at this; omega)]
    by_cases c2 : l + 1 = 9999
    · rw [if_neg (fun z => by have := Int64.lt_iff_toInt_lt.mp z; simp only [Int32.toInt_toInt64] at this; omega), Int32.toInt32_toInt64, c2]
      exact ⟨rfl, 9999, by omega, rfl⟩
    · rw [if_pos (Int64.lt_iff_toInt_lt.mpr (by simp only [Int32.toInt_toInt64]; omega))]
      exact ⟨rfl, 9999, by omega, rfl⟩
theorem cs_i {n c : Nat} (hc : c < n) (hn : n ≤ 8) : 0 ≤ nI c ∧ nI c ≤ nI n - 1 := by
  obtain ⟨m, rfl⟩ := Nat.exists_eq_succ_of_ne_zero (show n ≠ 0 by omega)
  rw [nI_pred]
  exact ⟨nI_pos' (by omega), nI_le (by omega) (by omega)⟩
theorem rf_eq {R A g : Nat → Int32} {n v i : Nat} (hn : n ≤ 8) (hi : i < 5) (h : coR R A) : (rfC n g v i R).2 = (rfM n g v i A).2 ∧ coR (rfC n g v i R).1 (rfM n g v i A).1 := by
  obtain ⟨h0, h1, h2, h3, h4, h5⟩ := h
  by_cases e0 : n = 0
  · rw [rfC_0 e0, rfM_0 e0]
    exact ⟨rfl, h0, h1, h2, h3, h4, h5⟩
  have hc : v % n < n := Nat.mod_lt _ (by omega)
  by_cases e1 : hs (R 2) (nI (v % n))
  · have e1' : hs (A 7) (nI (v % n)) := by rw [← h2]; exact e1
    rw [rfC_1 e0 e1, rfM_1 e0 e1']
    refine ⟨rfl, ?_, ?_, ?_, fun c hc => ?_, fun f hf => ?_, fun f hf => ⟨?_, ?_⟩⟩ <;> dsimp only
    · rw [upd_n (by decide), upd_n (by decide), h0]
    · rw [upd_s, upd_s]
    · rw [upd_n (by decide), upd_n (by decide), h2]
    · rw [upd_n (by omega), upd_n (by omega), h3 c hc]
    · rw [upd_n (by omega), upd_n (by omega), h4 f hf]
    · rw [upd_n (by omega), upd_n (by omega), (h5 f hf).1]
    · rw [upd_n (by omega)]
      exact (h5 f hf).2
  have e1' : ¬ hs (A 7) (nI (v % n)) := by rw [← h2]; exact e1
  have hiff : (R (3 + v % n) = 0 ∧ wo n g ((R 2 &&& alC n) ||| one (nI (v % n))) ≠ 0) ↔ csP n g (A 7) (fun k => A (9 + k)) (nI (v % n)) := by
    rw [h3 _ (by omega), h2]
    show _ ↔ (0 ≤ nI (v % n) ∧ nI (v % n) ≤ nI n - 1) ∧ ¬ hs (A 7) (nI (v % n)) ∧ A (9 + ix (nI (v % n))) = 0 ∧ _
    rw [ix_n (by omega)]
    exact ⟨fun z => ⟨cs_i hc hn, e1', z⟩, fun z => z.2.2⟩
  by_cases e2 : R (3 + v % n) = 0 ∧ wo n g ((R 2 &&& alC n) ||| one (nI (v % n))) ≠ 0
  · rw [rfC_2 e0 e1 e2, rfM_2 e0 e1' (hiff.mp e2)]
    refine ⟨rfl, ?_, ?_, ?_, fun c hc => ?_, fun f hf => ?_, fun f hf => ⟨?_, ?_⟩⟩ <;> dsimp only
    · rw [upd_n (by decide), upd_n (by decide), upd_n (by decide), upd_n (by decide), h0]
    · rw [upd_n (by decide), upd_s, upd_n (by decide), upd_s]
    · rw [upd_s, upd_s, h2]
    · rw [upd_n (by omega), upd_n (by omega), upd_n (by omega), upd_n (by omega), h3 c hc]
    · rw [upd_n (by omega), upd_n (by omega), upd_n (by omega), upd_n (by omega), h4 f hf]
    · rw [upd_n (by omega), upd_n (by omega), upd_n (by omega), upd_n (by omega), (h5 f hf).1]
    · rw [upd_n (by omega), upd_n (by omega)]
      exact (h5 f hf).2
  · rw [rfC_3 e0 e1 e2, rfM_3 e0 e1' (fun z => e2 (hiff.mpr z))]
    obtain ⟨l, hl, el⟩ := (h5 i hi).2
    have eR : R (16 + i) = nI l := (h5 i hi).1.trans el
    have ek : ∀ k, (k = 0 ∨ (2 < k ∧ k < 11) ∨ (11 ≤ k ∧ k < 21)) → k ≠ 3 + v % n → k ≠ 16 + i → upd (if R (3 + v % n) = 0 then upd (upd R 1 (nI (dwN v))) (3 + v % n) (R 0 + 3) else upd R 1 (nI (dwN v))) (16 + i) (if R (16 + i) + 1 < 9999 then R (16 + i) + 1 else 9999) k = R k := by
      intro k hk a b
      rw [upd_n b]
      split
      · rw [upd_n a, upd_n (by omega)]
      · rw [upd_n (by omega)]
    have eA : ∀ k, k ≠ 6 → k ≠ 9 + v % n → k ≠ 18 + 2 * i → upd (if A (9 + v % n) = 0 then upd (upd A 6 (nI (dwN v))) (9 + v % n) (A 5 + 3) else upd A 6 (nI (dwN v))) (18 + 2 * i) (cuM (A (18 + 2 * i) + 1).toInt64 0 9999) k = A k := by
      intro k hk a b
      rw [upd_n b]
      split
      · rw [upd_n a, upd_n (by omega)]
      · rw [upd_n (by omega)]
    refine ⟨rfl, ?_, ?_, ?_, fun c hc2 => ?_, fun f hf => ?_, fun f hf => ?_⟩ <;> dsimp only
    · rw [ek 0 (by omega) (by omega) (by omega), eA 5 (by omega) (by omega) (by omega), h0]
    · rw [upd_n (by omega), upd_n (by omega)]
      rw [h3 _ (by omega)]
      split
      · rw [upd_n (by omega), upd_s, upd_n (by omega), upd_s]
      · rw [upd_s, upd_s]
    · rw [upd_n (by omega), upd_n (by omega), h3 _ (by omega)]
      split
      · rw [upd_n (by omega), upd_n (by omega), upd_n (by omega), upd_n (by omega), h2]
      · rw [upd_n (by omega), upd_n (by omega), h2]
    · by_cases z : c = v % n
      · subst z
        rw [upd_n (by omega), upd_n (by omega), h3 _ (by omega)]
        split
        · rw [upd_s, upd_s, h0]
        · rw [upd_n (by omega), upd_n (by omega), h3 _ (by omega)]
      · rw [ek _ (by omega) (by omega) (by omega), eA _ (by omega) (by omega) (by omega), h3 c hc2]
    · rw [ek _ (by omega) (by omega) (by omega), eA _ (by omega) (by omega) (by omega), h4 f hf]
    · by_cases z : f = i
      · subst z
        rw [upd_s, upd_s, eR, el]
        obtain ⟨c1, m, hm, c2⟩ := cu_l hl
        exact ⟨c1.symm, m, hm, c2⟩
      · rw [ek _ (by omega) (by omega) (by omega), eA _ (by omega) (by omega) (by omega)]
        exact h5 f hf
/-- behind i farmers -/
theorem bs_eq {R A g sy ln cl : Nat → Int32} {n nf v : Nat} {lo : Int32} (hn : n ≤ 8) (h : coR R A) : ∀ {i : Nat}, i ≤ 5 →
    coR (bCs n g (R, v, sy, ln, 0, nf, lo) i).1 (bMs n g (A, v, cl, lo) i).1 ∧ (bCs n g (R, v, sy, ln, 0, nf, lo) i).2.1 = (bMs n g (A, v, cl, lo) i).2.1 ∧ (bCs n g (R, v, sy, ln, 0, nf, lo) i).2.2.2.2.2.2 = (bMs n g (A, v, cl, lo) i).2.2.2 ∧ ∀ f, f < i → (bCs n g (R, v, sy, ln, 0, nf, lo) i).2.2.1 f = (bMs n g (A, v, cl, lo) i).2.2.1 f
  | 0, _ => by
    rw [bCs_0, bMs_0]
    exact ⟨h, rfl, rfl, fun f hf => absurd hf (by omega)⟩
  | i + 1, hi => by
    obtain ⟨h1, h2, h3, h4⟩ := bs_eq (n := n) (g := g) (sy := sy) (ln := ln) (cl := cl) (nf := nf) (v := v) (lo := lo) hn h (i := i) (by omega)
    obtain ⟨r1, r2⟩ := rf_eq (g := g) (n := n) (v := (bMs n g (A, v, cl, lo) i).2.1) (i := i) hn (by omega) h1
    rw [bCs_s, bMs_s]
    unfold bC bM
    dsimp only
    rw [h2, r1, h3]
    refine ⟨r2, rfl, rfl, fun f hf => ?_⟩
    by_cases e : f = i
    · subst e
      rw [upd_s, upd_s]
    · rw [upd_n e, upd_n e]
      exact h4 f (by omega)
