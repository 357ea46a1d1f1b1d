/-! A SPRING OF THE COMPONENT, on a row -/
def clC (R : Nat → Int32) (i : Nat) : Nat → Int32 := itr (fun c R => if R (3 + c) ≤ R 0 then upd R (3 + c) 0 else R) i (upd R 2 0)
theorem clC_t {R : Nat → Int32} {i : Nat} (h : clC R i (3 + i) ≤ clC R i 0) : clC R (i + 1) = upd (clC R i) (3 + i) 0 := if_pos h
theorem clC_f {R : Nat → Int32} {i : Nat} (h : ¬ clC R i (3 + i) ≤ clC R i 0) : clC R (i + 1) = clC R i := if_neg h
theorem clC_n {R : Nat → Int32} {k : Nat} : ∀ {i : Nat}, (k < 3 ∨ 3 + i ≤ k) → clC R i k = upd R 2 0 k
  | 0, _ => rfl
  | i + 1, h => by
    by_cases c : clC R i (3 + i) ≤ clC R i 0
    · rw [clC_t c, upd_n (by omega)]
      exact clC_n (by omega)
    · rw [clC_f c]
      exact clC_n (by omega)
theorem clC_g {R : Nat → Int32} {k : Nat} : ∀ {i : Nat}, k < i → clC R i (3 + k) = if R (3 + k) ≤ R 0 then 0 else R (3 + k)
  | i + 1, h => by
    have e0 : clC R i 0 = R 0 := (clC_n (by omega)).trans (upd_n (by decide))
    have e1 : clC R i (3 + i) = R (3 + i) := (clC_n (by omega)).trans (upd_n (by omega))
    by_cases e : k = i
    · subst e
      by_cases c : clC R k (3 + k) ≤ clC R k 0
      · rw [clC_t c, upd_s]
        rw [e0, e1] at c
        rw [if_pos c]
      · rw [clC_f c, e1]
        rw [e0, e1] at c
        rw [if_neg c]
    · by_cases c : clC R i (3 + i) ≤ clC R i 0
      · rw [clC_t c, upd_n (by omega)]
        exact clC_g (by omega)
      · rw [clC_f c]
        exact clC_g (by omega)
theorem rfC_n {n : Nat} {f : Nat → Int32} {v i k : Nat} {R : Nat → Int32} (h : k = 0 ∨ 21 ≤ k) (hn : n ≤ 8) (hi : i < 5) : (rfC n f v i R).1 k = R k := by
  by_cases h0 : n = 0
  · rw [rfC_0 h0]
  have hm : v % n < 8 := by have := Nat.mod_lt v (show n > 0 by omega); omega
  by_cases h1 : hs (R 2) (nI (v % n))
  · rw [rfC_1 h0 h1]
    exact upd_n (by omega)
  by_cases h2 : R (3 + v % n) = 0 ∧ wo n f ((R 2 &&& alC n) ||| one (nI (v % n))) ≠ 0
  · rw [rfC_2 h0 h1 h2]
    show upd _ _ _ k = _
    rw [upd_n (by omega), upd_n (by omega)]
  · rw [rfC_3 h0 h1 h2]
    show upd _ _ _ k = _
    rw [upd_n (by omega)]
    split
    · rw [upd_n (by omega), upd_n (by omega)]
    · rw [upd_n (by omega)]
def nxN (n v : Nat) : Nat := if n = 0 then v else dwN v
theorem nxN_lt {n v : Nat} (h : v < 30859) : nxN n v < 30859 := by
  unfold nxN
  split
  · exact h
  · exact dwN_lt
theorem rfC_1r {n : Nat} {f : Nat → Int32} {v i : Nat} {R : Nat → Int32} (hv : R 1 = nI v) (hn : n ≤ 8) (hi : i < 5) : (rfC n f v i R).1 1 = nI (nxN n v) := by
  unfold nxN
  by_cases h0 : n = 0
  · rw [rfC_0 h0, if_pos h0]
    exact hv
  have hm : v % n < 8 := by have := Nat.mod_lt v (show n > 0 by omega); omega
  rw [if_neg h0]
  by_cases h1 : hs (R 2) (nI (v % n))
  · rw [rfC_1 h0 h1]
    dsimp only
    rw [upd_s]
  by_cases h2 : R (3 + v % n) = 0 ∧ wo n f ((R 2 &&& alC n) ||| one (nI (v % n))) ≠ 0
  · rw [rfC_2 h0 h1 h2]
    dsimp only
    rw [upd_n (by omega), upd_s]
  · rw [rfC_3 h0 h1 h2]
    dsimp only
    rw [upd_n (by omega)]
    split
    · rw [upd_n (by omega), upd_s]
    · rw [upd_s]
/-- row, draw, what is said, line, first, last, lost -/
abbrev pB : Type := (Nat → Int32) × Nat × (Nat → Int32) × (Nat → Int32) × Nat × Nat × Int32
def bC (n : Nat) (g : Nat → Int32) (i : Nat) (q : pB) : pB :=
  ((rfC n g q.2.1 i q.1).1, nxN n q.2.1, upd q.2.2.1 i (rfL n q.2.1),
   if (rfC n g q.2.1 i q.1).2 = true then upd q.2.2.2.1 (q.2.2.2.2.2.1 - 1) (nI i) else upd q.2.2.2.1 q.2.2.2.2.1 (nI i),
   if (rfC n g q.2.1 i q.1).2 = true then q.2.2.2.2.1 else q.2.2.2.2.1 + 1,
   if (rfC n g q.2.1 i q.1).2 = true then q.2.2.2.2.2.1 - 1 else q.2.2.2.2.2.1,
   if (rfC n g q.2.1 i q.1).2 = true then q.2.2.2.2.2.2 ||| one (nI i) else q.2.2.2.2.2.2)
def bCs (n : Nat) (g : Nat → Int32) (q0 : pB) (i : Nat) : pB := itr (bC n g) i q0
theorem bCs_s {n : Nat} {g : Nat → Int32} {q0 : pB} {i : Nat} : bCs n g q0 (i + 1) = bC n g i (bCs n g q0 i) := itr_s
theorem bCs_t {n : Nat} {g : Nat → Int32} {q0 : pB} {i : Nat} (h : (rfC n g (bCs n g q0 i).2.1 i (bCs n g q0 i).1).2 = true) : bCs n g q0 (i + 1) = ((rfC n g (bCs n g q0 i).2.1 i (bCs n g q0 i).1).1, nxN n (bCs n g q0 i).2.1, upd (bCs n g q0 i).2.2.1 i (rfL n (bCs n g q0 i).2.1), upd (bCs n g q0 i).2.2.2.1 ((bCs n g q0 i).2.2.2.2.2.1 - 1) (nI i), (bCs n g q0 i).2.2.2.2.1, (bCs n g q0 i).2.2.2.2.2.1 - 1, (bCs n g q0 i).2.2.2.2.2.2 ||| one (nI i)) := by
  rw [bCs_s]
  unfold bC
  simp only [if_pos h]
theorem bCs_f {n : Nat} {g : Nat → Int32} {q0 : pB} {i : Nat} (h : ¬ (rfC n g (bCs n g q0 i).2.1 i (bCs n g q0 i).1).2 = true) : bCs n g q0 (i + 1) = ((rfC n g (bCs n g q0 i).2.1 i (bCs n g q0 i).1).1, nxN n (bCs n g q0 i).2.1, upd (bCs n g q0 i).2.2.1 i (rfL n (bCs n g q0 i).2.1), upd (bCs n g q0 i).2.2.2.1 (bCs n g q0 i).2.2.2.2.1 (nI i), (bCs n g q0 i).2.2.2.2.1 + 1, (bCs n g q0 i).2.2.2.2.2.1, (bCs n g q0 i).2.2.2.2.2.2) := by
  rw [bCs_s]
  unfold bC
  simp only [if_neg h]
theorem bCs_0 {n : Nat} {g : Nat → Int32} {q0 : pB} : bCs n g q0 0 = q0 := itr_0
/-- what holds of it -/
def bOK (nf i : Nat) (R0 : Nat → Int32) (q : pB) : Prop := q.1 1 = nI q.2.1 ∧ q.2.1 < 30859 ∧ q.2.2.2.2.1 + nf = i + q.2.2.2.2.2.1 ∧ q.2.2.2.2.2.1 ≤ nf ∧ (∀ k, (k < q.2.2.2.2.1 ∨ (q.2.2.2.2.2.1 ≤ k ∧ k < nf)) → ∃ f, f < i ∧ q.2.2.2.1 k = nI f) ∧ q.1 21 = R0 21 ∧ q.1 0 = R0 0
theorem bCs_ok {n nf : Nat} {g : Nat → Int32} {R sy ln : Nat → Int32} {v : Nat} {lo : Int32} (hn : n ≤ 8) (hf : nf ≤ 5) (hv : R 1 = nI v) (hv2 : v < 30859) : ∀ {i : Nat}, i ≤ nf → bOK nf i R (bCs n g (R, v, sy, ln, 0, nf, lo) i)
  | 0, _ => by
    rw [bCs_0]
    exact ⟨hv, hv2, by show 0 + nf = 0 + nf; rfl, Nat.le_refl _, fun k hk => by rcases hk with h | h <;> (dsimp only at h; omega), rfl, rfl⟩
  | i + 1, hi => by
    obtain ⟨h1, h2, h3, h4, h5, h6, h7⟩ := bCs_ok (n := n) (g := g) (sy := sy) (ln := ln) (lo := lo) hn hf hv hv2 (i := i) (by omega)
    by_cases c : (rfC n g (bCs n g (R, v, sy, ln, 0, nf, lo) i).2.1 i (bCs n g (R, v, sy, ln, 0, nf, lo) i).1).2 = true
    · rw [bCs_t c]
      refine ⟨rfC_1r h1 hn (by omega), nxN_lt h2, by dsimp only; omega, by dsimp only; omega, fun k hk => ?_, (rfC_n (by omega) hn (by omega)).trans h6, (rfC_n (by omega) hn (by omega)).trans h7⟩
      dsimp only at hk ⊢
      by_cases e : k = (bCs n g (R, v, sy, ln, 0, nf, lo) i).2.2.2.2.2.1 - 1
      · exact ⟨i, by omega, by rw [e, upd_s]⟩
      · obtain ⟨f, hf1, hf2⟩ := h5 k (by omega)
        exact ⟨f, by omega, by rw [upd_n e]; exact hf2⟩
    · rw [bCs_f c]
      refine ⟨rfC_1r h1 hn (by omega), nxN_lt h2, by dsimp only; omega, by dsimp only; omega, fun k hk => ?_, (rfC_n (by omega) hn (by omega)).trans h6, (rfC_n (by omega) hn (by omega)).trans h7⟩
      dsimp only at hk ⊢
      by_cases e : k = (bCs n g (R, v, sy, ln, 0, nf, lo) i).2.2.2.2.1
      · exact ⟨i, by omega, by rw [e, upd_s]⟩
      · obtain ⟨f, hf1, hf2⟩ := h5 k (by omega)
        exact ⟨f, by omega, by rw [upd_n e]; exact hf2⟩
/-- row, what is left, how long the book is -/
abbrev pC : Type := (Nat → Int32) × Int32 × Nat
def cB (V : Nat → Nat → Int32) (f : Nat) (left : Int32) : Int32 := boF (V f) left 5
def cC (V : Nat → Nat → Int32) (sy : Nat → Int32) (lost : Int32) (f : Nat) (q : pC) : pC :=
  (wrC (upd q.1 (11 + f) (cB V f q.2.1)) q.2.2 (nI f) (sy f) (bP (hs lost (nI f))) (wr1 (upd q.1 (11 + f) (cB V f q.2.1)) q.2.2 (11 + f)), q.2.1 &&& (one (cB V f q.2.1) ^^^ -1), wrK q.2.2 + 1)
def cCs (V : Nat → Nat → Int32) (sy ln : Nat → Int32) (lost : Int32) (q0 : pC) (i : Nat) : pC := itr (fun k q => cC V sy lost (ix (ln k)) q) i q0
theorem cCs_s {V : Nat → Nat → Int32} {sy ln : Nat → Int32} {lost : Int32} {q0 : pC} {i f : Nat} (h : ln i = nI f) (hf : f < 5) : cCs V sy ln lost q0 (i + 1) = cC V sy lost f (cCs V sy ln lost q0 i) := by
  show cC V sy lost (ix (ln i)) _ = _
  rw [h, ix_n (by omega)]
  rfl
theorem cCs_0 {V : Nat → Nat → Int32} {sy ln : Nat → Int32} {lost : Int32} {q0 : pC} : cCs V sy ln lost q0 0 = q0 := itr_0
theorem wr1_n {R : Nat → Int32} {nb k : Nat} (h : k < 21) : wr1 R nb k = R k := by
  unfold wr1
  split
  · rw [upd_n (by omega)]
    unfold va_cpy
    rw [if_neg (by omega)]
  · rfl
theorem wrC_n {R : Nat → Int32} {nb k : Nat} {x y z v : Int32} (h : k < 21) : wrC R nb x y z v k = R k := by
  unfold wrC
  rw [upd_n (by omega), upd_n (by omega), upd_n (by omega), upd_n (by omega), upd_n (by omega), upd_n (by omega), wr1_n h]
theorem wrC_21 {R : Nat → Int32} {nb : Nat} {x y z v : Int32} : wrC R nb x y z v 21 = nI (wrK nb + 1) := by
  unfold wrC
  rw [upd_s]
def cOK (R0 : Nat → Int32) (q : pC) : Prop := q.1 21 = nI q.2.2 ∧ q.2.2 ≤ 20 ∧ q.1 0 = R0 0 ∧ q.1 2 = R0 2
theorem cC_ok {V : Nat → Nat → Int32} {sy : Nat → Int32} {lost : Int32} {f : Nat} {R0 : Nat → Int32} {q : pC} (hf : f < 5) (h : cOK R0 q) : cOK R0 (cC V sy lost f q) := by
  obtain ⟨h1, h2, h3, h4⟩ := h
  refine ⟨by unfold cC; dsimp only; rw [wrC_21], by have := wrK_lt h2; show wrK q.2.2 + 1 ≤ 20; omega, ?_, ?_⟩
  · unfold cC
    dsimp only
    rw [wrC_n (by omega), upd_n (by omega), h3]
  · unfold cC
    dsimp only
    rw [wrC_n (by omega), upd_n (by omega), h4]
theorem cCs_ok {V : Nat → Nat → Int32} {sy ln : Nat → Int32} {lost : Int32} {R0 : Nat → Int32} {q0 : pC} (h0 : cOK R0 q0) : ∀ {i : Nat}, (∀ k, k < i → ∃ f, f < 5 ∧ ln k = nI f) → cOK R0 (cCs V sy ln lost q0 i)
  | 0, _ => by rw [cCs_0]; exact h0
  | i + 1, h => by
    obtain ⟨f, hf, e⟩ := h i (by omega)
    rw [cCs_s e hf]
    exact cC_ok hf (cCs_ok h0 (fun k hk => h k (by omega)))
/-- the component with another row, sayings, line, names -/
def gk_p4 (S : gk_S) (q : Nat) (R sy ln F : Nat → Int32) : gk_S := gk_si (gk_si (gk_si (gk_si S 302 sy) 303 ln) 301 F) q R
theorem p4_q {S : gk_S} {q : Nat} {R sy ln F R' : Nat → Int32} : gk_si (gk_p4 S q R sy ln F) q R' = gk_p4 S q R' sy ln F := si_si
theorem p4_f {S : gk_S} {q : Nat} {R sy ln F F' : Nat → Int32} (h : q ≠ 301) : gk_si (gk_p4 S q R sy ln F) 301 F' = gk_p4 S q R sy ln F' := by
  unfold gk_p4
  rw [si_co h, si_si]
theorem p4_l {S : gk_S} {q : Nat} {R sy ln F ln' : Nat → Int32} (h : q ≠ 303) : gk_si (gk_p4 S q R sy ln F) 303 ln' = gk_p4 S q R sy ln' F := by
  unfold gk_p4
  rw [si_co h, si_co (i := 301) (j := 303) (by decide), si_si]
theorem p4_s {S : gk_S} {q : Nat} {R sy ln F sy' : Nat → Int32} (h : q ≠ 302) : gk_si (gk_p4 S q R sy ln F) 302 sy' = gk_p4 S q R sy' ln F := by
  unfold gk_p4
  rw [si_co h, si_co (i := 301) (j := 302) (by decide), si_co (i := 303) (j := 302) (by decide), si_si]
theorem p4_0 {S : gk_S} {q : Nat} {R : Nat → Int32} : gk_si S q R = gk_p4 S q R (S.1 302) (S.1 303) (S.1 301) := by
  unfold gk_p4
  rw [si_id (S := S) (i := 302), si_id (S := S) (i := 303), si_id (S := S) (i := 301)]
theorem nmC_c {S S' : gk_S} {q n f k : Nat} (h1 : offC (S'.1 301) (S.1 301)) (h2 : S'.1 q 0 = S.1 q 0) (h3 : S'.1 q 2 = S.1 q 2) (h4 : S'.1 13 = S.1 13) (h5 : S'.1 12 = S.1 12) (h6 : S'.1 (20 + f) = S.1 (20 + f)) : nmC S' q n f k = nmC S q n f k := by
  unfold nmC
  rw [h2, h3, h4, h5, h6]
  exact nmL_off h1
/-- the values by which farmer f chooses -/
def vlC (S : gk_S) (q n : Nat) (R : Nat → Int32) (W : Option mnB) (f k : Nat) : Int32 := wvC W (nmC (gk_si S q R) q n f k)
/-- a spring: row, lost, sayings, line -/
def psB (S : gk_S) (q n nf v : Nat) (g : Nat → Int32) : pB := bCs n g (clC (S.1 q) 8, v, S.1 302, S.1 303, 0, nf, 0) nf
def psC (S : gk_S) (q n nf v nb : Nat) (g : Nat → Int32) (W : Option mnB) : pC := cCs (vlC S q n (psB S q n nf v g).1 W) (psB S q n nf v g).2.2.1 (psB S q n nf v g).2.2.2.1 (psB S q n nf v g).2.2.2.2.2.2 ((psB S q n nf v g).1, 31, nb) nf
def psR (S : gk_S) (q n nf v nb : Nat) (g : Nat → Int32) (W : Option mnB) : Nat → Int32 := upd (psC S q n nf v nb g W).1 0 ((psC S q n nf v nb g W).1 0 + 1)
theorem p4_B {S : gk_S} {q n v nf : Nat} {g R sy ln : Nat → Int32} (h1 : sy = S.1 302) (h2 : ln = S.1 303) : gk_si S q R = gk_p4 S q (bCs n g (R, v, sy, ln, 0, nf, 0) 0).1 (bCs n g (R, v, sy, ln, 0, nf, 0) 0).2.2.1 (bCs n g (R, v, sy, ln, 0, nf, 0) 0).2.2.2.1 (S.1 301) := by
  rw [bCs_0, h1, h2]
  exact p4_0
theorem p4_B2 {n v nf : Nat} {g R sy ln : Nat → Int32} : some (Value.int 0) = some (.int (bCs n g (R, v, sy, ln, 0, nf, 0) 0).2.2.2.2.2.2) := by rw [bCs_0]
theorem p4_B3 {n v nf : Nat} {g R sy ln : Nat → Int32} : some (Value.int 0) = some (.int (nI (bCs n g (R, v, sy, ln, 0, nf, 0) 0).2.2.2.2.1)) := by rw [bCs_0]; rfl
theorem p4_B4 {n v nf : Nat} {g R sy ln : Nat → Int32} : some (Value.int (nI nf)) = some (.int (nI (bCs n g (R, v, sy, ln, 0, nf, 0) 0).2.2.2.2.2.1)) := by rw [bCs_0]
theorem p4_C {S : gk_S} {q nb : Nat} {V : Nat → Nat → Int32} {R sy ln F : Nat → Int32} {lost left : Int32} : gk_p4 S q R sy ln F = gk_p4 S q (cCs V sy ln lost (R, left, nb) 0).1 sy ln F := by rw [cCs_0]
theorem p4_C5 {nb : Nat} {V : Nat → Nat → Int32} {R sy ln : Nat → Int32} {lost left : Int32} : some (Value.int left) = some (.int (cCs V sy ln lost (R, left, nb) 0).2.1) := by rw [cCs_0]
