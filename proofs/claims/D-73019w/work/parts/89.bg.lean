/-! A SPRING OF THE MODEL -/
def clA (A : Nat → Int32) (i : Nat) : Nat → Int32 := itr (fun c A => if A (9 + c) ≤ A 5 then upd A (9 + c) 0 else A) i (upd A 7 0)
theorem clA_t {A : Nat → Int32} {i : Nat} (h : clA A i (9 + i) ≤ clA A i 5) : clA A (i + 1) = upd (clA A i) (9 + i) 0 := if_pos h
theorem clA_f {A : Nat → Int32} {i : Nat} (h : ¬ clA A i (9 + i) ≤ clA A i 5) : clA A (i + 1) = clA A i := if_neg h
theorem clA_0 {A : Nat → Int32} : clA A 0 = upd A 7 0 := itr_0
theorem clA_n {A : Nat → Int32} {k : Nat} : ∀ {i : Nat}, (k < 9 ∨ 9 + i ≤ k) → clA A i k = upd A 7 0 k
  | 0, _ => by rw [clA_0]
  | i + 1, h => by
    by_cases c : clA A i (9 + i) ≤ clA A i 5
    · rw [clA_t c, upd_n (by omega)]
      exact clA_n (by omega)
    · rw [clA_f c]
      exact clA_n (by omega)
theorem clA_g {A : Nat → Int32} {k : Nat} : ∀ {i : Nat}, k < i → clA A i (9 + k) = if A (9 + k) ≤ A 5 then 0 else A (9 + k)
  | i + 1, h => by
    have e0 : clA A i 5 = A 5 := (clA_n (by omega)).trans (upd_n (by decide))
    have e1 : clA A i (9 + i) = A (9 + i) := (clA_n (by omega)).trans (upd_n (by omega))
    by_cases e : k = i
    · subst e
      by_cases c : clA A k (9 + k) ≤ clA A k 5
      · rw [clA_t c, upd_s]
        rw [e0, e1] at c
        rw [if_pos c]
      · rw [clA_f c, e1]
        rw [e0, e1] at c
        rw [if_neg c]
    · by_cases c : clA A i (9 + i) ≤ clA A i 5
      · rw [clA_t c, upd_n (by omega)]
        exact clA_g (by omega)
      · rw [clA_f c]
        exact clA_g (by omega)
theorem rfM_n {n : Nat} {f : Nat → Int32} {v i k : Nat} {A : Nat → Int32} (h : k < 6 ∨ k = 8 ∨ 27 ≤ k) (hn : n ≤ 8) (hi : i < 5) : (rfM n f v i A).1 k = A k := by
  by_cases h0 : n = 0
  · rw [rfM_0 h0]
  have hm : v % n < 8 := by have := Nat.mod_lt v (show n > 0 by omega); omega
  by_cases h1 : hs (A 7) (nI (v % n))
  · rw [rfM_1 h0 h1]
    dsimp only
    rw [upd_n (by omega)]
  by_cases h2 : csP n f (A 7) (fun k => A (9 + k)) (nI (v % n))
  · rw [rfM_2 h0 h1 h2]
    dsimp only
    rw [upd_n (by omega), upd_n (by omega)]
  · rw [rfM_3 h0 h1 h2]
    dsimp only
    rw [upd_n (by omega)]
    split
    · rw [upd_n (by omega), upd_n (by omega)]
    · rw [upd_n (by omega)]
theorem rfM_6 {n : Nat} {f : Nat → Int32} {v i : Nat} {A : Nat → Int32} (hv : A 6 = nI v) (hn : n ≤ 8) (hi : i < 5) : (rfM n f v i A).1 6 = nI (nxN n v) := by
  unfold nxN
  by_cases h0 : n = 0
  · rw [rfM_0 h0, if_pos h0]
    exact hv
  have hm : v % n < 8 := by have := Nat.mod_lt v (show n > 0 by omega); omega
  rw [if_neg h0]
  by_cases h1 : hs (A 7) (nI (v % n))
  · rw [rfM_1 h0 h1]
    dsimp only
    rw [upd_s]
  by_cases h2 : csP n f (A 7) (fun k => A (9 + k)) (nI (v % n))
  · rw [rfM_2 h0 h1 h2]
    dsimp only
    rw [upd_n (by omega), upd_s]
  · rw [rfM_3 h0 h1 h2]
    dsimp only
    rw [upd_n (by omega)]
    split
    · rw [upd_n (by omega), upd_s]
    · rw [upd_s]
/-- row, draw, claims said, those refuted -/
abbrev pM : Type := (Nat → Int32) × Nat × (Nat → Int32) × Int32
def bM (n : Nat) (g : Nat → Int32) (i : Nat) (q : pM) : pM := ((rfM n g q.2.1 i q.1).1, nxN n q.2.1, upd q.2.2.1 i (rfL n q.2.1), if (rfM n g q.2.1 i q.1).2 = true then q.2.2.2 ||| one (nI i) else q.2.2.2)
def bMs (n : Nat) (g : Nat → Int32) (q0 : pM) (i : Nat) : pM := itr (bM n g) i q0
theorem bMs_0 {n : Nat} {g : Nat → Int32} {q0 : pM} : bMs n g q0 0 = q0 := itr_0
theorem bMs_s {n : Nat} {g : Nat → Int32} {q0 : pM} {i : Nat} : bMs n g q0 (i + 1) = bM n g i (bMs n g q0 i) := itr_s
theorem bMs_t {n : Nat} {g : Nat → Int32} {q0 : pM} {i : Nat} (h : (rfM n g (bMs n g q0 i).2.1 i (bMs n g q0 i).1).2 = true) : bMs n g q0 (i + 1) = ((rfM n g (bMs n g q0 i).2.1 i (bMs n g q0 i).1).1, nxN n (bMs n g q0 i).2.1, upd (bMs n g q0 i).2.2.1 i (rfL n (bMs n g q0 i).2.1), (bMs n g q0 i).2.2.2 ||| one (nI i)) := by
  rw [bMs_s]
  unfold bM
  simp only [if_pos h]
theorem bMs_f {n : Nat} {g : Nat → Int32} {q0 : pM} {i : Nat} (h : ¬ (rfM n g (bMs n g q0 i).2.1 i (bMs n g q0 i).1).2 = true) : bMs n g q0 (i + 1) = ((rfM n g (bMs n g q0 i).2.1 i (bMs n g q0 i).1).1, nxN n (bMs n g q0 i).2.1, upd (bMs n g q0 i).2.2.1 i (rfL n (bMs n g q0 i).2.1), (bMs n g q0 i).2.2.2) := by
  rw [bMs_s]
  unfold bM
  simp only [if_neg h]
def bOM (A0 : Nat → Int32) (q : pM) : Prop := q.1 6 = nI q.2.1 ∧ q.2.1 < 30859 ∧ ∀ k, (k < 6 ∨ k = 8 ∨ 27 ≤ k) → q.1 k = A0 k
theorem bMs_ok {n : Nat} {g : Nat → Int32} {A cl : Nat → Int32} {v : Nat} {bad : Int32} (hn : n ≤ 8) (hv : A 6 = nI v) (hv2 : v < 30859) : ∀ {i : Nat}, i ≤ 5 → bOM A (bMs n g (A, v, cl, bad) i)
  | 0, _ => by rw [bMs_0]; exact ⟨hv, hv2, fun _ _ => rfl⟩
  | i + 1, hi => by
    obtain ⟨h1, h2, h3⟩ := bMs_ok (n := n) (g := g) (cl := cl) (bad := bad) hn hv hv2 (i := i) (by omega)
    rw [bMs_s]
    exact ⟨rfM_6 h1 hn (by omega), nxN_lt h2, fun k hk => (rfM_n hk hn (by omega)).trans (h3 k hk)⟩
def cM (wr : Bool) (V : Nat → Nat → Int32) (cl : Nat → Int32) (z : Int32) (f : Nat) (q : pC) : pC :=
  (if wr = true then wmC (upd q.1 (17 + 2 * f) (cB V f q.2.1)) q.2.2 f (nI f) (cl f) z else upd q.1 (17 + 2 * f) (cB V f q.2.1), q.2.1 &&& (one (cB V f q.2.1) ^^^ -1), if wr = true then wrK q.2.2 + 1 else q.2.2)
def cM1 (wr : Bool) (V : Nat → Nat → Int32) (cl : Nat → Int32) (bad : Int32) (q0 : pC) (i : Nat) : pC := itr (fun f q => if hs bad (nI f) then q else cM wr V cl 0 f q) i q0
def cM2 (wr : Bool) (V : Nat → Nat → Int32) (cl : Nat → Int32) (bad : Int32) (nf : Nat) (q0 : pC) (i : Nat) : pC := itr (fun d q => if hs bad (nI (nf - 1 - d)) then cM wr V cl 1 (nf - 1 - d) q else q) i q0
theorem cM1_0 {wr : Bool} {V : Nat → Nat → Int32} {cl : Nat → Int32} {bad : Int32} {q0 : pC} : cM1 wr V cl bad q0 0 = q0 := itr_0
theorem cM1_t {wr : Bool} {V : Nat → Nat → Int32} {cl : Nat → Int32} {bad : Int32} {q0 : pC} {i : Nat} (h : hs bad (nI i)) : cM1 wr V cl bad q0 (i + 1) = cM1 wr V cl bad q0 i := if_pos h
theorem cM1_f {wr : Bool} {V : Nat → Nat → Int32} {cl : Nat → Int32} {bad : Int32} {q0 : pC} {i : Nat} (h : ¬ hs bad (nI i)) : cM1 wr V cl bad q0 (i + 1) = cM wr V cl 0 i (cM1 wr V cl bad q0 i) := if_neg h
theorem cM2_0 {wr : Bool} {V : Nat → Nat → Int32} {cl : Nat → Int32} {bad : Int32} {nf : Nat} {q0 : pC} : cM2 wr V cl bad nf q0 0 = q0 := itr_0
theorem cM2_t {wr : Bool} {V : Nat → Nat → Int32} {cl : Nat → Int32} {bad : Int32} {nf : Nat} {q0 : pC} {i f : Nat} (e : nf - 1 - i = f) (h : hs bad (nI f)) : cM2 wr V cl bad nf q0 (i + 1) = cM wr V cl 1 f (cM2 wr V cl bad nf q0 i) := by subst e; exact if_pos h
theorem cM2_f {wr : Bool} {V : Nat → Nat → Int32} {cl : Nat → Int32} {bad : Int32} {nf : Nat} {q0 : pC} {i f : Nat} (e : nf - 1 - i = f) (h : ¬ hs bad (nI f)) : cM2 wr V cl bad nf q0 (i + 1) = cM2 wr V cl bad nf q0 i := by subst e; exact if_neg h
theorem shM_n {A : Nat → Int32} {k : Nat} (h : k < 1346) : ∀ {i : Nat}, shM A i k = A k
  | 0 => rfl
  | i + 1 => by
    show upd (shM A i) (1346 + i) _ k = _
    rw [upd_n (by omega)]
    exact shM_n h
theorem wm1_n {A : Nat → Int32} {nb k : Nat} (h : k < 1346) (h8 : k ≠ 8) : wm1 A nb k = A k := by
  unfold wm1
  split
  · rw [upd_n (by omega), shM_n h]
  · rfl
theorem wmC_n {A : Nat → Int32} {nb f k : Nat} {x cl z : Int32} (h : k < 1346) (h8 : k ≠ 8) : wmC A nb f x cl z k = A k := by
  unfold wmC
  rw [upd_n (by omega), upd_n (by omega), wm1_n h h8]
theorem wmC_8 {A : Nat → Int32} {nb f : Nat} {x cl z : Int32} : wmC A nb f x cl z 8 = nI (wrK nb + 1) := by
  unfold wmC
  rw [upd_s]
def cOM (A0 : Nat → Int32) (q : pC) : Prop := q.1 8 = nI q.2.2 ∧ q.2.2 ≤ 20 ∧ ∀ k, (k < 8 ∨ (27 ≤ k ∧ k < 1346)) → q.1 k = A0 k
theorem cM_ok {wr : Bool} {V : Nat → Nat → Int32} {cl : Nat → Int32} {z : Int32} {f : Nat} {A0 : Nat → Int32} {q : pC} (hf : f < 5) (h : cOM A0 q) : cOM A0 (cM wr V cl z f q) := by
  obtain ⟨h1, h2, h3⟩ := h
  unfold cM
  cases wr with
  | true =>
    refine ⟨by dsimp only; rw [if_pos rfl, if_pos rfl, wmC_8], by have := wrK_lt h2; dsimp only; rw [if_pos rfl]; omega, fun k hk => ?_⟩
    dsimp only
    rw [if_pos rfl, wmC_n (by omega) (by omega), upd_n (by omega), h3 k hk]
  | false =>
    refine ⟨by dsimp only; rw [if_neg (by decide), if_neg (by decide), upd_n (by omega), h1], by dsimp only; rw [if_neg (by decide)]; exact h2, fun k hk => ?_⟩
    dsimp only
    rw [if_neg (by decide), upd_n (by omega), h3 k hk]
theorem cM1_ok {wr : Bool} {V : Nat → Nat → Int32} {cl : Nat → Int32} {bad : Int32} {A0 : Nat → Int32} {q0 : pC} (h0 : cOM A0 q0) : ∀ {i : Nat}, i ≤ 5 → cOM A0 (cM1 wr V cl bad q0 i)
  | 0, _ => by rw [cM1_0]; exact h0
  | i + 1, h => by
    by_cases c : hs bad (nI i)
    · rw [cM1_t c]
      exact cM1_ok h0 (by omega)
    · rw [cM1_f c]
      exact cM_ok (by omega) (cM1_ok h0 (by omega))
theorem cM2_ok {wr : Bool} {V : Nat → Nat → Int32} {cl : Nat → Int32} {bad : Int32} {nf : Nat} {A0 : Nat → Int32} {q0 : pC} (hf : nf ≤ 5) (h0 : cOM A0 q0) : ∀ {i : Nat}, i ≤ nf → cOM A0 (cM2 wr V cl bad nf q0 i)
  | 0, _ => by rw [cM2_0]; exact h0
  | i + 1, h => by
    by_cases c : hs bad (nI (nf - 1 - i))
    · rw [cM2_t rfl c]
      exact cM_ok (by omega) (cM2_ok hf h0 (by omega))
    · rw [cM2_f rfl c]
      exact cM2_ok hf h0 (by omega)
/-- the model with another row, claims said, scalars, names, values, truths -/
def gk_m4 (S : gk_S) (A cl u F : Nat → Int32) (L : Nat → Int64) (T : Nat → Int32) : gk_S := gk_dt (gk_si (gk_si (gk_si S 408 cl) 201 u) 400 A) F L T
theorem m4_a {S : gk_S} {A cl u F A' T : Nat → Int32} {L : Nat → Int64} : gk_si (gk_m4 S A cl u F L T) 400 A' = gk_m4 S A' cl u F L T := by
  unfold gk_m4
  rw [dt_si (by decide) (by decide), si_si]
theorem m4_u {S : gk_S} {A cl u F u' T : Nat → Int32} {L : Nat → Int64} : gk_si (gk_m4 S A cl u F L T) 201 u' = gk_m4 S A cl u' F L T := by
  unfold gk_m4
  rw [dt_si (by decide) (by decide), si_co (i := 400) (j := 201) (by decide), si_si]
theorem m4_c {S : gk_S} {A cl u F cl' T : Nat → Int32} {L : Nat → Int64} : gk_si (gk_m4 S A cl u F L T) 408 cl' = gk_m4 S A cl' u F L T := by
  unfold gk_m4
  rw [dt_si (by decide) (by decide), si_co (i := 400) (j := 408) (by decide), si_co (i := 201) (j := 408) (by decide), si_si]
theorem m4_d {S : gk_S} {A cl u F F' T T' : Nat → Int32} {L L' : Nat → Int64} : gk_dt (gk_m4 S A cl u F L T) F' L' T' = gk_m4 S A cl u F' L' T' := dt_dt
theorem m4_0 {S : gk_S} {A : Nat → Int32} : gk_si S 400 A = gk_m4 S A (S.1 408) (S.1 201) (S.1 405) (S.2.1 0) (S.1 407) := by
  unfold gk_m4
  rw [si_id (S := S) (i := 408), si_id (S := S) (i := 201)]
  exact dt_self (S := gk_si S 400 A)
theorem m4_B {S : gk_S} {n v : Nat} {g A cl : Nat → Int32} {bad : Int32} (h : cl = S.1 408) : gk_si S 400 A = gk_m4 S (bMs n g (A, v, cl, bad) 0).1 (bMs n g (A, v, cl, bad) 0).2.2.1 (S.1 201) (S.1 405) (S.2.1 0) (S.1 407) := by
  rw [bMs_0, h]
  exact m4_0
theorem m4_B2 {n v : Nat} {g A cl : Nat → Int32} {bad : Int32} : some (Value.int bad) = some (.int (bMs n g (A, v, cl, bad) 0).2.2.2) := by rw [bMs_0]
theorem m4_C {S : gk_S} {wr : Bool} {nb : Nat} {V : Nat → Nat → Int32} {A cl u F T : Nat → Int32} {L : Nat → Int64} {bad left : Int32} : gk_m4 S A cl u F L T = gk_m4 S (cM1 wr V cl bad (A, left, nb) 0).1 cl u F L T := by rw [cM1_0]
theorem m4_C2 {wr : Bool} {nb : Nat} {V : Nat → Nat → Int32} {A cl : Nat → Int32} {bad left : Int32} : some (Value.int left) = some (.int (cM1 wr V cl bad (A, left, nb) 0).2.1) := by rw [cM1_0]
theorem m4_D {S : gk_S} {wr : Bool} {nf : Nat} {q0 : pC} {V : Nat → Nat → Int32} {cl u F T : Nat → Int32} {L : Nat → Int64} {bad : Int32} : gk_m4 S q0.1 cl u F L T = gk_m4 S (cM2 wr V cl bad nf q0 0).1 cl u F L T := by rw [cM2_0]
theorem m4_D2 {wr : Bool} {nf : Nat} {q0 : pC} {V : Nat → Nat → Int32} {cl : Nat → Int32} {bad : Int32} : some (Value.int q0.2.1) = some (.int (cM2 wr V cl bad nf q0 0).2.1) := by rw [cM2_0]
theorem MU_a {S S' : gk_S} {n : Nat} {g : Nat → Int32} (h : MU S n g) (h2 : S'.1 400 2 = S.1 400 2) (h3 : S'.1 402 = S.1 402) : MU S' n g := by
  unfold MU
  rw [h2, h3]
  exact h
/-- what names a farmer and a field is small -/
def smA (A : Nat → Int32) : Prop := ∀ i, (i = 5 ∨ (27 ≤ i ∧ i < 62)) → -9999 ≤ (A i).toInt ∧ (A i).toInt ≤ 9999
theorem nmd_g {o : Nat → Int32} {x0 x1 x2 x3 x4 x5 : Int32} {i : Nat} (h : i < 6) : nmd o x0 x1 x2 x3 x4 x5 i = x0 ∨ nmd o x0 x1 x2 x3 x4 x5 i = x1 ∨ nmd o x0 x1 x2 x3 x4 x5 i = x2 ∨ nmd o x0 x1 x2 x3 x4 x5 i = x3 ∨ nmd o x0 x1 x2 x3 x4 x5 i = x4 ∨ nmd o x0 x1 x2 x3 x4 x5 i = x5 := by
  unfold nmd upd
  rcases (show i = 0 ∨ i = 1 ∨ i = 2 ∨ i = 3 ∨ i = 4 ∨ i = 5 by omega) with e | e | e | e | e | e <;> subst e <;> simp
theorem ag_nm {S : gk_S} {f k n : Nat} (h : smA (S.1 400)) (hf : f < 5) (hk : k < 5) : agK false (vcM S f k n) (vcM S f k n) := by
  intro i hi hr
  rw [if_neg (by decide)] at hr
  refine ⟨rfl, ?_⟩
  unfold vcM
  rw [if_neg (by omega)]
  have hs1 : ∀ j, j < 5 → -9999 ≤ (nI j).toInt ∧ (nI j).toInt ≤ 9999 := fun j hj => by rw [nI_toInt (by omega)]; omega
  split
  · unfold nmM
    rcases nmd_g (o := S.1 405) (x0 := S.1 400 5) (x1 := nI k) (x2 := S.1 400 (32 + k)) (x3 := nI f) (x4 := S.1 400 (27 + f)) (x5 := S.1 400 (37 + 5 * f + k)) (i := i - 4) (by omega) with e | e | e | e | e | e <;> rw [e]
    · exact h _ (by omega)
    · exact hs1 _ hk
    · exact h _ (by omega)
    · exact hs1 _ hf
    · exact h _ (by omega)
    · exact h _ (by omega)
  · unfold bP
    split <;> decide
def vlM (S : gk_S) (n : Nat) (A : Nat → Int32) (W : Option mnB) (f k : Nat) : Int32 := wvM W (vcM (gk_si S 400 A) f k n)
theorem vcM_c {S S' : gk_S} {f k n : Nat} (h1 : offM (S'.1 405) (S.1 405)) (h2 : ∀ i, (i = 5 ∨ i = 7 ∨ (27 ≤ i ∧ i < 62)) → S'.1 400 i = S.1 400 i) (hf : f < 5) (hk : k < 5) : vcM S' f k n = vcM S f k n := by
  have e : nmM S' f k = nmM S f k := by
    unfold nmM
    rw [h2 5 (by omega), h2 (32 + k) (by omega), h2 (27 + f) (by omega), h2 (37 + 5 * f + k) (by omega)]
    exact nmd_c h1
  funext i
  unfold vcM
  rw [e, h2 7 (by omega)]
  by_cases h4 : i < 4
  · rw [if_pos h4, if_pos h4]
    exact h1 _ (by omega)
  · rw [if_neg h4, if_neg h4]
def psBM (S : gk_S) (n nf v : Nat) (g : Nat → Int32) : pM := bMs n g (clA (S.1 400) 8, v, S.1 408, 0) nf
def psCM (wr : Bool) (S : gk_S) (n nf v nb : Nat) (g : Nat → Int32) (W : Option mnB) : pC := cM1 wr (vlM S n (psBM S n nf v g).1 W) (psBM S n nf v g).2.2.1 (psBM S n nf v g).2.2.2 ((psBM S n nf v g).1, 31, nb) nf
def psDM (wr : Bool) (S : gk_S) (n nf v nb : Nat) (g : Nat → Int32) (W : Option mnB) : pC := cM2 wr (vlM S n (psBM S n nf v g).1 W) (psBM S n nf v g).2.2.1 (psBM S n nf v g).2.2.2 nf (psCM wr S n nf v nb g W) nf
def psRM (wr : Bool) (S : gk_S) (n nf v nb : Nat) (g : Nat → Int32) (W : Option mnB) : Nat → Int32 := upd (psDM wr S n nf v nb g W).1 5 ((psDM wr S n nf v nb g W).1 5 + 1)
