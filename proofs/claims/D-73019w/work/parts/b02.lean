/-! STEPS OF THE TWO -/
theorem coR_A {R A A' : Nat → Int32} (h : coR R A) (e : ∀ k, (5 ≤ k ∧ k < 27) → A' k = A k) : coR R A' := by
  obtain ⟨h0, h1, h2, h3, h4, h5⟩ := h
  refine ⟨?_, ?_, ?_, fun c hc => ?_, fun f hf => ?_, fun f hf => ?_⟩
  · rw [e 5 (by omega)]; exact h0
  · rw [e 6 (by omega)]; exact h1
  · rw [e 7 (by omega)]; exact h2
  · rw [e _ (by omega)]; exact h3 c hc
  · rw [e _ (by omega)]; exact h4 f hf
  · rw [e _ (by omega)]; exact h5 f hf
theorem coR_R {R R' A : Nat → Int32} (h : coR R A) (e : ∀ k, k < 21 → R' k = R k) : coR R' A := by
  obtain ⟨h0, h1, h2, h3, h4, h5⟩ := h
  refine ⟨?_, ?_, ?_, fun c hc => ?_, fun f hf => ?_, fun f hf => ?_⟩
  · rw [e 0 (by omega)]; exact h0
  · rw [e 1 (by omega)]; exact h1
  · rw [e 2 (by omega)]; exact h2
  · rw [e _ (by omega)]; exact h3 c hc
  · rw [e _ (by omega)]; exact h4 f hf
  · rw [e _ (by omega)]; exact h5 f hf
theorem rwR_A {wr : Bool} {R A A' : Nat → Int32} (h : rwR wr R A) (e : ∀ k, ((5 ≤ k ∧ k < 27) ∨ (1346 ≤ k ∧ k < 1366)) → A' k = A k) : rwR wr R A' := by
  obtain ⟨h1, nb, h2, h3, h4⟩ := h
  refine ⟨coR_A h1 (fun k hk => e k (Or.inl hk)), nb, h2, h3, fun hw => ?_⟩
  obtain ⟨z1, z2⟩ := h4 hw
  exact ⟨by rw [e 8 (by omega)]; exact z1, fun i hi => bkE_c (z2 i hi) (fun _ _ => rfl) (e _ (by omega))⟩
theorem rwR_R {wr : Bool} {R R' A : Nat → Int32} (h : rwR wr R A) (e : ∀ k, k < 122 → R' k = R k) : rwR wr R' A := by
  obtain ⟨h1, nb, h2, h3, h4⟩ := h
  refine ⟨coR_R h1 (fun k hk => e k (by omega)), nb, h2, by rw [e 21 (by omega)]; exact h3, fun hw => ?_⟩
  obtain ⟨z1, z2⟩ := h4 hw
  exact ⟨z1, fun i hi => bkE_c (z2 i hi) (fun w hw => e _ (by omega)) rfl⟩
/-- a kept row as a live one -/
def lvA (L : Nat → Int32) : Nat → Int32 := fun k => if 5 ≤ k ∧ k < 27 then L (k - 5) else if 1346 ≤ k then L (22 + (k - 1346)) else 0
def StR (R L : Nat → Int32) : Prop := rwR true R (lvA L) ∧ (∃ v, v < 30859 ∧ L 1 = nI v) ∧ ∃ sp, sp ≤ 9999 ∧ L 0 = nI sp
theorem StR_L {R L L' : Nat → Int32} (h : StR R L) (e : ∀ k, k < 42 → L' k = L k) : StR R L' := by
  obtain ⟨h1, ⟨v, hv, hv2⟩, sp, hsp, hsp2⟩ := h
  refine ⟨rwR_A h1 (fun k hk => ?_), ⟨v, hv, by rw [e 1 (by omega)]; exact hv2⟩, sp, hsp, by rw [e 0 (by omega)]; exact hsp2⟩
  unfold lvA
  rcases hk with hk | hk
  · rw [if_pos hk, if_pos hk, e _ (by omega)]
  · rw [if_neg (c := 5 ≤ k ∧ k < 27) (by omega), if_neg (c := 5 ≤ k ∧ k < 27) (by omega), if_pos hk.1, if_pos hk.1, e _ (by omega)]
theorem StR_R {R R' L : Nat → Int32} (h : StR R L) (e : ∀ k, k < 122 → R' k = R k) : StR R' L := ⟨rwR_R h.1 e, h.2⟩
/-- the component's row and steps by the model's -/
def CoK (S : gk_S) (A : Nat → Int32) (ns : Nat) : Prop := rwR true (S.1 11) A ∧ rwM A ∧ ns ≤ 30 ∧ S.1 10 3 = nI ns ∧ A 3 = nI ns ∧ ∀ i, i < ns → StR (S.1 (40 + i)) (fun k => A (86 + 42 * i + k))
theorem StR_live {R A L : Nat → Int32} (h : rwR true R A) (hA : rwM A) (e : ∀ k, k < 42 → L k = if k < 22 then A (5 + k) else A (1346 + (k - 22))) : StR R L := by
  obtain ⟨⟨⟨v, hv2, hv⟩, -, -⟩, sp, hsp, hsp2⟩ := hA
  refine ⟨rwR_A h (fun k hk => ?_), ⟨v, hv2, ?_⟩, sp, hsp, ?_⟩
  · unfold lvA
    rcases hk with hk | hk
    · rw [if_pos hk, e _ (by omega), if_pos (by omega)]
      exact congrArg A (by omega)
    · rw [if_neg (by omega), if_pos hk.1, e _ (by omega), if_neg (by omega)]
      exact congrArg A (by omega)
  · rw [e 1 (by omega), if_pos (by omega)]
    exact hv
  · rw [e 0 (by omega), if_pos (by omega)]
    exact hsp2
theorem cp1_s {S : gk_S} {i j n k : Nat} (hk : k < n) : (cp1 S i j n).1 j k = S.1 i k := by
  unfold cp1
  rw [si_s]
  unfold va_cpy
  rw [if_pos (by omega)]
  exact congrArg (S.1 i) (by omega)
theorem cp1_n {S : gk_S} {i j n k : Nat} (hk : k ≠ j) : (cp1 S i j n).1 k = S.1 k := by
  unfold cp1
  rw [si_n hk]
theorem si_2 {S : gk_S} {i : Nat} {f : Nat → Int32} : (gk_si S i f).2 = S.2 := rfl
theorem cp1_2 {S : gk_S} {i j n : Nat} : (cp1 S i j n).2 = S.2 := rfl
theorem shS_s {S : gk_S} {N : Nat} : shS S (N + 1) = cp1 (shS S N) (40 + (N + 1)) (40 + N) 122 := itr_s
theorem shS_o {S : gk_S} {j : Nat} : ∀ {N : Nat}, (j < 40 ∨ 40 + N ≤ j) → (shS S N).1 j = S.1 j
  | 0, _ => rfl
  | N + 1, h => by
    rw [shS_s, cp1_n (by omega)]
    exact shS_o (by omega)
theorem shS_g {S : gk_S} {i k : Nat} (hk : k < 122) : ∀ {N : Nat}, i < N → (shS S N).1 (40 + i) k = S.1 (40 + i + 1) k
  | N + 1, h => by
    rw [shS_s]
    by_cases e : i = N
    · subst e
      rw [cp1_s hk, shS_o (by omega)]
      rfl
    · rw [cp1_n (by omega)]
      exact shS_g hk (by omega)
theorem shS_2 {S : gk_S} : ∀ {N : Nat}, (shS S N).2 = S.2
  | 0 => rfl
  | N + 1 => by
    rw [shS_s, cp1_2]
    exact shS_2
theorem bcU_i {a : Nat → Int32} {d s k x : Nat} (h : d ≤ x ∧ x < d + k) : bcU a d s k x = a (x - d + s) := if_pos h
theorem kpM_old {A : Nat → Int32} {ns i k : Nat} (hns : ns < 30) (hi : i < ns) (hk : k < 42) : kpM A ns (86 + 42 * i + k) = A (86 + 42 * i + k) := by
  rw [kpM_lt (by omega), upd_n (by omega), bcU_o (by omega), bcU_o (by omega)]
theorem kpM_new {A : Nat → Int32} {ns k : Nat} (hns : ns < 30) (hk : k < 42) : kpM A ns (86 + 42 * ns + k) = if k < 22 then A (5 + k) else A (1346 + (k - 22)) := by
  rw [kpM_lt (by omega), upd_n (by omega)]
  by_cases h : k < 22
  · rw [if_pos h, bcU_o (by omega), bcU_i (by omega)]
    exact congrArg A (by omega)
  · rw [if_neg h, bcU_i (by omega), bcU_o (by omega)]
    exact congrArg A (by omega)
theorem kpM_old30 {A : Nat → Int32} {i k : Nat} (hi : i < 29) (hk : k < 42) : kpM A 30 (86 + 42 * i + k) = A (86 + 42 * (i + 1) + k) := by
  rw [kpM_30, upd_n (by omega), bcU_o (by omega), bcU_o (by omega), upd_n (by omega), bcU_i (by omega)]
  exact congrArg A (by omega)
theorem kpM_new30 {A : Nat → Int32} {k : Nat} (hk : k < 42) : kpM A 30 (86 + 42 * 29 + k) = if k < 22 then A (5 + k) else A (1346 + (k - 22)) := by
  rw [kpM_30, upd_n (by omega)]
  by_cases h : k < 22
  · rw [if_pos h, bcU_o (by omega), bcU_i (by omega), upd_n (by omega), bcU_o (by omega)]
    exact congrArg A (by omega)
  · rw [if_neg h, bcU_i (by omega), bcU_o (by omega), upd_n (by omega), bcU_o (by omega)]
    exact congrArg A (by omega)
abbrev kpX (i : Nat) : Prop := i = 10 ∨ (40 ≤ i ∧ i < 70)
theorem kp_st {S : gk_S} {A : Nat → Int32} {ns : Nat} (h : CoK S A ns) : CoK (kpS S ns) (kpM A ns) (kpN ns) ∧ FrC kpX S (kpS S ns) ∧ (∀ j, j ≠ 3 → (kpS S ns).1 10 j = S.1 10 j) ∧ (kpS S ns).1 11 = S.1 11 := by
  obtain ⟨h1, h2, h3, h4, h5, h6⟩ := h
  have hrow : rwR true (S.1 11) (kpM A ns) := rwR_A h1 (fun k hk => kpM_n h3 (by omega))
  by_cases e : ns = 30
  · subst e
    have hS : ∀ j, j ≠ 10 → (kpS S 30).1 j = (cp1 (gk_si (shS S 29) 10 (upd (S.1 10) 3 (nI 29))) 11 (40 + 29) 122).1 j := fun j hj => by rw [kpS_30, si_n hj]
    have h11 : (kpS S 30).1 11 = S.1 11 := by rw [hS 11 (by decide), cp1_n (by decide), si_n (by decide), shS_o (by omega)]
    refine ⟨⟨by rw [h11]; exact hrow, kpM_rw h3 h2, kpN_le h3, ?_, kpM_3, fun i hi => ?_⟩, ⟨?_, fun i hi => ?_, fun i hi => ?_⟩, fun j hj => ?_, h11⟩
    · rw [kpS_30, si_s, upd_s, show kpN 30 = 29 + 1 from rfl]
    · have hi30 : i < 30 := hi
      by_cases e2 : i = 29
      · subst e2
        refine StR_live (R := (kpS S 30).1 (40 + 29)) (A := A) (rwR_R h1 (fun k hk => ?_)) h2 (fun k hk => kpM_new30 hk)
        rw [hS _ (by omega), cp1_s hk, si_n (by decide), shS_o (by omega)]
      · refine StR_L (StR_R (h6 (i + 1) (by omega)) (fun k hk => ?_)) (fun k hk => kpM_old30 (by omega) hk)
        rw [hS _ (by omega), cp1_n (by omega), si_n (by omega), shS_g hk (by omega)]
        rfl
    · rw [kpS_30, si_2, cp1_2, si_2, shS_2]
    · have hk : ¬ kpX i := hi
      rw [hS i (by omega), cp1_n (by omega), si_n (by omega), shS_o (by omega)]
    · rw [hS 301 (by decide), cp1_n (by decide), si_n (by decide), shS_o (by omega)]
    · rw [kpS_30, si_s, upd_n hj, cp1_n (by decide), si_s, upd_n hj]
  · have hS : ∀ j, j ≠ 10 → (kpS S ns).1 j = (cp1 S 11 (40 + ns) 122).1 j := fun j hj => by rw [kpS_lt e, si_n hj]
    have h11 : (kpS S ns).1 11 = S.1 11 := by rw [hS 11 (by decide), cp1_n (by omega)]
    have hN : kpN ns = ns + 1 := if_neg e
    refine ⟨⟨by rw [h11]; exact hrow, kpM_rw h3 h2, kpN_le h3, ?_, kpM_3, fun i hi => ?_⟩, ⟨?_, fun i hi => ?_, fun i hi => ?_⟩, fun j hj => ?_, h11⟩
    · rw [kpS_lt e, si_s, upd_s, hN]
    · rw [hN] at hi
      by_cases e2 : i = ns
      · subst e2
        refine StR_live (R := (kpS S i).1 (40 + i)) (A := A) (rwR_R h1 (fun k hk => ?_)) h2 (fun k hk => kpM_new (by omega) hk)
        rw [hS _ (by omega), cp1_s hk]
      · refine StR_L (StR_R (h6 i (by omega)) (fun k hk => ?_)) (fun k hk => kpM_old (by omega) (by omega) hk)
        rw [hS _ (by omega), cp1_n (by omega)]
    · rw [kpS_lt e, si_2, cp1_2]
    · have hk : ¬ kpX i := hi
      rw [hS i (by omega), cp1_n (by omega)]
    · rw [hS 301 (by decide), cp1_n (by omega)]
    · rw [kpS_lt e, si_s, upd_n hj, cp1_n (by omega)]
