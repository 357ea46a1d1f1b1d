/-! IN WHICH ORDER FARMERS CHOOSE -/
theorem rg_add {a : Nat} : ∀ {b : Nat}, List.range (a + b) = List.range a ++ (List.range b).map (fun d => a + d)
  | 0 => by simp
  | b + 1 => by
    rw [show a + (b + 1) = (a + b) + 1 from rfl, List.range_succ, rg_add, List.range_succ, List.map_append, List.append_assoc]
    rfl
def flC (n : Nat) (g : Nat → Int32) (q0 : pB) (k : Nat) : Bool := (rfC n g (bCs n g q0 k).2.1 k (bCs n g q0 k).1).2
def rdL (ln : Nat → Int32) (a m : Nat) : List Nat := (List.range m).map (fun d => ix (ln (a + d)))
theorem rdL_c {ln ln' : Nat → Int32} {a m : Nat} (h : ∀ d, d < m → ln (a + d) = ln' (a + d)) : rdL ln a m = rdL ln' a m := by
  unfold rdL
  exact List.map_congr_left (fun d hd => by rw [h d (List.mem_range.mp hd)])
theorem rdL_s {ln : Nat → Int32} {a m : Nat} : rdL ln a (m + 1) = rdL ln a m ++ [ix (ln (a + m))] := by
  unfold rdL
  rw [List.range_succ, List.map_append]
  rfl
theorem rdL_0 {ln : Nat → Int32} {a m : Nat} : rdL ln a (m + 1) = ix (ln a) :: rdL ln (a + 1) m := by
  unfold rdL
  rw [List.range_succ_eq_map, List.map_cons, List.map_map]
  congr 1
  exact List.map_congr_left (fun d _ => by show ix (ln (a + (d + 1))) = ix (ln (a + 1 + d)); rw [show a + (d + 1) = a + 1 + d by omega])
theorem ord_in {n nf : Nat} {g R sy ln : Nat → Int32} {v : Nat} {lo : Int32} (hn : n ≤ 8) (hf : nf ≤ 5) (hv : R 1 = nI v) (hv2 : v < 30859) : ∀ {i : Nat}, i ≤ nf →
    rdL (bCs n g (R, v, sy, ln, 0, nf, lo) i).2.2.2.1 0 (bCs n g (R, v, sy, ln, 0, nf, lo) i).2.2.2.2.1 = (List.range i).filter (fun f => !flC n g (R, v, sy, ln, 0, nf, lo) f) ∧
    rdL (bCs n g (R, v, sy, ln, 0, nf, lo) i).2.2.2.1 (bCs n g (R, v, sy, ln, 0, nf, lo) i).2.2.2.2.2.1 (nf - (bCs n g (R, v, sy, ln, 0, nf, lo) i).2.2.2.2.2.1) = ((List.range i).filter (fun f => flC n g (R, v, sy, ln, 0, nf, lo) f)).reverse
  | 0, _ => by
    rw [bCs_0]
    dsimp only
    rw [Nat.sub_self]
    exact ⟨rfl, rfl⟩
  | i + 1, hi => by
    obtain ⟨e1, e2⟩ := ord_in (n := n) (g := g) (sy := sy) (ln := ln) (lo := lo) hn hf hv hv2 (i := i) (by omega)
    obtain ⟨k1, k2, k3, k4, k5, k6, k7⟩ := bCs_ok (n := n) (g := g) (sy := sy) (ln := ln) (lo := lo) hn hf hv hv2 (i := i) (by omega)
    by_cases c : (rfC n g (bCs n g (R, v, sy, ln, 0, nf, lo) i).2.1 i (bCs n g (R, v, sy, ln, 0, nf, lo) i).1).2 = true
    · have hfl : flC n g (R, v, sy, ln, 0, nf, lo) i = true := c
      rw [bCs_t c]
      dsimp only
      rw [List.range_succ, List.filter_append, List.filter_append]
      constructor
      · rw [show [i].filter (fun f => !flC n g (R, v, sy, ln, 0, nf, lo) f) = [] by simp [hfl], List.append_nil, ← e1]
        exact rdL_c (fun d hd => upd_n (by omega))
      · rw [show [i].filter (fun f => flC n g (R, v, sy, ln, 0, nf, lo) f) = [i] by simp [hfl], List.reverse_append, List.reverse_singleton, ← e2, show nf - ((bCs n g (R, v, sy, ln, 0, nf, lo) i).2.2.2.2.2.1 - 1) = (nf - (bCs n g (R, v, sy, ln, 0, nf, lo) i).2.2.2.2.2.1) + 1 by omega, rdL_0, upd_s, ix_n (by omega), show (bCs n g (R, v, sy, ln, 0, nf, lo) i).2.2.2.2.2.1 - 1 + 1 = (bCs n g (R, v, sy, ln, 0, nf, lo) i).2.2.2.2.2.1 by omega]
        show i :: _ = [i] ++ _
        rw [List.singleton_append]
        congr 1
        exact rdL_c (fun d hd => upd_n (by omega))
    · have hfl : flC n g (R, v, sy, ln, 0, nf, lo) i = false := Bool.eq_false_iff.mpr c
      rw [bCs_f c]
      dsimp only
      rw [List.range_succ, List.filter_append, List.filter_append]
      constructor
      · rw [show [i].filter (fun f => !flC n g (R, v, sy, ln, 0, nf, lo) f) = [i] by simp [hfl], ← e1, rdL_s, Nat.zero_add, upd_s, ix_n (by omega)]
        congr 1
        exact rdL_c (fun d hd => upd_n (by omega))
      · rw [show [i].filter (fun f => flC n g (R, v, sy, ln, 0, nf, lo) f) = [] by simp [hfl], List.append_nil, ← e2]
        exact rdL_c (fun d hd => upd_n (by omega))
/-- the order -/
def orL (fl : Nat → Bool) (nf : Nat) : List Nat := (List.range nf).filter (fun f => !fl f) ++ ((List.range nf).filter fl).reverse
theorem ord_all {n nf : Nat} {g R sy ln : Nat → Int32} {v : Nat} {lo : Int32} (hn : n ≤ 8) (hf : nf ≤ 5) (hv : R 1 = nI v) (hv2 : v < 30859) : rdL (bCs n g (R, v, sy, ln, 0, nf, lo) nf).2.2.2.1 0 nf = orL (flC n g (R, v, sy, ln, 0, nf, lo)) nf := by
  obtain ⟨e1, e2⟩ := ord_in (n := n) (g := g) (sy := sy) (ln := ln) (lo := lo) hn hf hv hv2 (Nat.le_refl nf)
  obtain ⟨k1, k2, k3, k4, k5, k6, k7⟩ := bCs_ok (n := n) (g := g) (sy := sy) (ln := ln) (lo := lo) hn hf hv hv2 (Nat.le_refl nf)
  unfold orL
  rw [← e1, ← e2, show (bCs n g (R, v, sy, ln, 0, nf, lo) nf).2.2.2.2.2.1 = (bCs n g (R, v, sy, ln, 0, nf, lo) nf).2.2.2.2.1 by omega]
  generalize hu : (bCs n g (R, v, sy, ln, 0, nf, lo) nf).2.2.2.2.1 = u at *
  have hun : u ≤ nf := by omega
  unfold rdL
  rw [show List.range nf = List.range (u + (nf - u)) by rw [Nat.add_sub_cancel' hun], rg_add, List.map_append, List.map_map]
  congr 1
  exact List.map_congr_left (fun d _ => by show ix _ = ix _; rw [Nat.zero_add])
/-- the bits of those who are refuted -/
theorem one_bt : ∀ i, i < 5 → ∀ f, f < 5 → (bt (one (nI i)) f = true ↔ f = i) := by decide +kernel
theorem lost_bt {n nf : Nat} {g R sy ln : Nat → Int32} {v : Nat} : ∀ {i : Nat}, i ≤ 5 → ∀ f, f < 5 → (hs (bCs n g (R, v, sy, ln, 0, nf, 0) i).2.2.2.2.2.2 (nI f) ↔ f < i ∧ flC n g (R, v, sy, ln, 0, nf, 0) f = true)
  | 0, _, f, hf => by
    rw [bCs_0, hs_bt (by omega)]
    dsimp only
    rw [b_0]
    simp
  | i + 1, hi, f, hf => by
    have ih := lost_bt (n := n) (nf := nf) (g := g) (R := R) (sy := sy) (ln := ln) (v := v) (i := i) (by omega) f hf
    rw [hs_bt (by omega)] at ih ⊢
    by_cases c : (rfC n g (bCs n g (R, v, sy, ln, 0, nf, 0) i).2.1 i (bCs n g (R, v, sy, ln, 0, nf, 0) i).1).2 = true
    · rw [bCs_t c]
      dsimp only
      rw [b_or, Bool.or_eq_true_iff, ih, one_bt i (by omega) f hf]
      constructor
      · rintro (⟨z1, z2⟩ | z)
        · exact ⟨by omega, z2⟩
        · exact ⟨by omega, by rw [z]; exact c⟩
      · rintro ⟨z1, z2⟩
        by_cases e : f = i
        · exact Or.inr e
        · exact Or.inl ⟨by omega, z2⟩
    · rw [bCs_f c]
      dsimp only
      rw [ih]
      constructor
      · rintro ⟨z1, z2⟩
        exact ⟨by omega, z2⟩
      · rintro ⟨z1, z2⟩
        by_cases e : f = i
        · exact absurd (by rw [e] at z2; exact z2) c
        · exact ⟨by omega, z2⟩
/-! folds -/
theorem cCs_fold {V : Nat → Nat → Int32} {sy ln : Nat → Int32} {lost : Int32} {q0 : pC} : ∀ {i : Nat}, cCs V sy ln lost q0 i = (rdL ln 0 i).foldl (fun q f => cC V sy lost f q) q0
  | 0 => by rw [cCs_0]; rfl
  | i + 1 => by
    rw [rdL_s, List.foldl_append, ← cCs_fold, Nat.zero_add]
    rfl
theorem cM1_fold {wr : Bool} {V : Nat → Nat → Int32} {cl : Nat → Int32} {bad : Int32} {q0 : pC} {fl : Nat → Bool} : ∀ {i : Nat}, (∀ f, f < i → (hs bad (nI f) ↔ fl f = true)) → cM1 wr V cl bad q0 i = ((List.range i).filter (fun f => !fl f)).foldl (fun q f => cM wr V cl 0 f q) q0
  | 0, _ => by rw [cM1_0]; rfl
  | i + 1, h => by
    have ih := cM1_fold (wr := wr) (V := V) (cl := cl) (bad := bad) (q0 := q0) (fl := fl) (i := i) (fun f hf => h f (by omega))
    rw [List.range_succ, List.filter_append, List.foldl_append, ← ih]
    by_cases c : hs bad (nI i)
    · have e : fl i = true := (h i (by omega)).mp c
      rw [cM1_t c, show [i].filter (fun f => !fl f) = [] by simp [e]]
      rfl
    · have e : fl i = false := Bool.eq_false_iff.mpr (fun z => c ((h i (by omega)).mpr z))
      rw [cM1_f c, show [i].filter (fun f => !fl f) = [i] by simp [e]]
      rfl
theorem cM2_fold {wr : Bool} {V : Nat → Nat → Int32} {cl : Nat → Int32} {bad : Int32} {nf : Nat} {q0 : pC} {fl : Nat → Bool} (h : ∀ f, f < nf → (hs bad (nI f) ↔ fl f = true)) : ∀ {i : Nat}, i ≤ nf → ((List.range (nf - i)).filter fl).reverse.foldl (fun q f => cM wr V cl 1 f q) (cM2 wr V cl bad nf q0 i) = ((List.range nf).filter fl).reverse.foldl (fun q f => cM wr V cl 1 f q) q0
  | 0, _ => by rw [cM2_0, Nat.sub_zero]
  | i + 1, hi => by
    rw [← cM2_fold h (i := i) (by omega)]
    have e : nf - i = (nf - (i + 1)) + 1 := by omega
    rw [e, List.range_succ, List.filter_append, List.reverse_append, List.foldl_append]
    have e2 : nf - 1 - i = nf - (i + 1) := by omega
    by_cases c : hs bad (nI (nf - (i + 1)))
    · have z : fl (nf - (i + 1)) = true := (h _ (by omega)).mp c
      rw [cM2_t e2 c, show [nf - (i + 1)].filter fl = [nf - (i + 1)] by simp [z]]
      rfl
    · have z : fl (nf - (i + 1)) = false := Bool.eq_false_iff.mpr (fun z => c ((h _ (by omega)).mpr z))
      rw [cM2_f e2 c, show [nf - (i + 1)].filter fl = [] by simp [z]]
      rfl
theorem cM2_all {wr : Bool} {V : Nat → Nat → Int32} {cl : Nat → Int32} {bad : Int32} {nf : Nat} {q0 : pC} {fl : Nat → Bool} (h : ∀ f, f < nf → (hs bad (nI f) ↔ fl f = true)) : cM2 wr V cl bad nf q0 nf = ((List.range nf).filter fl).reverse.foldl (fun q f => cM wr V cl 1 f q) q0 := by
  rw [← cM2_fold h (Nat.le_refl nf), Nat.sub_self]
  rfl
