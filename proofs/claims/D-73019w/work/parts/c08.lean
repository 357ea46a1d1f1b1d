/-- an ArrayList of ours that only grew -/
def LsB (E : gk_E) (S : gk_S) (o : Nat) (mo : Int32) (b n k : Nat) (x : Nat → Option Nat) : Prop := LsA E S o mo b n k x ∧ E.2.2.2.1 ≤ o ∧ ((n = 0 ∧ b = E.2.2.1 903 ∧ k = 0) ∨ (10 ≤ n ∧ E.2.2.2.1 ≤ b)) ∧ S.2.2.2 b = some (.inl (E.2.1 6, n, .inr (.inr (.inr (.inr x))))) ∧ (∀ i y, x i = some y → i < k ∧ ∃ ci fs, S.2.2.2 y = some (.inr (ci, fs)))
theorem al_ne {k n : Nat} (h : k < n) (hn : n < 100000) : ¬ nI k = nI n := by
  intro z
  have h1 : (nI k).toInt = (nI n).toInt := by rw [z]
  rw [nI_toInt (by omega), nI_toInt (by omega)] at h1
  omega
theorem cpy_x {x : Nat → Option Nat} {n : Nat} (h : ∀ i y, x i = some y → i < n) : va_cpy x (fun _ => none) 0 0 n = x := by
  funext j
  unfold va_cpy
  split
  · congr 1; omega
  · cases hx : x j with
    | none => rfl
    | some y => have := h j y hx; omega
theorem al_ob {S : gk_S} {o b : Nat} {x : Nat × List Value} {y : ClassId × vp_A} (h : S.2.2.2 o = some (.inr x)) (hb : S.2.2.2 b = some (.inl y)) : o ≠ b := fun z => by rw [z, hb] at h; cases h
theorem al_b {E : gk_E} {S : gk_S} {o : Nat} {mo : Int32} {b n k : Nat} {x : Nat → Option Nat} (h : LsB E S o mo b n k x) (hk : k < n) : E.2.2.2.1 ≤ b ∧ S.2.2.2 b = some (.inl (E.2.1 6, n, .inr (.inr (.inr (.inr x))))) := by
  rcases h.2.2.1 with h1 | h1
  · omega
  · exact ⟨h1.2, h.2.2.2.1⟩
theorem sd_n2 {S : gk_S} {q y : Nat} {x : va_E} (h : y ≠ q) : (gk_sd S q x).2.2.2 y = S.2.2.2 y := by simp [gk_sd, va_up, h]
set_option maxHeartbeats 600000 in
theorem k_J3_add_2_f {l : Launch} {E : gk_E} {S : gk_S} {i1 : Int32} {o1 v b n k ci : Nat} {mo : Int32} {x : Nat → Option Nat} {vs : List Value} (hi : i1 = nI k) (h : LsB E S o1 mo b n k x) (hv : S.2.2.2 v = some (.inr (ci, vs))) (hvo : v ≠ o1) (hrr : ∃ r9 : vw_C, gk_cl[ci]? = some r9) (hk : k < n) : gk_T l E yJ3_add_2 cJ3_add_2 4 (none) 1 60 0 0 [.ref o1, .ref v, .ref b, .int i1] S (fun r S' => r = none ∧ S' = gk_sd (gk_sd S b (.inl (E.2.1 6, n, .inr (.inr (.inr (.inr (va_up x k (some v)))))))) o1 (.inr (17, [.int mo, .ref b, .int (nI (k + 1))]))) := by
  refine gk_T.of [some (.ref o1), some (.ref v), some (.ref b), some (.int i1)] (by decide) (Nat.le_of_ble_eq_true rfl) (fun _ _ h => h) ?_
  intro p_ e_ R_ s_ m_ args_ below_ meth_ c_ hR X hr hin
  subst hR
  subst hi
  obtain ⟨hb1, hb2⟩ := al_b h hk
  have hn5 := h.1.2.2.2
  obtain ⟨⟨Cc9, T9, N9⟩, hr9⟩ := hrr
  refine g_iload_n X dJ3_add_2_0 rfl ?_
  refine g_aload_n X dJ3_add_2_1 rfl ?_
  refine g_alen (t := 6) X dJ3_add_2_2 h.1.2.1 rfl ?_
  refine g_icmp_ne (tgt := 11) X dJ3_add_2_3 rfl (fun c3 => ?_) (fun c3 => ?_)
  · refine g_aload_n X dJ3_add_2_11 rfl ?_
    refine g_iload_n X dJ3_add_2_12 rfl ?_
    refine g_aload_n X dJ3_add_2_13 rfl ?_
    refine g_aastd (t := 6) (ci := ci) X dJ3_add_2_14 rfl (gk_obj ci _ hr9) hb2 hb1 (rd_dy hv) hr9 rfl hk (by omega) ?_
    refine g_aload_n X dJ3_add_2_15 rfl ?_
    refine g_iload_n X dJ3_add_2_16 rfl ?_
    refine g_iconst (v := 1) X dJ3_add_2_17 rfl ?_
    refine g_iadd X dJ3_add_2_18 ?_
    rw [show nI k + 1 = nI (k + 1) from nI_add k 1]
    refine g_putd (C := RJ3) (T := TJ3) (N := 3) X 2 in_J3 tyJ3 tyJ3_ok nmJ3 dJ3_add_2_19 (Or.inl q378) ((sd_n2 (al_ob h.1.1 hb2)).trans h.1.1) h.2.1 rfl (Nat.le_of_ble_eq_true rfl) (fun _ h9 => h9) rfl rfl rfl (Nat.le_of_ble_eq_true rfl) ?_
    exact g_vret X hr dJ3_add_2_22 (Nat.le_of_ble_eq_true rfl) (Nat.le_of_ble_eq_true rfl) (⟨rfl, rfl⟩)
  · exact absurd c3 (al_ne hk h.1.2.2.2)
theorem sd_4 {S : gk_S} {q o : Nat} {a b c d : va_E} (h : o ≠ q) : gk_sd (gk_sd (gk_sd (gk_sd S q a) o b) q c) o d = gk_sd (gk_sd S q c) o d := by
  unfold gk_sd
  congr 3
  funext k
  simp only [va_up]
  by_cases h1 : k = o
  · simp [h1]
  · by_cases h2 : k = q
    · simp [h2]
    · simp [h1, h2]
theorem sd_3 {S : gk_S} {q o : Nat} {b c d : va_E} : gk_sd (gk_sd (gk_sd S o b) q c) o d = gk_sd (gk_sd S q c) o d := by
  unfold gk_sd
  congr 3
  funext k
  simp only [va_up]
  by_cases h1 : k = o
  · simp [h1]
  · by_cases h2 : k = q
    · simp [h2]
    · simp [h1, h2]
theorem al_oq {S : gk_S} {o q : Nat} {x : va_E} (h : S.2.2.2 o = some x) (hq : S.2.2.2 q = none) : o ≠ q := fun z => by rw [z, hq] at h; cases h
theorem LsB.hn {E : gk_E} {S : gk_S} {o : Nat} {mo : Int32} {b n k : Nat} {x : Nat → Option Nat} (h : LsB E S o mo b n k x) (hk : k = n) : (n = 0 ∧ b = E.2.2.1 903 ∧ k = 0) ∨ (10 ≤ n ∧ k = n) := by
  rcases h.2.2.1 with h1 | h1
  · exact Or.inl h1
  · exact Or.inr ⟨h1.1, hk⟩
theorem al_rb {E : gk_E} {S : gk_S} {o : Nat} {mo : Int32} {b n k : Nat} {x : Nat → Option Nat} {y : va_E} (h : LsB E S o mo b n k x) : (gk_sd S o y).2.2.2 b = some (.inl (E.2.1 6, n, .inr (.inr (.inr (.inr x))))) := (sd_n2 (fun z => al_ob h.1.1 h.2.2.2.1 z.symm)).trans h.2.2.2.1
theorem LsB.mod {E : gk_E} {S : gk_S} {o : Nat} {mo mo2 : Int32} {b n k : Nat} {x : Nat → Option Nat} (h : LsB E S o mo b n k x) : LsB E (gk_sd S o (.inr (17, [.int mo2, .ref b, .int (nI k)]))) o mo2 b n k x := by
  refine ⟨⟨gk_sda, rd_dy (al_rb h), h.1.2.2⟩, h.2.1, h.2.2.1, al_rb h, fun i y hy => ?_⟩
  obtain ⟨h1, ci, fs, h2⟩ := h.2.2.2.2 i y hy
  by_cases hyo : y = o
  · exact ⟨h1, _, _, by rw [hyo]; exact gk_sda⟩
  · exact ⟨h1, ci, fs, (sd_n2 hyo).trans h2⟩
theorem al_nq {S : gk_S} {o q : Nat} {x : va_E} (h : (gk_sd S o x).2.2.2 q = none) : S.2.2.2 q = none := by
  by_cases hq : q = o
  · rw [hq, gk_sda] at h; cases h
  · rwa [sd_n2 hq] at h
theorem grw_lt {n : Nat} (h : n = 0 ∨ 10 ≤ n) : n < grw n := by
  unfold grw
  split <;> omega
set_option maxHeartbeats 600000 in
theorem k_J3_add_2_g {l : Launch} {E : gk_E} {S : gk_S} {i1 : Int32} {o1 v b n k ci : Nat} {mo : Int32} {x : Nat → Option Nat} {vs : List Value} (hi : i1 = nI k) (h : LsB E S o1 mo b n k x) (hv : S.2.2.2 v = some (.inr (ci, vs))) (hvo : v ≠ o1) (hrr : ∃ r9 : vw_C, gk_cl[ci]? = some r9) (hk : k = n) (h5 : n < 50000) : gk_TZ l E yJ3_add_2 cJ3_add_2 4 (none) 5 240 1 (grw n) [.ref o1, .ref v, .ref b, .int i1] S (fun r S' => r = none ∧ ∃ b2 : Nat, S.2.2.2 b2 = none ∧ E.2.2.2.1 ≤ b2 ∧ S' = gk_sd (gk_sd S b2 (.inl (E.2.1 6, grw n, .inr (.inr (.inr (.inr (va_up x k (some v)))))))) o1 (.inr (17, [.int mo, .ref b2, .int (nI (k + 1))]))) := by
  refine gk_TZ.of [some (.ref o1), some (.ref v), some (.ref b), some (.int i1)] (by decide) (Nat.le_of_ble_eq_true rfl) (fun _ _ h => h) ?_
  intro p_ e_ R_ s_ m_ args_ below_ meth_ c_ hR X hZ hr hin
  subst hR
  subst hi
  obtain ⟨⟨Cc9, T9, N9⟩, hr9⟩ := hrr
  have hgl : k < grw n := by rw [hk]; exact grw_lt (by rcases h.2.2.1 with h1 | h1; exact Or.inl h1.1; exact Or.inr h1.1)
  have hg9 : grw n < 2 ^ 31 := by unfold grw; split <;> omega
  refine g_iload_n X dJ3_add_2_0 rfl ?_
  refine g_aload_n X dJ3_add_2_1 rfl ?_
  refine g_alen (t := 6) X dJ3_add_2_2 h.1.2.1 rfl ?_
  refine g_icmp_ne (tgt := 11) X dJ3_add_2_3 rfl (fun c3 => ?_) (fun c3 => ?_)
  · exact absurd (by rw [hk]) c3
  · refine g_aload_n X dJ3_add_2_6 rfl ?_
    refine g_callVZ (C := RJ3) (T := TJ3) (N := 3) X hZ (k_J3_grow h.1 h.2.1 (h.hn hk) h5 (fun i _ y hy => (h.2.2.2.2 i y hy).2)) (lw_V q736 q738 qs20 q144 q739) hd_J3_grow dJ3_add_2_7 (rd_dy h.1.1) rfl rfl ⟨by first | omega | (dsimp only; omega), by first | omega | (dsimp only; omega)⟩ ⟨by first | omega | (dsimp only; omega), by first | omega | (dsimp only; omega)⟩ (Nat.le_of_ble_eq_true rfl) ?_
    rintro _ S1 ⟨q1, rfl, hq1, hb1, rfl⟩
    refine g_astore_n X dJ3_add_2_10 (Nat.le_of_ble_eq_true rfl) ?_
    have hoq := al_oq h.1.1 hq1
    have hvq := al_oq hv hq1
    rw [cpy_x (fun i y hy => by rw [← hk]; exact (h.2.2.2.2 i y hy).1)]
    refine g_aload_n X dJ3_add_2_11 rfl ?_
    refine g_iload_n X dJ3_add_2_12 rfl ?_
    refine g_aload_n X dJ3_add_2_13 rfl ?_
    refine g_aastd (t := 6) (ci := ci) X dJ3_add_2_14 rfl (gk_obj ci _ hr9) ((sd_n2 (Ne.symm hoq)).trans gk_sda) hb1 (rd_dy ((sd_n2 hvo).trans ((sd_n2 hvq).trans hv))) hr9 rfl hgl hg9 ?_
    refine g_aload_n X dJ3_add_2_15 rfl ?_
    refine g_iload_n X dJ3_add_2_16 rfl ?_
    refine g_iconst (v := 1) X dJ3_add_2_17 rfl ?_
    refine g_iadd X dJ3_add_2_18 ?_
    rw [show nI k + 1 = nI (k + 1) from nI_add k 1]
    refine g_putd (C := RJ3) (T := TJ3) (N := 3) X 2 in_J3 tyJ3 tyJ3_ok nmJ3 dJ3_add_2_19 (Or.inl q378) ((sd_n2 hoq).trans gk_sda) h.2.1 rfl (Nat.le_of_ble_eq_true rfl) (fun _ h9 => h9) rfl rfl rfl (Nat.le_of_ble_eq_true rfl) ?_
    exact g_vret X hr dJ3_add_2_22 (by omega) (by omega) ⟨rfl, q1, hq1, hb1, sd_4 hoq⟩
set_option maxHeartbeats 600000 in
theorem k_J3_add_f {l : Launch} {E : gk_E} {S : gk_S}  {o1 v b n k ci : Nat} {mo : Int32} {x : Nat → Option Nat} {vs : List Value} (h : LsB E S o1 mo b n k x) (hv : S.2.2.2 v = some (.inr (ci, vs))) (hvo : v ≠ o1) (hrr : ∃ r9 : vw_C, gk_cl[ci]? = some r9) (hk : k < n) : gk_T l E yJ3_add cJ3_add 2 ((some .boolean)) 2 100 0 0 [.ref o1, .ref v] S (fun r S' => r = some (.int 1) ∧ S' = gk_sd (gk_sd S b (.inl (E.2.1 6, n, .inr (.inr (.inr (.inr (va_up x k (some v)))))))) o1 (.inr (17, [.int (mo + 1), .ref b, .int (nI (k + 1))]))) := by
  refine gk_T.of [some (.ref o1), some (.ref v)] (by decide) (Nat.le_of_ble_eq_true rfl) (fun _ _ h => h) ?_
  intro p_ e_ R_ s_ m_ args_ below_ meth_ c_ hR X hr hin
  subst hR
  refine g_aload_n X dJ3_add_0 rfl ?_
  refine g_dup X dJ3_add_1 rfl ?_
  refine g_get (C := RJ3) (T := TJ3) (N := 3) X 0 in_J3 dJ3_add_2 q380 (rd_dy h.1.1) rfl (Nat.le_of_ble_eq_true rfl) (fun x9 h9 => u_same (X.2.2.2.2.1 _ q381) x9 h9) rfl ?_
  refine g_iconst (v := 1) X dJ3_add_5 rfl ?_
  refine g_iadd X dJ3_add_6 ?_
  refine g_putd (C := RJ3) (T := TJ3) (N := 3) X 0 in_J3 tyJ3 tyJ3_ok nmJ3 dJ3_add_7 (Or.inl q380) h.1.1 h.2.1 rfl (Nat.le_of_ble_eq_true rfl) (fun x9 h9 => u_same (X.2.2.2.2.1 _ q381) x9 h9) rfl rfl rfl (Nat.le_of_ble_eq_true rfl) ?_
  have hB := LsB.mod (mo2 := mo + 1) h
  refine g_aload_n X dJ3_add_10 rfl ?_
  refine g_aload_n X dJ3_add_11 rfl ?_
  refine g_aload_n X dJ3_add_12 rfl ?_
  refine g_get (C := RJ3) (T := TJ3) (N := 3) X 1 in_J3 dJ3_add_13 q377 (rd_dy hB.1.1) rfl (Nat.le_of_ble_eq_true rfl) (fun _ h9 => h9) rfl ?_
  refine g_aload_n X dJ3_add_16 rfl ?_
  refine g_get (C := RJ3) (T := TJ3) (N := 3) X 2 in_J3 dJ3_add_17 q378 (rd_dy hB.1.1) rfl (Nat.le_of_ble_eq_true rfl) (fun _ h9 => h9) rfl ?_
  refine g_callV (C := RJ3) (T := TJ3) (N := 3) X (k_J3_add_2_f rfl hB ((sd_n2 hvo).trans hv) hvo hrr hk) (lw_V q732 q734 qs19 q144 q735) hd_J3_add_2 dJ3_add_20 (rd_dy hB.1.1) rfl rfl ⟨Nat.le_of_ble_eq_true rfl, Nat.le_of_ble_eq_true rfl⟩ ⟨Nat.le_of_ble_eq_true rfl, Nat.le_of_ble_eq_true rfl⟩ (Nat.le_of_ble_eq_true rfl) ?_
  rintro _ S1 ⟨rfl, hS1⟩
  obtain rfl := hS1.symm
  refine g_iconst (v := 1) X dJ3_add_23 rfl ?_
  refine g_zret X hr dJ3_add_24 ?_ (Nat.le_of_ble_eq_true rfl) (Nat.le_of_ble_eq_true rfl) ?_
  · first | rfl | exact nb_bP
  · exact ⟨rfl, sd_3⟩
set_option maxHeartbeats 600000 in
theorem k_J3_add_g {l : Launch} {E : gk_E} {S : gk_S}  {o1 v b n k ci : Nat} {mo : Int32} {x : Nat → Option Nat} {vs : List Value} (h : LsB E S o1 mo b n k x) (hv : S.2.2.2 v = some (.inr (ci, vs))) (hvo : v ≠ o1) (hrr : ∃ r9 : vw_C, gk_cl[ci]? = some r9) (hk : k = n) (h5 : n < 50000) : gk_TZ l E yJ3_add cJ3_add 2 ((some .boolean)) 6 290 1 (grw n) [.ref o1, .ref v] S (fun r S' => r = some (.int 1) ∧ ∃ b2 : Nat, S.2.2.2 b2 = none ∧ E.2.2.2.1 ≤ b2 ∧ S' = gk_sd (gk_sd S b2 (.inl (E.2.1 6, grw n, .inr (.inr (.inr (.inr (va_up x k (some v)))))))) o1 (.inr (17, [.int (mo + 1), .ref b2, .int (nI (k + 1))]))) := by
  refine gk_TZ.of [some (.ref o1), some (.ref v)] (by decide) (Nat.le_of_ble_eq_true rfl) (fun _ _ h => h) ?_
  intro p_ e_ R_ s_ m_ args_ below_ meth_ c_ hR X hZ hr hin
  subst hR
  refine g_aload_n X dJ3_add_0 rfl ?_
  refine g_dup X dJ3_add_1 rfl ?_
  refine g_get (C := RJ3) (T := TJ3) (N := 3) X 0 in_J3 dJ3_add_2 q380 (rd_dy h.1.1) rfl (Nat.le_of_ble_eq_true rfl) (fun x9 h9 => u_same (X.2.2.2.2.1 _ q381) x9 h9) rfl ?_
  refine g_iconst (v := 1) X dJ3_add_5 rfl ?_
  refine g_iadd X dJ3_add_6 ?_
  refine g_putd (C := RJ3) (T := TJ3) (N := 3) X 0 in_J3 tyJ3 tyJ3_ok nmJ3 dJ3_add_7 (Or.inl q380) h.1.1 h.2.1 rfl (Nat.le_of_ble_eq_true rfl) (fun x9 h9 => u_same (X.2.2.2.2.1 _ q381) x9 h9) rfl rfl rfl (Nat.le_of_ble_eq_true rfl) ?_
  have hB := LsB.mod (mo2 := mo + 1) h
  refine g_aload_n X dJ3_add_10 rfl ?_
  refine g_aload_n X dJ3_add_11 rfl ?_
  refine g_aload_n X dJ3_add_12 rfl ?_
  refine g_get (C := RJ3) (T := TJ3) (N := 3) X 1 in_J3 dJ3_add_13 q377 (rd_dy hB.1.1) rfl (Nat.le_of_ble_eq_true rfl) (fun _ h9 => h9) rfl ?_
  refine g_aload_n X dJ3_add_16 rfl ?_
  refine g_get (C := RJ3) (T := TJ3) (N := 3) X 2 in_J3 dJ3_add_17 q378 (rd_dy hB.1.1) rfl (Nat.le_of_ble_eq_true rfl) (fun _ h9 => h9) rfl ?_
  refine g_callVZ (C := RJ3) (T := TJ3) (N := 3) X hZ (k_J3_add_2_g rfl hB ((sd_n2 hvo).trans hv) hvo hrr hk h5) (lw_V q732 q734 qs19 q144 q735) hd_J3_add_2 dJ3_add_20 (rd_dy hB.1.1) rfl rfl ⟨by first | omega | (dsimp only; omega), by first | omega | (dsimp only; omega)⟩ ⟨by first | omega | (dsimp only; omega), by first | omega | (dsimp only; omega)⟩ (Nat.le_of_ble_eq_true rfl) ?_
  rintro _ S1 ⟨rfl, b2, hq1, hb1, rfl⟩
  refine g_iconst (v := 1) X dJ3_add_23 rfl ?_
  refine g_zret X hr dJ3_add_24 ?_ (by omega) (by omega) ?_
  · first | rfl | exact nb_bP
  · exact ⟨rfl, b2, al_nq hq1, hb1, sd_3⟩
