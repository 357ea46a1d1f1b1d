/-- an ArrayList of ours that only grew -/
def LsB (E : gk_E) (S : gk_S) (o : Nat) (mo : Int32) (b n k : Nat) (x : Nat → Option Nat) : Prop := LsA E S o mo b n k x ∧ E.2.2.2.1 ≤ o ∧ ((n = 0 ∧ b = E.2.2.1 903 ∧ k = 0) ∨ (10 ≤ n ∧ E.2.2.2.1 ≤ b ∧ S.2.2.2 b = some (.inl (E.2.1 6, n, .inr (.inr (.inr (.inr x))))))) ∧ (∀ i y, x i = some y → i < k ∧ ∃ ci fs, S.2.2.2 y = some (.inr (ci, fs)))
theorem al_ne {k n : Nat} (h : k < n) (hn : n < 100000) : ¬ nI k = nI n := by
  intro z
  have h1 : (nI k).toInt = (nI n).toInt := by rw [z]
  rw [nI_toInt (by omega), nI_toInt (by omega)] at h1
  omega
theorem cpy_x {x : Nat → Option Nat} {n : Nat} (h : ∀ i y, x i = some y → i < n) : va_cpy x (fun _ => none) 0 0 n = x := by
  funext j
  unfold va_cpy
  split
  · congr 1; omega
  · cases hx : x j with
    | none => rfl
    | some y => have := h j y hx; omega
theorem al_ob {S : gk_S} {o b : Nat} {x : Nat × List Value} {y : ClassId × vp_A} (h : S.2.2.2 o = some (.inr x)) (hb : S.2.2.2 b = some (.inl y)) : o ≠ b := fun z => by rw [z, hb] at h; cases h
theorem al_b {E : gk_E} {S : gk_S} {o : Nat} {mo : Int32} {b n k : Nat} {x : Nat → Option Nat} (h : LsB E S o mo b n k x) (hk : k < n) : E.2.2.2.1 ≤ b ∧ S.2.2.2 b = some (.inl (E.2.1 6, n, .inr (.inr (.inr (.inr x))))) := by
  rcases h.2.2.1 with h1 | h1
  · omega
  · exact h1.2
theorem sd_n2 {S : gk_S} {q y : Nat} {x : va_E} (h : y ≠ q) : (gk_sd S q x).2.2.2 y = S.2.2.2 y := by simp [gk_sd, va_up, h]
set_option maxHeartbeats 600000 in
theorem k_J3_add_2_f {l : Launch} {E : gk_E} {S : gk_S} {i1 : Int32} {o1 v b n k ci : Nat} {mo : Int32} {x : Nat → Option Nat} {vs : List Value} (hi : i1 = nI k) (h : LsB E S o1 mo b n k x) (hv : gk_Rd E S v (.inr (ci, vs))) (hrr : ∃ r9 : vw_C, gk_cl[ci]? = some r9) (hk : k < n) : gk_T l E yJ3_add_2 cJ3_add_2 4 (none) 1 60 0 0 [.ref o1, .ref v, .ref b, .int i1] S (fun r S' => r = none ∧ S' = gk_sd (gk_sd S b (.inl (E.2.1 6, n, .inr (.inr (.inr (.inr (va_up x k (some v)))))))) o1 (.inr (17, [.int mo, .ref b, .int (nI (k + 1))]))) := by
  refine gk_T.of [some (.ref o1), some (.ref v), some (.ref b), some (.int i1)] (by decide) (Nat.le_of_ble_eq_true rfl) (fun _ _ h => h) ?_
  intro p_ e_ R_ s_ m_ args_ below_ meth_ c_ hR X hr hin
  subst hR
  subst hi
  obtain ⟨hb1, hb2⟩ := al_b h hk
  have hn5 := h.1.2.2.2
  obtain ⟨⟨Cc9, T9, N9⟩, hr9⟩ := hrr
  refine g_iload_n X dJ3_add_2_0 rfl ?_
  refine g_aload_n X dJ3_add_2_1 rfl ?_
  refine g_alen (t := 6) X dJ3_add_2_2 h.1.2.1 rfl ?_
  refine g_icmp_ne (tgt := 11) X dJ3_add_2_3 rfl (fun c3 => ?_) (fun c3 => ?_)
  · refine g_aload_n X dJ3_add_2_11 rfl ?_
    refine g_iload_n X dJ3_add_2_12 rfl ?_
    refine g_aload_n X dJ3_add_2_13 rfl ?_
    refine g_aastd (t := 6) (ci := ci) X dJ3_add_2_14 rfl (gk_obj ci _ hr9) hb2 hb1 hv hr9 rfl hk (by omega) ?_
    refine g_aload_n X dJ3_add_2_15 rfl ?_
    refine g_iload_n X dJ3_add_2_16 rfl ?_
    refine g_iconst (v := 1) X dJ3_add_2_17 rfl ?_
    refine g_iadd X dJ3_add_2_18 ?_
    rw [show nI k + 1 = nI (k + 1) from nI_add k 1]
    refine g_putd (C := RJ3) (T := TJ3) (N := 3) X 2 in_J3 tyJ3 tyJ3_ok nmJ3 dJ3_add_2_19 (Or.inl q378) ((sd_n2 (al_ob h.1.1 hb2)).trans h.1.1) h.2.1 rfl (Nat.le_of_ble_eq_true rfl) (fun _ h9 => h9) rfl rfl rfl (Nat.le_of_ble_eq_true rfl) ?_
    exact g_vret X hr dJ3_add_2_22 (Nat.le_of_ble_eq_true rfl) (Nat.le_of_ble_eq_true rfl) (⟨rfl, rfl⟩)
  · exact absurd c3 (al_ne hk h.1.2.2.2)

