set_option maxHeartbeats 600000 in
theorem k_X16_sort {l : Launch} {E : gk_E} (ho : E.2.2.2.2 = true) {S : gk_S}  {o1 : Nat} {v0 v1 v2 v3 v4 : Int32} (h : S.2.2.2 o1 = some (.inr (16, [.int v0, .int v1, .int v2, .int v3, .int v4]))) : gk_T l E yX16_sort cX16_sort 1 ((some .int)) 0 0 0 0 [.ref o1] S (fun r S' => r = some (.int v0) ∧ S' = S) := by
  refine gk_T.of [some (.ref o1)] (by decide) (Nat.le_of_ble_eq_true rfl) (fun _ _ h => h) ?_
  intro p_ e_ R_ s_ m_ args_ below_ meth_ c_ hR X hr hin
  subst hR
  refine g_aload_n X dX16_sort_0 rfl ?_
  refine g_get (C := RX16) (T := TX16) (N := 5) X 0 in_X16 dX16_sort_1 q967 (rd_dy h) rfl (Nat.le_of_ble_eq_true rfl) (fun _ h9 => h9) rfl ?_
  exact g_iret X hr dX16_sort_4 (Nat.le_of_ble_eq_true rfl) (Nat.le_of_ble_eq_true rfl) (⟨rfl, rfl⟩)
set_option maxHeartbeats 600000 in
theorem k_X16_a {l : Launch} {E : gk_E} (ho : E.2.2.2.2 = true) {S : gk_S}  {o1 : Nat} {v0 v1 v2 v3 v4 : Int32} (h : S.2.2.2 o1 = some (.inr (16, [.int v0, .int v1, .int v2, .int v3, .int v4]))) : gk_T l E yX16_a cX16_a 1 ((some .int)) 0 0 0 0 [.ref o1] S (fun r S' => r = some (.int v1) ∧ S' = S) := by
  refine gk_T.of [some (.ref o1)] (by decide) (Nat.le_of_ble_eq_true rfl) (fun _ _ h => h) ?_
  intro p_ e_ R_ s_ m_ args_ below_ meth_ c_ hR X hr hin
  subst hR
  refine g_aload_n X dX16_a_0 rfl ?_
  refine g_get (C := RX16) (T := TX16) (N := 5) X 1 in_X16 dX16_a_1 q968 (rd_dy h) rfl (Nat.le_of_ble_eq_true rfl) (fun _ h9 => h9) rfl ?_
  exact g_iret X hr dX16_a_4 (Nat.le_of_ble_eq_true rfl) (Nat.le_of_ble_eq_true rfl) (⟨rfl, rfl⟩)
set_option maxHeartbeats 600000 in
theorem k_X16_b {l : Launch} {E : gk_E} (ho : E.2.2.2.2 = true) {S : gk_S}  {o1 : Nat} {v0 v1 v2 v3 v4 : Int32} (h : S.2.2.2 o1 = some (.inr (16, [.int v0, .int v1, .int v2, .int v3, .int v4]))) : gk_T l E yX16_b cX16_b 1 ((some .int)) 0 0 0 0 [.ref o1] S (fun r S' => r = some (.int v2) ∧ S' = S) := by
  refine gk_T.of [some (.ref o1)] (by decide) (Nat.le_of_ble_eq_true rfl) (fun _ _ h => h) ?_
  intro p_ e_ R_ s_ m_ args_ below_ meth_ c_ hR X hr hin
  subst hR
  refine g_aload_n X dX16_b_0 rfl ?_
  refine g_get (C := RX16) (T := TX16) (N := 5) X 2 in_X16 dX16_b_1 q969 (rd_dy h) rfl (Nat.le_of_ble_eq_true rfl) (fun _ h9 => h9) rfl ?_
  exact g_iret X hr dX16_b_4 (Nat.le_of_ble_eq_true rfl) (Nat.le_of_ble_eq_true rfl) (⟨rfl, rfl⟩)
set_option maxHeartbeats 600000 in
theorem k_X16_c {l : Launch} {E : gk_E} (ho : E.2.2.2.2 = true) {S : gk_S}  {o1 : Nat} {v0 v1 v2 v3 v4 : Int32} (h : S.2.2.2 o1 = some (.inr (16, [.int v0, .int v1, .int v2, .int v3, .int v4]))) : gk_T l E yX16_c cX16_c 1 ((some .int)) 0 0 0 0 [.ref o1] S (fun r S' => r = some (.int v3) ∧ S' = S) := by
  refine gk_T.of [some (.ref o1)] (by decide) (Nat.le_of_ble_eq_true rfl) (fun _ _ h => h) ?_
  intro p_ e_ R_ s_ m_ args_ below_ meth_ c_ hR X hr hin
  subst hR
  refine g_aload_n X dX16_c_0 rfl ?_
  refine g_get (C := RX16) (T := TX16) (N := 5) X 3 in_X16 dX16_c_1 q970 (rd_dy h) rfl (Nat.le_of_ble_eq_true rfl) (fun _ h9 => h9) rfl ?_
  exact g_iret X hr dX16_c_4 (Nat.le_of_ble_eq_true rfl) (Nat.le_of_ble_eq_true rfl) (⟨rfl, rfl⟩)
set_option maxHeartbeats 600000 in
theorem k_X16_number {l : Launch} {E : gk_E} (ho : E.2.2.2.2 = true) {S : gk_S}  {o1 : Nat} {v0 v1 v2 v3 v4 : Int32} (h : S.2.2.2 o1 = some (.inr (16, [.int v0, .int v1, .int v2, .int v3, .int v4]))) : gk_T l E yX16_number cX16_number 1 ((some .int)) 0 0 0 0 [.ref o1] S (fun r S' => r = some (.int v4) ∧ S' = S) := by
  refine gk_T.of [some (.ref o1)] (by decide) (Nat.le_of_ble_eq_true rfl) (fun _ _ h => h) ?_
  intro p_ e_ R_ s_ m_ args_ below_ meth_ c_ hR X hr hin
  subst hR
  refine g_aload_n X dX16_number_0 rfl ?_
  refine g_get (C := RX16) (T := TX16) (N := 5) X 4 in_X16 dX16_number_1 q971 (rd_dy h) rfl (Nat.le_of_ble_eq_true rfl) (fun _ h9 => h9) rfl ?_
  exact g_iret X hr dX16_number_4 (Nat.le_of_ble_eq_true rfl) (Nat.le_of_ble_eq_true rfl) (⟨rfl, rfl⟩)
abbrev plX (i : Nat) : Prop := i = 10 ∨ i = 11 ∨ i = 12 ∨ i = 13 ∨ (20 ≤ i ∧ i < 25) ∨ (40 ≤ i ∧ i < 70) ∨ i = 301 ∨ i = 302 ∨ i = 303
/-- the component between doings -/
def PlC (E : gk_E) (ic : Nat → Nat) (S : gk_S) (a n : Nat) (g : Nat → Int32) (W : Option mnB) (A : Nat → Int32) : Prop := ∃ nf ns, EnC E ic S a n nf g W ∧ CoK S A ns ∧ ldR S A ∧ A 0 = nI nf ∧ tlA A
theorem rwR_lo {R A : Nat → Int32} {k : Nat} {v : Int32} (h : rwR true R A) (hk : k < 5 ∨ (27 ≤ k ∧ k < 1346)) : rwR true R (upd A k v) := rwR_A h (fun j hj => upd_n (by omega))
/-- other parts of the component change, the row and the steps stay -/
theorem co_oth {S S' : gk_S} {A A' : Nat → Int32} {ns : Nat} (h : CoK S A ns) (h11 : S'.1 11 = S.1 11) (h10 : S'.1 10 3 = S.1 10 3) (h40 : ∀ i, i < 30 → S'.1 (40 + i) = S.1 (40 + i)) (hA : rwM A') (hk : ∀ k, (k = 3 ∨ (5 ≤ k ∧ k < 27) ∨ 86 ≤ k) → A' k = A k) : CoK S' A' ns := by
  obtain ⟨h1, h2, h3, h4, h5, h6⟩ := h
  refine ⟨by rw [h11]; exact rwR_A h1 (fun k hk2 => hk k (by omega)), hA, h3, h10.trans h4, (hk 3 (by omega)).trans h5, fun i hi => ?_⟩
  rw [h40 i (by omega)]
  exact StR_L (h6 i hi) (fun k hk2 => hk _ (by omega))
theorem pl_farmer {E : gk_E} {ic : Nat → Nat} {S : gk_S} {a n nf ns : Nat} {g A : Nat → Int32} {W : Option mnB} {t : Int32} (he : EnC E ic S a n nf g W) (hk : CoK S A ns) (hl : ldR S A) (h0 : A 0 = nI nf) (hz : tlA A) (hP : (1 ≤ t ∧ t ≤ 9) ∧ nf ≠ 5) : PlC E ic (gk_si (gk_si S 12 (upd (S.1 12) nf t)) 10 (upd (S.1 10) 0 (nI nf + 1))) a n g W (upd (upd A (27 + nf) t) 0 (nI nf + 1)) ∧ FrC plX S (gk_si (gk_si S 12 (upd (S.1 12) nf t)) 10 (upd (S.1 10) 0 (nI nf + 1))) ∧ ∀ j, j ≠ 0 → j ≠ 3 → (gk_si (gk_si S 12 (upd (S.1 12) nf t)) 10 (upd (S.1 10) 0 (nI nf + 1))).1 10 j = S.1 10 j := by
  obtain ⟨x1, x2, x3, x4, x5, x6⟩ := he
  have hnf5 := hP.2
  have hA2 : rwM (upd (upd A (27 + nf) t) 0 (nI nf + 1)) := (hk.2.1.sm (by omega) (sm_20 (Int32.le_trans (by decide) hP.1.1) (Int32.le_trans hP.1.2 (by decide)))).lo (by decide)
  refine ⟨⟨nf + 1, ns, ⟨RU_c x1 (by rw [si_s, upd_n (by decide)]) rfl, by rw [si_s, upd_s, nI_1], by omega, x4, x5, x6⟩, co_oth hk (by rw [si_n (by decide), si_n (by decide)]) (by rw [si_s, upd_n (by decide)]) (fun i hi => by rw [si_n (by omega), si_n (by omega)]) hA2 (fun k hk2 => by rw [upd_n (by omega), upd_n (by omega)]), ?_, by rw [upd_s, nI_1], tla_u (tla_u hz (by omega)) (by omega)⟩, ?_, fun j hj _ => by rw [si_s, upd_n hj]⟩
  · obtain ⟨l1, l2, l3, l4⟩ := hl
    refine ⟨fun k hk2 => ?_, fun f hf => ?_, fun f k hf hk2 => ?_, fun f k hf hk2 => ?_⟩
    · rw [si_n (by decide), si_n (by decide), upd_n (by omega), upd_n (by omega)]
      exact l1 k hk2
    · rw [si_n (by decide), si_s, upd_n (k := 0) (by omega)]
      by_cases e : f = nf
      · rw [e, upd_s, upd_s]
      · rw [upd_n e, upd_n (by omega)]
        exact l2 f hf
    · rw [si_n (by omega), si_n (by omega), upd_n (by omega), upd_n (by omega)]
      exact l3 f k hf hk2
    · rw [upd_n (by omega), upd_n (by omega)]
      exact l4 f k hf hk2
  · exact (FrC.si (Or.inr (Or.inr (Or.inl rfl))) (by decide)).tr (FrC.si (Or.inl rfl) (by decide))
theorem want_20 {v : Int32} (h1 : 0 ≤ v) (h2 : v ≤ 20) : -99 ≤ v.toInt ∧ v.toInt ≤ 99 := by
  have := Int32.le_iff_toInt_le.mp h1
  have := Int32.le_iff_toInt_le.mp h2
  simp at *
  omega
theorem pl_soil {E : gk_E} {ic : Nat → Nat} {S : gk_S} {a n nf ns : Nat} {g A : Nat → Int32} {W : Option mnB} {k v : Int32} (he : EnC E ic S a n nf g W) (hk : CoK S A ns) (hl : ldR S A) (h0 : A 0 = nI nf) (hz : tlA A) (hP : (0 ≤ k ∧ k ≤ 4) ∧ 0 ≤ v ∧ v ≤ 20) : PlC E ic (gk_si S 13 (upd (S.1 13) (ix k) v)) a n g W (upd A (32 + ix k) v) ∧ FrC plX S (gk_si S 13 (upd (S.1 13) (ix k) v)) ∧ ∀ j, j ≠ 0 → j ≠ 3 → (gk_si S 13 (upd (S.1 13) (ix k) v)).1 10 j = S.1 10 j := by
  have hb : ix k ≤ 4 := ix_le 4 (by decide) hP.1.1 hP.1.2
  refine ⟨⟨nf, ns, he.c (by rw [si_n (by decide)]) (by rw [si_n (by decide)]) rfl, co_oth hk (by rw [si_n (by decide)]) (by rw [si_n (by decide)]) (fun i hi => by rw [si_n (by omega)]) (hk.2.1.sm (by omega) (sm_20 hP.2.1 hP.2.2)) (fun j hj => upd_n (by omega)), ?_, by rw [upd_n (by omega)]; exact h0, tla_u hz (by omega)⟩, FrC.si (Or.inr (Or.inr (Or.inr (Or.inl rfl)))) (by decide), fun j _ _ => by rw [si_n (by decide)]⟩
  obtain ⟨l1, l2, l3, l4⟩ := hl
  refine ⟨fun j hj => ?_, fun f hf => ?_, fun f j hf hj => ?_, fun f j hf hj => ?_⟩
  · rw [si_s]
    by_cases e : j = ix k
    · rw [e, upd_s, upd_s]
    · rw [upd_n e, upd_n (by omega)]
      exact l1 j hj
  · rw [si_n (by decide), upd_n (by omega)]
    exact l2 f hf
  · rw [si_n (by omega), upd_n (by omega)]
    exact l3 f j hf hj
  · rw [upd_n (by omega)]
    exact l4 f j hf hj
theorem pl_want {E : gk_E} {ic : Nat → Nat} {S : gk_S} {a n nf ns : Nat} {g A : Nat → Int32} {W : Option mnB} {f k v : Int32} (he : EnC E ic S a n nf g W) (hk : CoK S A ns) (hl : ldR S A) (h0 : A 0 = nI nf) (hz : tlA A) (hP : (0 ≤ f ∧ f ≤ 4) ∧ (0 ≤ k ∧ k ≤ 4) ∧ 0 ≤ v ∧ v ≤ 20) : PlC E ic (gk_si S (20 + ix f) (upd (S.1 (20 + ix f)) (ix k) v)) a n g W (upd A (37 + 5 * ix f + ix k) v) ∧ FrC plX S (gk_si S (20 + ix f) (upd (S.1 (20 + ix f)) (ix k) v)) ∧ ∀ j, j ≠ 0 → j ≠ 3 → (gk_si S (20 + ix f) (upd (S.1 (20 + ix f)) (ix k) v)).1 10 j = S.1 10 j := by
  have hb : ix k ≤ 4 := ix_le 4 (by decide) hP.2.1.1 hP.2.1.2
  have hf4 : ix f ≤ 4 := ix_le 4 (by decide) hP.1.1 hP.1.2
  refine ⟨⟨nf, ns, he.c (by rw [si_n (by omega)]) (by rw [si_n (by omega)]) rfl, co_oth hk (by rw [si_n (by omega)]) (by rw [si_n (by omega)]) (fun i hi => by rw [si_n (by omega)]) (hk.2.1.sm (by omega) (sm_20 hP.2.2.1 hP.2.2.2)) (fun j hj => upd_n (by omega)), ?_, by rw [upd_n (by omega)]; exact h0, tla_u hz (by omega)⟩, FrC.si (Or.inr (Or.inr (Or.inr (Or.inr (Or.inl (by omega)))))) (by omega), fun j _ _ => by rw [si_n (by omega)]⟩
  obtain ⟨l1, l2, l3, l4⟩ := hl
  refine ⟨fun j hj => ?_, fun q hq => ?_, fun q j hq hj => ?_, fun q j hq hj => ?_⟩
  · rw [si_n (by omega), upd_n (by omega)]
    exact l1 j hj
  · rw [si_n (by omega), upd_n (by omega)]
    exact l2 q hq
  · by_cases e : q = ix f
    · rw [e, si_s]
      by_cases e2 : j = ix k
      · rw [e2, upd_s, upd_s]
      · rw [upd_n e2, upd_n (by omega)]
        exact l3 _ j (by omega) hj
    · rw [si_n (by omega), upd_n (by omega)]
      exact l3 q j hq hj
  · by_cases e : 37 + 5 * q + j = 37 + 5 * ix f + ix k
    · rw [e, upd_s]
      exact want_20 hP.2.2.1 hP.2.2.2
    · rw [upd_n e]
      exact l4 q j hq hj
