theorem trC_n {g : Nat → Nat} {L : Nat} : ∀ i, (trC g L i).2 ≤ i ∧ ((trC g L i).1 ≠ 0 → 1 ≤ (trC g L i).2)
  | 0 => ⟨Nat.le_refl _, fun h => absurd rfl h⟩
  | i + 1 => by
    obtain ⟨h1, h2⟩ := trC_n (g := g) (L := L) i
    rw [trC_s]
    split
    · split
      · exact ⟨Nat.succ_le_succ h1, fun _ => Nat.succ_le_succ (Nat.zero_le _)⟩
      · exact ⟨by omega, h2⟩
    · exact ⟨by omega, h2⟩
theorem tdP {w : Nat → Nat → Int32} {nf : Nat} {W0 : Nat → Int32} (h5 : nf ≤ 5) : ∀ j, (∀ i, i < j → ¬ (tdS w nf W0 i).1 = 0) → ∃ L t W, tdI w nf W0 j L t W ∧ L + j ≤ 31 ∧ t ≤ 5 * j ∧ (1 ≤ j → 1 ≤ t)
  | 0, _ => ⟨_, _, _, tdI_0, by
      have : 2 ^ nf ≤ 2 ^ 5 := Nat.pow_le_pow_right (by decide) h5
      omega, by omega, fun h => by omega⟩
  | j + 1, h => by
    obtain ⟨L, t, W, h1, h2, h3, h4⟩ := tdP h5 j (fun i hi => h i (by omega))
    have hL : ¬ L = 0 := by
      have := h j (by omega)
      rw [h1.1] at this
      exact this
    obtain ⟨q1, q2⟩ := tdI_s h5 h1 hL
    obtain ⟨_, _, r⟩ := tr_all h5 h1.2.1 (gW_cl (w := w) (L_32 h1.2.1 h5))
    obtain ⟨n1, n2⟩ := trC_n (g := gW w L) (L := L) nf
    have := n2 (r hL)
    exact ⟨_, _, _, q1, by omega, by omega, fun _ => by omega⟩
theorem td_ne {w : Nat → Nat → Int32} {nf j : Nat} {W0 : Nat → Int32} (h5 : nf ≤ 5) (hn : 1 ≤ nf) (h : tdQ w nf W0 j) : ¬ nI (tdS w nf W0 j).2.1 = 0 := by
  obtain ⟨L, t, W, h1, h2, h3, h4⟩ := tdP h5 j h.2
  have hj : 1 ≤ j := by
    rcases Nat.eq_zero_or_pos j with z | z
    · subst z
      have e : (2 ^ nf - 1 : Nat) = 0 := h.1
      have : 2 ^ 1 ≤ 2 ^ nf := Nat.pow_le_pow_right (by decide) hn
      omega
    · exact z
  rw [h1.1]
  show ¬ nI t = 0
  intro z
  have := (nI_eq (b := 0) (show t < 2 ^ 31 by omega) (by decide)).mp z
  have := h4 hj
  omega
theorem tdQ_u {w : Nat → Nat → Int32} {nf i j : Nat} {W : Nat → Int32} (hi : tdQ w nf W i) (hj : tdQ w nf W j) : i = j := by
  rcases Nat.lt_trichotomy i j with z | z | z
  · exact absurd hi.1 (hj.2 i z)
  · exact z
  · exact absurd hj.1 (hi.2 j z)
theorem waB_0 {w : Nat → Int32} {left : Int32} : waB w left 0 = -1 := rfl
theorem waB_c {w w' : Nat → Int32} {left : Int32} {n : Nat} (hn : n ≤ 5) (h : ∀ k, k < n → w k = w' k) : waB w left n = waB w' left n := by
  induction n with
  | zero => exact waB_0.trans waB_0.symm
  | succ n ih =>
    have e := ih (by omega) (fun k hk => h k (by omega))
    have ep : waP w left n (waB w left n) ↔ waP w' left n (waB w' left n) := by
      unfold waP
      rw [← e, h n (by omega)]
      rcases waB_in (w := w) (left := left) n with z | ⟨v, v1, v2, _⟩
      · rw [z]
        exact ⟨fun y => ⟨y.1, Or.inl rfl⟩, fun y => ⟨y.1, Or.inl rfl⟩⟩
      · rw [v2, ix_n (by omega), h v (by omega)]
    by_cases c : waP w left n (waB w left n)
    · rw [← waB_t c, ← waB_t (ep.mp c)]
    · rw [← waB_f c, ← waB_f (fun z => c (ep.mpr z))]
      exact e
theorem gW_c {w w' : Nat → Nat → Int32} {nf L : Nat} (hL : L < 2 ^ nf) (hw : ∀ i, i < nf → ∀ k, k < 5 → w i k = w' i k) : gW w L = gW w' L := by
  funext p
  unfold gW
  by_cases h : L.testBit p = true
  · have hp : p < nf := by
      rcases Nat.lt_or_ge p nf with q | q
      · exact q
      · rw [Nat.testBit_lt_two_pow (Nat.lt_of_lt_of_le hL (Nat.pow_le_pow_right (by decide) q))] at h
        cases h
    rw [if_pos h, if_pos h, waB_c (by omega) (hw p hp)]
  · rw [if_neg h, if_neg h]
/-- the trading is the same, whatever stood in the arrays -/
theorem td_0 {w : Nat → Nat → Int32} {nf : Nat} {W : Nat → Int32} : tdS w nf W 0 = (2 ^ nf - 1, 0, W) := rfl
theorem td_c {w w' : Nat → Nat → Int32} {nf : Nat} {W0 W1 : Nat → Int32} (h5 : nf ≤ 5) (hw : ∀ i, i < nf → ∀ k, k < 5 → w i k = w' i k) (j : Nat) (h : ∀ i, i < j → ¬ (tdS w nf W0 i).1 = 0) : (tdS w nf W0 j).1 = (tdS w' nf W1 j).1 ∧ (tdS w nf W0 j).2.1 = (tdS w' nf W1 j).2.1 ∧ ∀ f, f < nf → (tdS w nf W0 j).1.testBit f = false → (tdS w nf W0 j).2.2 f = (tdS w' nf W1 j).2.2 f := by
  induction j with
  | zero =>
    rw [td_0, td_0]
    refine ⟨rfl, rfl, fun f hf hb => ?_⟩
    have hb2 : (2 ^ nf - 1).testBit f = false := hb
    rw [Nat.testBit_two_pow_sub_one, decide_eq_true hf] at hb2
    cases hb2
  | succ j ih =>
    obtain ⟨a, b, c⟩ := ih (fun i hi => h i (by omega))
    obtain ⟨L, t, W, h1, -⟩ := tdP (w := w) (W0 := W0) h5 j (fun i hi => h i (by omega))
    rw [h1.1] at a b c
    have e : tdS w' nf W1 j = (L, t, (tdS w' nf W1 j).2.2) := Prod.ext a.symm (Prod.ext b.symm rfl)
    rw [tdS_s h1.1, tdS_s e, gW_c h1.2.1 hw]
    refine ⟨rfl, rfl, fun f hf hb => ?_⟩
    show (if f < nf ∧ _ then _ else _) = (if f < nf ∧ _ then _ else _)
    by_cases z : f < nf ∧ (trC (gW w' L) L nf).1.testBit f = true
    · rw [if_pos z, if_pos z]
    · rw [if_neg z, if_neg z]
      refine c f hf ?_
      have hz : (trC (gW w' L) L nf).1.testBit f = false := (Bool.not_eq_true _).mp (fun y => z ⟨hf, y⟩)
      have hb2 : (L &&& (31 ^^^ (trC (gW w' L) L nf).1)).testBit f = false := hb
      rw [Nat.testBit_and, Nat.testBit_xor, hz, Bool.xor_false, show (31 : Nat) = 2 ^ 5 - 1 from rfl, Nat.testBit_two_pow_sub_one, decide_eq_true (by omega), Bool.and_true] at hb2
      exact hb2
theorem tdQ_c {w w' : Nat → Nat → Int32} {nf i j : Nat} {W0 W1 : Nat → Int32} (h5 : nf ≤ 5) (hw : ∀ i, i < nf → ∀ k, k < 5 → w i k = w' i k) (hi : tdQ w nf W0 i) (hj : tdQ w' nf W1 j) : (tdS w nf W0 i).2.1 = (tdS w' nf W1 j).2.1 ∧ ∀ f, f < nf → (tdS w nf W0 i).2.2 f = (tdS w' nf W1 j).2.2 f := by
  have hi2 : tdQ w' nf W1 i := by
    refine ⟨by rw [← (td_c h5 hw i hi.2).1]; exact hi.1, fun k hk => ?_⟩
    rw [← (td_c (W0 := W0) h5 hw k (fun m hm => hi.2 m (by omega))).1]
    exact hi.2 k hk
  have e := tdQ_u hi2 hj
  subst e
  obtain ⟨a, b, c⟩ := td_c (W1 := W1) h5 hw i hi.2
  exact ⟨b, fun f hf => c f hf (by rw [hi.1]; exact Nat.zero_testBit f)⟩
set_option maxHeartbeats 600000 in
theorem k_X2_rings {l : Launch} {E : gk_E} (ho : E.2.2.2.2 = true) {S : gk_S}  {nf : Nat} (h0 : S.1 400 0 = nI nf) (h1 : nf ≤ 5) : gk_T l E yX2_rings cX2_rings 1 ((some .int)) 3 69 0 0 [.ref (E.2.2.1 3)] S (fun r S' => ∃ j P, tdQ (wM S) nf (S.1 412) j ∧ r = some (.int (nI (tdS (wM S) nf (S.1 412) j).2.1)) ∧ S' = gk_si (gk_si S 413 P) 412 (tdS (wM S) nf (S.1 412) j).2.2) := by
  refine gk_T.of [some (.ref (E.2.2.1 3))] (by decide) (Nat.le_of_ble_eq_true rfl) (fun _ _ h => h) ?_
  intro p_ e_ R_ s_ m_ args_ below_ meth_ c_ hR X hr hin
  subst hR
  refine g_aload_n X dX2_rings_0 rfl ?_
  refine g_callV (C := RX2) (T := TX2) (N := 35) X (k_X2_layTraded ho h0 h1) (lw_V q2026 q2028 qs125 q139 q2029) hd_X2_layTraded dX2_rings_1 (rd3 ho) rfl rfl ⟨Nat.le_of_ble_eq_true rfl, Nat.le_of_ble_eq_true rfl⟩ ⟨Nat.le_of_ble_eq_true rfl, Nat.le_of_ble_eq_true rfl⟩ (Nat.le_of_ble_eq_true rfl) ?_
  rintro _ S1 ⟨j1, P1, hj1, rfl, hS1⟩
  obtain rfl := hS1.symm
  exact g_iret X hr dX2_rings_4 (Nat.le_of_ble_eq_true rfl) (Nat.le_of_ble_eq_true rfl) (⟨j1, P1, hj1, rfl, rfl⟩)
set_option maxHeartbeats 600000 in
theorem k_X2_trade {l : Launch} {E : gk_E} (ho : E.2.2.2.2 = true) {S : gk_S} {x : Int32} {nf : Nat} (h0 : S.1 400 0 = nI nf) (h1 : nf ≤ 5) : gk_T l E yX2_trade cX2_trade 2 ((some .int)) 3 69 0 0 [.ref (E.2.2.1 3), .int x] S (fun r S' => if 0 ≤ x ∧ x ≤ nI nf - 1 then ∃ j P, tdQ (wM S) nf (S.1 412) j ∧ r = some (.int ((tdS (wM S) nf (S.1 412) j).2.2 (ix x))) ∧ S' = gk_si (gk_si S 413 P) 412 (tdS (wM S) nf (S.1 412) j).2.2 else r = some (.int (-1)) ∧ S' = S) := by
  refine gk_T.of [some (.ref (E.2.2.1 3)), some (.int x)] (by decide) (Nat.le_of_ble_eq_true rfl) (fun _ _ h => h) ?_
  intro p_ e_ R_ s_ m_ args_ below_ meth_ c_ hR X hr hin
  subst hR
  refine g_aload_n X dX2_trade_0 rfl ?_
  refine g_iload_n X dX2_trade_1 rfl ?_
  refine g_callV (C := RX2) (T := TX2) (N := 35) X (k_X2_isFarmer ho) (lw_V q1871 q1873 qs116 q139 q1874) hd_X2_isFarmer dX2_trade_2 (rd3 ho) rfl rfl ⟨Nat.le_of_ble_eq_true rfl, Nat.le_of_ble_eq_true rfl⟩ ⟨Nat.le_of_ble_eq_true rfl, Nat.le_of_ble_eq_true rfl⟩ (Nat.le_of_ble_eq_true rfl) ?_
  rintro _ S1 ⟨rfl, hS1⟩
  obtain rfl := hS1.symm
  refine g_ifp_eq (tgt := 15) X dX2_trade_5 rfl (fun c5 => ?_) (fun c5 => ?_)
  · 
    refine g_iconst (v := (-1)) X dX2_trade_15 rfl ?_
    exact g_iret X hr dX2_trade_16 (Nat.le_of_ble_eq_true rfl) (Nat.le_of_ble_eq_true rfl) ((by rw [h0] at c5; rw [if_neg c5]; exact ⟨rfl, rfl⟩))
  · rw [h0] at c5
    have hx : ix x < nf := cl_lt (by omega) c5
    refine g_aload_n X dX2_trade_8 rfl ?_
    refine g_callV (C := RX2) (T := TX2) (N := 35) X (k_X2_layTraded ho h0 h1) (lw_V q2026 q2028 qs125 q139 q2029) hd_X2_layTraded dX2_trade_9 (rd3 ho) rfl rfl ⟨Nat.le_of_ble_eq_true rfl, Nat.le_of_ble_eq_true rfl⟩ ⟨Nat.le_of_ble_eq_true rfl, Nat.le_of_ble_eq_true rfl⟩ (Nat.le_of_ble_eq_true rfl) ?_
    rintro _ S1 ⟨j1, P1, hj1, rfl, hS1⟩
    obtain rfl := hS1.symm
    refine g_if_ne (tgt := 17) X dX2_trade_12 rfl (fun c12 => ?_) (fun c12 => ?_)
    · refine g_aload_n X dX2_trade_17 rfl ?_
      refine g_get (C := RX2) (T := TX2) (N := 35) X 31 in_X2 dX2_trade_18 q1436 (rd3 ho) rfl (Nat.le_of_ble_eq_true rfl) (fun _ h9 => h9) rfl ?_
      refine g_iload_n X dX2_trade_21 rfl ?_
      refine g_iald (j := ix x) X dX2_trade_22 (rdi ho (412) (rfl)) (ix_i c5.1) (by omega) (by decide) ?_
      exact g_iret X hr dX2_trade_23 (Nat.le_of_ble_eq_true rfl) (Nat.le_of_ble_eq_true rfl) ((by rw [if_pos c5]; exact ⟨j1, P1, hj1, by rw [si_s], rfl⟩))
    · skip
      refine g_iconst (v := (-1)) X dX2_trade_15 rfl ?_
      exact g_iret X hr dX2_trade_16 (Nat.le_of_ble_eq_true rfl) (Nat.le_of_ble_eq_true rfl) ((absurd c12 (td_ne h1 (by omega) hj1)))
