def pkG (f : Nat → Nat) : Nat → Nat → Nat
  | 0, a => a
  | k + 1, a => pkG f k (a * 8 + f k)
/-- what is asked of the next ones: they stay in L -/
def gCl (L : Nat) (g : Nat → Nat) : Prop := ∀ p, (L.testBit p = true → g p < 5 ∧ L.testBit (g p) = true) ∧ (L.testBit p = false → g p = 0)
theorem allG_P {L : Nat} {P : Nat → Bool} {g : Nat → Nat} (hg : gCl L g) : ∀ {k a : Nat}, allG L P k a = true → P (pkG g k a) = true
  | 0, _, h => h
  | k + 1, a, h => by
    cases hb : L.testBit k with
    | true =>
      have h' : (if L.testBit k = true then (List.range 5).all (fun v => !L.testBit v || allG L P k (a * 8 + v)) else allG L P k (a * 8)) = true := h
      rw [if_pos hb] at h'
      have := List.all_eq_true.mp h' (g k) (List.mem_range.mpr ((hg k).1 hb).1)
      rw [((hg k).1 hb).2, Bool.not_true, Bool.false_or] at this
      exact allG_P (k := k) hg this
    | false =>
      have h' : (if L.testBit k = true then (List.range 5).all (fun v => !L.testBit v || allG L P k (a * 8 + v)) else allG L P k (a * 8)) = true := h
      rw [if_neg (by rw [hb]; decide)] at h'
      have := allG_P (k := k) hg h'
      show P (pkG g k (a * 8 + g k)) = true
      rw [(hg k).2 hb]
      exact this
theorem gCl_8 {L : Nat} {g : Nat → Nat} (hg : gCl L g) (p : Nat) : g p < 5 := by
  cases hb : L.testBit p with
  | true => exact ((hg p).1 hb).1
  | false => rw [(hg p).2 hb]; decide
theorem gOf_pk {L : Nat} {g : Nat → Nat} (hL : L < 32) (hg : gCl L g) : gOf (pkG g 5 0) = g := by
  funext p
  have e : pkG g 5 0 = ((((0 * 8 + g 4) * 8 + g 3) * 8 + g 2) * 8 + g 1) * 8 + g 0 := rfl
  have h0 := gCl_8 hg 0
  have h1 := gCl_8 hg 1
  have h2 := gCl_8 hg 2
  have h3 := gCl_8 hg 3
  have h4 := gCl_8 hg 4
  unfold gOf
  rcases Nat.lt_or_ge p 5 with q | q
  · rcases (show p = 0 ∨ p = 1 ∨ p = 2 ∨ p = 3 ∨ p = 4 by omega) with rfl | rfl | rfl | rfl | rfl
    · show pkG g 5 0 / 1 % 8 = _
      omega
    · show pkG g 5 0 / 8 % 8 = _
      omega
    · show pkG g 5 0 / 64 % 8 = _
      omega
    · show pkG g 5 0 / 512 % 8 = _
      omega
    · show pkG g 5 0 / 4096 % 8 = _
      omega
  · have hz : L.testBit p = false := Nat.testBit_lt_two_pow (Nat.lt_of_lt_of_le hL (show 2 ^ 5 ≤ 2 ^ p from Nat.pow_le_pow_right (by decide) q))
    rw [(hg p).2 hz]
    have z : pkG g 5 0 < 8 ^ p := Nat.lt_of_lt_of_le (show pkG g 5 0 < 8 ^ 5 by
      rw [e]
      show _ < 32768
      omega) (Nat.pow_le_pow_right (by decide) q)
    rw [Nat.div_eq_of_lt z]
theorem tr_all {nf L : Nat} {g : Nat → Nat} (h5 : nf ≤ 5) (hL : L < 2 ^ nf) (hg : gCl L g) : trC g L nf = trM g L nf nf ∧ (trC g L nf).1 &&& L = (trC g L nf).1 ∧ (L ≠ 0 → (trC g L nf).1 ≠ 0) := by
  have hL5 : L < 32 := Nat.lt_of_lt_of_le hL (show 2 ^ nf ≤ 2 ^ 5 from Nat.pow_le_pow_right (by decide) h5)
  have key : allG L (trK nf L) 5 0 = true := by
    rcases (show nf < 4 ∨ nf = 4 ∨ nf = 5 by omega) with q | rfl | rfl
    · exact List.all_eq_true.mp (List.all_eq_true.mp tr_3 nf (List.mem_range.mpr q)) L (List.mem_range.mpr hL)
    · exact List.all_eq_true.mp tr_4 L (List.mem_range.mpr hL)
    · exact List.all_eq_true.mp tr_5 L (List.mem_range.mpr hL)
  have k2 := allG_P hg key
  unfold trK at k2
  rw [gOf_pk hL5 hg] at k2
  dsimp only at k2
  rw [Bool.and_eq_true, Bool.and_eq_true, Bool.and_eq_true] at k2
  obtain ⟨⟨⟨a, b⟩, c⟩, d⟩ := k2
  refine ⟨Prod.ext (Nat.eq_of_beq_eq_true a) (Nat.eq_of_beq_eq_true b), Nat.eq_of_beq_eq_true c, fun hz hy => ?_⟩
  rcases Bool.or_eq_true_iff.mp d with z | z
  · exact hz (Nat.eq_of_beq_eq_true z)
  · rw [hy] at z
    exact absurd z (by decide)
/-- whom a farmer of those left wants -/
def gW (w : Nat → Nat → Int32) (L p : Nat) : Nat := if L.testBit p = true then ix (waB (w p) (nI L) 5) else 0
theorem waB_g {w : Nat → Nat → Int32} {L p : Nat} (hL : L < 32) (hp : L.testBit p = true) : waB (w p) (nI L) 5 = nI (gW w L p) ∧ gW w L p < 5 ∧ L.testBit (gW w L p) = true := by
  have hp5 := tb_5 hL hp
  rcases waB_in (w := w p) (left := nI L) 5 with z | ⟨v, v1, v2, v3⟩
  · exact absurd z (waB_ne ((hs_tb L hL p hp5).mpr hp) 5 (by decide) hp5)
  · have e : gW w L p = v := by
      unfold gW
      rw [if_pos hp, v2, ix_n (by omega)]
    rw [e]
    exact ⟨v2, v1, (hs_tb L hL v v1).mp v3⟩
theorem gW_cl {w : Nat → Nat → Int32} {L : Nat} (hL : L < 32) : gCl L (gW w L) := fun p => ⟨fun h => (waB_g hL h).2, fun h => if_neg (by rw [h]; decide)⟩
theorem rcS_s {g : Nat → Nat} {j i : Nat} : rcS g (j + 1) i = if (rcS g j i).1.testBit (rcS g j i).2 = true then rcS g j i else ((rcS g j i).1 ||| 2 ^ (rcS g j i).2, g (rcS g j i).2) := rfl
theorem rcS_st {g : Nat → Nat} {j i : Nat} (h : (rcS g j i).1.testBit (rcS g j i).2 = true) : ∀ e, rcS g (j + e) i = rcS g j i
  | 0 => rfl
  | e + 1 => by
    show rcS g (j + e + 1) i = _
    rw [rcS_s, rcS_st h e, if_pos h]
theorem itg_s {g : Nat → Nat} {j i : Nat} : itg g (j + 1) i = g (itg g j i) := rfl
theorem bc_5 : ∀ r, r < 32 → bcN r ≤ 5 := by decide +kernel
theorem bc_n : (List.range 32).all (fun r => (List.range 5).all (fun p => r.testBit p || Nat.beq (bcN (r ||| 2 ^ p)) (bcN r + 1))) = true := by decide +kernel
theorem bc_s {r p : Nat} (hr : r < 32) (hp : p < 5) (h : ¬ r.testBit p = true) : bcN (r ||| 2 ^ p) = bcN r + 1 ∧ r ||| 2 ^ p < 32 := by
  have := List.all_eq_true.mp (List.all_eq_true.mp bc_n r (List.mem_range.mpr hr)) p (List.mem_range.mpr hp)
  rcases Bool.or_eq_true_iff.mp this with z | z
  · exact absurd z h
  · exact ⟨Nat.eq_of_beq_eq_true z, Nat.or_lt_two_pow (n := 5) hr (Nat.pow_lt_pow_right (m := p) (n := 5) (by decide) hp)⟩
set_option maxHeartbeats 600000 in
theorem k_X0_ringOf {l : Launch} {E : gk_E} (ho : E.2.2.2.2 = true) {S : gk_S} {x : Int32} {L i : Nat} (hx : x = nI i) (hL : L < 32) (hi : L.testBit i = true) : gk_T l E yX0_ringOf cX0_ringOf 6 ((some .int)) 2 45 0 0 [.ref (E.2.2.1 0), .int x, .int (nI L)] S (fun r S' => r = some (.int (nI (rgC (gW (fun d => S.1 (20 + d)) L) i))) ∧ S' = S) := by
  refine gk_T.of [some (.ref (E.2.2.1 0)), some (.int x), some (.int (nI L)), none, none, none] (by decide) (Nat.le_of_ble_eq_true rfl) (le_1 rfl (le_1 rfl (le_1 rfl (le_p (le_p (le_p le_n)))))) ?_
  intro p_ e_ R_ s_ m_ args_ below_ meth_ c_ hR X hr hin
  subst hR
  refine g_iconst (v := 0) X dX0_ringOf_0 rfl ?_
  refine g_istore_n X dX0_ringOf_1 (Nat.le_of_ble_eq_true rfl) ?_
  refine g_iload_n X dX0_ringOf_2 rfl ?_
  refine g_istore X dX0_ringOf_3 (Nat.le_of_ble_eq_true rfl) ?_
  refine g_iconst (v := 0) X dX0_ringOf_5 rfl ?_
  refine g_istore X dX0_ringOf_6 (Nat.le_of_ble_eq_true rfl) ?_
  refine g_loop (σ := Nat) (fun (k : Nat) => S) (fun (k : Nat) => ([some (.ref (E.2.2.1 0)), some (.int x), some (.int (nI L)), some (.int (nI 0)), some (.int (nI (itg (gW (fun d => S.1 (20 + d)) L) k i))), some (.int (nI k))] : List (Option Value))) (fun (k : Nat) => k ≤ 5 ∧ L.testBit (itg (gW (fun d => S.1 (20 + d)) L) k i) = true) (fun (k : Nat) => 5 - k) (0) ?_ (rfl) (le_1 rfl (le_1 rfl (le_1 rfl (le_1 rfl (le_1 (ei hx) (le_1 rfl le_n)))))) ?_
  · exact ⟨by omega, hi⟩
  intro k hI ih
  try dsimp only at hI ih ⊢
  refine g_iload X dX0_ringOf_8 rfl ?_
  refine g_iconst (v := 5) X dX0_ringOf_10 rfl ?_
  refine g_icmp_ge (tgt := 29) X dX0_ringOf_11 rfl (fun c11 => ?_) (fun c11 => ?_)
  · have hk := out_of (by omega) hI.1 c11
    subst hk
    refine g_loop (σ := Nat) (fun (j : Nat) => S) (fun (j : Nat) => ([some (.ref (E.2.2.1 0)), some (.int x), some (.int (nI L)), some (.int (nI (rcS (gW (fun d => S.1 (20 + d)) L) j (itg (gW (fun d => S.1 (20 + d)) L) 5 i)).1)), some (.int (nI (rcS (gW (fun d => S.1 (20 + d)) L) j (itg (gW (fun d => S.1 (20 + d)) L) 5 i)).2)), some (.int (nI 5))] : List (Option Value))) (fun (j : Nat) => j ≤ 5 ∧ (rcS (gW (fun d => S.1 (20 + d)) L) j (itg (gW (fun d => S.1 (20 + d)) L) 5 i)).1 < 32 ∧ bcN (rcS (gW (fun d => S.1 (20 + d)) L) j (itg (gW (fun d => S.1 (20 + d)) L) 5 i)).1 = j ∧ L.testBit (rcS (gW (fun d => S.1 (20 + d)) L) j (itg (gW (fun d => S.1 (20 + d)) L) 5 i)).2 = true) (fun (j : Nat) => 5 - j) (0) ?_ (rfl) (le_1 rfl (le_1 rfl (le_1 rfl (le_1 rfl (le_1 rfl (le_1 rfl le_n)))))) ?_
    · exact ⟨by omega, by show 0 < 32; decide, by show bcN 0 = 0; decide, hI.2⟩
    intro j hI2 ih2
    try dsimp only at hI2 ih2 ⊢
    have hp5 := tb_5 hL hI2.2.2.2
    refine g_iload_n X dX0_ringOf_29 rfl ?_
    refine g_iload X dX0_ringOf_30 rfl ?_
    refine g_callS X (k_X0_has ho) (lw_S q1028 q1029 q135 q1030) hd_X0_has dX0_ringOf_32 rfl ⟨Nat.le_of_ble_eq_true rfl, Nat.le_of_ble_eq_true rfl⟩ ⟨Nat.le_of_ble_eq_true rfl, Nat.le_of_ble_eq_true rfl⟩ (Nat.le_of_ble_eq_true rfl) ?_
    rintro _ S1 ⟨rfl, hS1⟩
    obtain rfl := hS1.symm
    refine g_ifp_ne (tgt := 57) X dX0_ringOf_35 rfl (fun c35 => ?_) (fun c35 => ?_)
    · have e5 : rgC (gW (fun d => S.1 (20 + d)) L) i = (rcS (gW (fun d => S.1 (20 + d)) L) j (itg (gW (fun d => S.1 (20 + d)) L) 5 i)).1 := by
        unfold rgC
        have z := rcS_st ((hs_tb _ hI2.2.1 _ hp5).mp c35) (5 - j)
        rw [show j + (5 - j) = 5 by omega] at z
        rw [z]
      refine g_iload_n X dX0_ringOf_57 rfl ?_
      exact g_iret X hr dX0_ringOf_58 (Nat.le_of_ble_eq_true rfl) (Nat.le_of_ble_eq_true rfl) (⟨by rw [e5], rfl⟩)
    · have hnb := fun z => c35 ((hs_tb _ hI2.2.1 _ hp5).mpr z)
      have hsb := bc_s hI2.2.1 hp5 hnb
      refine g_iload_n X dX0_ringOf_38 rfl ?_
      refine g_iconst (v := 1) X dX0_ringOf_39 rfl ?_
      refine g_iload X dX0_ringOf_40 rfl ?_
      refine g_ishl X dX0_ringOf_42 ?_
      refine g_ior X dX0_ringOf_43 ?_
      refine g_istore_n X dX0_ringOf_44 (Nat.le_of_ble_eq_true rfl) ?_
      refine g_aload_n X dX0_ringOf_45 rfl ?_
      refine g_iload X dX0_ringOf_46 rfl ?_
      refine g_iload_n X dX0_ringOf_48 rfl ?_
      refine g_callV (C := RX0) (T := TX0) (N := 13) X (k_X0_wantedOf ho (i := (rcS (gW (fun d => S.1 (20 + d)) L) j (itg (gW (fun d => S.1 (20 + d)) L) 5 i)).2) rfl hp5) (lw_V q1289 q1291 qs50 q135 q1292) hd_X0_wantedOf dX0_ringOf_49 (rd0 ho) rfl rfl ⟨Nat.le_of_ble_eq_true rfl, Nat.le_of_ble_eq_true rfl⟩ ⟨Nat.le_of_ble_eq_true rfl, Nat.le_of_ble_eq_true rfl⟩ (Nat.le_of_ble_eq_true rfl) ?_
      rintro _ S1 ⟨rfl, hS1⟩
      obtain rfl := hS1.symm
      refine g_top (waB_g (w := (fun d => S.1 (20 + d))) hL hI2.2.2.2).1 ?_
      refine g_istore X dX0_ringOf_52 (Nat.le_of_ble_eq_true rfl) ?_
      refine g_goto (tgt := 29) X dX0_ringOf_54 rfl ?_
      skip
      refine g_sub (le_1 rfl (le_1 rfl (le_1 rfl (le_1 (ei (by rw [wh_or _ hI2.2.1 _ hp5, rcS_s, if_neg hnb])) (le_1 (ei (by rw [rcS_s, if_neg hnb])) (le_1 rfl le_n)))))) (ih2 (j + 1) ?_ ?_)
      · try dsimp only
        exact ⟨by have := bc_5 _ hsb.2; omega, by rw [rcS_s, if_neg hnb]; exact hsb.2, by rw [rcS_s, if_neg hnb]; exact hsb.1.trans (by rw [hI2.2.2.1]), by show L.testBit (rcS (gW (fun d => S.1 (20 + d)) L) (j + 1) (itg (gW (fun d => S.1 (20 + d)) L) 5 i)).2 = true; rw [rcS_s, if_neg hnb]; exact (waB_g (w := (fun d => S.1 (20 + d))) hL hI2.2.2.2).2.2⟩
      · try dsimp only
        have := bc_5 _ hsb.2
        have := hI2.2.2.1
        omega
  · have hk : k < 5 := in_of (by omega) hI.1 c11
    have hp5 := tb_5 hL hI.2
    refine g_aload_n X dX0_ringOf_14 rfl ?_
    refine g_iload X dX0_ringOf_15 rfl ?_
    refine g_iload_n X dX0_ringOf_17 rfl ?_
    refine g_callV (C := RX0) (T := TX0) (N := 13) X (k_X0_wantedOf ho (i := (itg (gW (fun d => S.1 (20 + d)) L) k i)) rfl hp5) (lw_V q1289 q1291 qs50 q135 q1292) hd_X0_wantedOf dX0_ringOf_18 (rd0 ho) rfl rfl ⟨Nat.le_of_ble_eq_true rfl, Nat.le_of_ble_eq_true rfl⟩ ⟨Nat.le_of_ble_eq_true rfl, Nat.le_of_ble_eq_true rfl⟩ (Nat.le_of_ble_eq_true rfl) ?_
    rintro _ S1 ⟨rfl, hS1⟩
    obtain rfl := hS1.symm
    refine g_top (waB_g (w := (fun d => S.1 (20 + d))) hL hI.2).1 ?_
    refine g_istore X dX0_ringOf_21 (Nat.le_of_ble_eq_true rfl) ?_
    refine g_iinc (v := 1) X dX0_ringOf_23 rfl rfl (Nat.le_of_ble_eq_true rfl) ?_
    refine g_goto (tgt := 8) X dX0_ringOf_26 rfl ?_
    refine g_sub (le_1 rfl (le_1 rfl (le_1 rfl (le_1 rfl (le_1 rfl (le_1 e_1 le_n)))))) (ih (k + 1) ?_ ?_)
    · try dsimp only
      exact ⟨by omega, by rw [itg_s]; exact (waB_g (w := (fun d => S.1 (20 + d))) hL hI.2).2.2⟩
    · try dsimp only
      omega
