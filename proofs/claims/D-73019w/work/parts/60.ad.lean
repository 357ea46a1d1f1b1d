theorem waB_x {w : Nat → Int32} {L nf : Nat} (hL : L < 2 ^ nf) (h5 : nf ≤ 5) : ∀ e, nf + e ≤ 5 → waB w (nI L) (nf + e) = waB w (nI L) nf
  | 0, _ => rfl
  | e + 1, h => by
    have hL5 : L < 32 := Nat.lt_of_lt_of_le hL (show 2 ^ nf ≤ 2 ^ 5 from Nat.pow_le_pow_right (by decide) h5)
    show waB w (nI L) (nf + e + 1) = _
    rw [← waB_f (fun z => by
      have hb := (hs_tb L hL5 (nf + e) (by omega)).mp z.1
      rw [Nat.testBit_lt_two_pow (Nat.lt_of_lt_of_le hL (Nat.pow_le_pow_right (by decide) (by omega)))] at hb
      cases hb)]
    exact waB_x hL h5 e (by omega)
theorem waB_5x {w : Nat → Int32} {L nf : Nat} (hL : L < 2 ^ nf) (h5 : nf ≤ 5) : waB w (nI L) nf = waB w (nI L) 5 := by
  have := waB_x (w := w) hL h5 (5 - nf) (by omega)
  rw [show nf + (5 - nf) = 5 by omega] at this
  exact this.symm
theorem L_32 {L nf : Nat} (hL : L < 2 ^ nf) (h5 : nf ≤ 5) : L < 32 := Nat.lt_of_lt_of_le hL (show 2 ^ nf ≤ 2 ^ 5 from Nat.pow_le_pow_right (by decide) h5)
theorem rmS_s {g : Nat → Nat} {i k : Nat} : rmS g i (k + 1) = if (rmS g i k).2.2 = true then rmS g i k else ((rmS g i k).1 ||| 2 ^ (rmS g i k).2.1, g (rmS g i k).2.1, Nat.beq (g (rmS g i k).2.1) i) := rfl
theorem rmS_n {g : Nat → Nat} {i k : Nat} (h : (rmS g i k).2.2 = false) : rmS g i (k + 1) = ((rmS g i k).1 ||| 2 ^ (rmS g i k).2.1, g (rmS g i k).2.1, Nat.beq (g (rmS g i k).2.1) i) := by rw [rmS_s, if_neg (by rw [h]; decide)]
theorem rmS_st {g : Nat → Nat} {i k : Nat} (h : (rmS g i k).2.2 = true) : ∀ e, rmS g i (k + e) = rmS g i k
  | 0 => rfl
  | e + 1 => by
    show rmS g i (k + e + 1) = _
    rw [rmS_s, rmS_st h e, if_pos h]
theorem rgM_no {g : Nat → Nat} {i n : Nat} (h : (rmS g i n).2.2 = false) : rgM g n i = 0 := if_neg (by rw [h]; decide)
theorem rgM_at {g : Nat → Nat} {i k n : Nat} (hk : k < n) (h : (rmS g i k).2.2 = false) (h2 : g (rmS g i k).2.1 = i) : rgM g n i = (rmS g i k).1 ||| 2 ^ (rmS g i k).2.1 := by
  have e := rmS_n h
  have d : (rmS g i (k + 1)).2.2 = true := by
    rw [e, h2]
    exact Nat.beq_refl i
  have s := rmS_st d (n - (k + 1))
  rw [show k + 1 + (n - (k + 1)) = n by omega] at s
  unfold rgM
  rw [s, if_pos d, e]
set_option maxHeartbeats 600000 in
theorem k_X2_layPoints {l : Launch} {E : gk_E} (ho : E.2.2.2.2 = true) {S : gk_S}  {nf L : Nat} (h0 : S.1 400 0 = nI nf) (h1 : nf ≤ 5) (hL : L < 2 ^ nf) : gk_T l E yX2_layPoints cX2_layPoints 4 (none) 1 22 0 0 [.ref (E.2.2.1 3), .int (nI L)] S (fun r S' => r = none ∧ ∃ P, S' = gk_si S 413 P ∧ ∀ p, p < nf → L.testBit p = true → P p = nI (gW (wM S) L p)) := by
  refine gk_T.of [some (.ref (E.2.2.1 3)), some (.int (nI L)), none, none] (by decide) (Nat.le_of_ble_eq_true rfl) (le_1 rfl (le_1 rfl (le_p (le_p le_n)))) ?_
  intro p_ e_ R_ s_ m_ args_ below_ meth_ c_ hR X hr hin
  subst hR
  refine g_iconst (v := 0) X dX2_layPoints_0 rfl ?_
  refine g_istore_n X dX2_layPoints_1 (Nat.le_of_ble_eq_true rfl) ?_
  refine g_loop (σ := Nat × (Nat → Int32)) (fun (q : Nat × (Nat → Int32)) => match q with | (i, P) => gk_si S 413 P) (fun (q : Nat × (Nat → Int32)) => match q with | (i, P) => ([some (.ref (E.2.2.1 3)), some (.int (nI L)), some (.int (nI i)), none] : List (Option Value))) (fun (q : Nat × (Nat → Int32)) => match q with | (i, P) => i ≤ nf ∧ ∀ p, p < i → L.testBit p = true → P p = nI (gW (wM S) L p)) (fun (q : Nat × (Nat → Int32)) => match q with | (i, P) => nf - i) ((0, S.1 413)) ?_ (by exact si_id.symm) (le_1 rfl (le_1 rfl (le_1 rfl (le_0 le_n)))) ?_
  · exact ⟨Nat.zero_le _, fun p hp => by omega⟩
  rintro ⟨i, P⟩ hI ih
  try dsimp only at hI ih ⊢
  refine g_iload_n X dX2_layPoints_2 rfl ?_
  refine g_aload_n X dX2_layPoints_3 rfl ?_
  refine g_get (C := RX2) (T := TX2) (N := 35) X 0 in_X2 dX2_layPoints_4 q1405 (rd3 ho) rfl (Nat.le_of_ble_eq_true rfl) (fun _ h9 => h9) rfl ?_
  refine g_iconst (v := 0) X dX2_layPoints_7 rfl ?_
  refine g_iald (j := 0) X dX2_layPoints_8 (rdi ho (400) (rfl)) rfl (by decide) (by decide) ?_
  rw [show (gk_si S 413 P).1 400 0 = nI nf from h0]
  refine g_icmp_ge (tgt := 96) X dX2_layPoints_9 rfl (fun c9 => ?_) (fun c9 => ?_)
  · exact g_vret X hr dX2_layPoints_96 (Nat.le_of_ble_eq_true rfl) (Nat.le_of_ble_eq_true rfl) (⟨rfl, P, rfl, fun p hp hb => hI.2 p (by rw [out_of (by omega) hI.1 c9]; exact hp) hb⟩)
  · have hi : i < nf := in_of (by omega) hI.1 c9
    refine g_aload_n X dX2_layPoints_12 rfl ?_
    refine g_get (C := RX2) (T := TX2) (N := 35) X 32 in_X2 dX2_layPoints_13 q1437 (rd3 ho) rfl (Nat.le_of_ble_eq_true rfl) (fun _ h9 => h9) rfl ?_
    refine g_iload_n X dX2_layPoints_16 rfl ?_
    refine g_iconst (v := (-1)) X dX2_layPoints_17 rfl ?_
    refine g_iast X ho (413) (j := i) dX2_layPoints_18 rfl (rfl) rfl (by omega) (by decide) ?_
    refine g_iconst (v := 0) X dX2_layPoints_19 rfl ?_
    refine g_istore_n X dX2_layPoints_20 (Nat.le_of_ble_eq_true rfl) ?_
    refine g_loop (σ := Nat) (fun (k : Nat) => gk_si S 413 (upd P i (waB (wM S i) (nI L) k))) (fun (k : Nat) => ([some (.ref (E.2.2.1 3)), some (.int (nI L)), some (.int (nI i)), some (.int (nI k))] : List (Option Value))) (fun (k : Nat) => k ≤ nf) (fun (k : Nat) => nf - k) (0) ?_ (by rw [si_si, si_s]; rfl) (le_1 rfl (le_1 rfl (le_1 rfl (le_1 rfl le_n)))) ?_
    · exact Nat.zero_le _
    intro k hI2 ih2
    try dsimp only at hI2 ih2 ⊢
    refine g_iload_n X dX2_layPoints_21 rfl ?_
    refine g_aload_n X dX2_layPoints_22 rfl ?_
    refine g_get (C := RX2) (T := TX2) (N := 35) X 0 in_X2 dX2_layPoints_23 q1405 (rd3 ho) rfl (Nat.le_of_ble_eq_true rfl) (fun _ h9 => h9) rfl ?_
    refine g_iconst (v := 0) X dX2_layPoints_26 rfl ?_
    refine g_iald (j := 0) X dX2_layPoints_27 (rdi ho (400) (rfl)) rfl (by decide) (by decide) ?_
    rw [show (gk_si S 413 (upd P i (waB (wM S i) (nI L) k))).1 400 0 = nI nf from h0]
    refine g_icmp_ge (tgt := 90) X dX2_layPoints_28 rfl (fun c28 => ?_) (fun c28 => ?_)
    · refine g_iinc (v := 1) X dX2_layPoints_90 rfl rfl (Nat.le_of_ble_eq_true rfl) ?_
      refine g_goto (tgt := 2) X dX2_layPoints_93 rfl ?_
      refine g_sub (le_1 rfl (le_1 rfl (le_1 e_1 (le_0 le_n)))) (ih ((i + 1, _)) ?_ ?_)
      · try dsimp only
        exact ⟨by omega, fun p hp hb => by
            by_cases hpi : p = i
            · subst hpi
              show upd P p _ p = _
              rw [upd_s, out_of (by omega) hI2 c28, waB_5x hL h1]
              exact (waB_g (L_32 hL h1) hb).1
            · show upd P i _ p = _
              rw [upd_n hpi]
              exact hI.2 p (by omega) hb⟩
      · try dsimp only
        omega
    · have hk : k < nf := in_of (by omega) hI2 c28
      refine g_iload_n X dX2_layPoints_31 rfl ?_
      refine g_iload_n X dX2_layPoints_32 rfl ?_
      refine g_callS X (k_X2_has ho) (lw_S q1711 q1712 q139 q1713) hd_X2_has dX2_layPoints_33 rfl ⟨Nat.le_of_ble_eq_true rfl, Nat.le_of_ble_eq_true rfl⟩ ⟨Nat.le_of_ble_eq_true rfl, Nat.le_of_ble_eq_true rfl⟩ (Nat.le_of_ble_eq_true rfl) ?_
      rintro _ S1 ⟨rfl, hS1⟩
      obtain rfl := hS1.symm
      refine g_ifp_eq (tgt := 90) X dX2_layPoints_36 rfl (fun c36 => ?_) (fun c36 => ?_)
      · refine g_iinc (v := 1) X dX2_layPoints_90 rfl rfl (Nat.le_of_ble_eq_true rfl) ?_
        refine g_goto (tgt := 2) X dX2_layPoints_93 rfl ?_
        refine g_sub (le_1 rfl (le_1 rfl (le_1 e_1 (le_0 le_n)))) (ih ((i + 1, _)) ?_ ?_)
        · try dsimp only
          exact ⟨by omega, fun p hp hb => by
              by_cases hpi : p = i
              · subst hpi
                exact absurd ((hs_tb L (L_32 hL h1) p (by omega)).mpr hb) c36
              · show upd P i _ p = _
                rw [upd_n hpi]
                exact hI.2 p (by omega) hb⟩
        · try dsimp only
          omega
      · refine g_iload_n X dX2_layPoints_39 rfl ?_
        refine g_iload_n X dX2_layPoints_40 rfl ?_
        refine g_callS X (k_X2_has ho) (lw_S q1711 q1712 q139 q1713) hd_X2_has dX2_layPoints_41 rfl ⟨Nat.le_of_ble_eq_true rfl, Nat.le_of_ble_eq_true rfl⟩ ⟨Nat.le_of_ble_eq_true rfl, Nat.le_of_ble_eq_true rfl⟩ (Nat.le_of_ble_eq_true rfl) ?_
        rintro _ S1 ⟨rfl, hS1⟩
        obtain rfl := hS1.symm
        refine g_ifp_eq (tgt := 84) X dX2_layPoints_44 rfl (fun c44 => ?_) (fun c44 => ?_)
        · refine g_eq (S2 := gk_si S 413 (upd P i (waB (wM S i) (nI L) (k + 1)))) (by rw [← waB_f (w := (wM S i)) (fun z => c44 z.1)]) ?_
          refine g_iinc (v := 1) X dX2_layPoints_84 rfl rfl (Nat.le_of_ble_eq_true rfl) ?_
          refine g_goto (tgt := 21) X dX2_layPoints_87 rfl ?_
          refine g_sub (le_1 rfl (le_1 rfl (le_1 rfl (le_1 e_1 le_n)))) (ih2 (k + 1) ?_ ?_)
          · try dsimp only
            omega
          · try dsimp only
            omega
        · refine g_aload_n X dX2_layPoints_47 rfl ?_
          refine g_get (C := RX2) (T := TX2) (N := 35) X 32 in_X2 dX2_layPoints_48 q1437 (rd3 ho) rfl (Nat.le_of_ble_eq_true rfl) (fun _ h9 => h9) rfl ?_
          refine g_iload_n X dX2_layPoints_51 rfl ?_
          refine g_iald (j := i) X dX2_layPoints_52 (rdi ho (413) (rfl)) rfl (by omega) (by decide) ?_
          refine g_top (y := (waB (wM S i) (nI L) k)) (by rw [si_s, upd_s]) ?_
          refine g_iconst (v := (-1)) X dX2_layPoints_53 rfl ?_
          refine g_icmp_eq (tgt := 77) X dX2_layPoints_54 rfl (fun c54 => ?_) (fun c54 => ?_)
          · refine g_aload_n X dX2_layPoints_77 rfl ?_
            refine g_get (C := RX2) (T := TX2) (N := 35) X 32 in_X2 dX2_layPoints_78 q1437 (rd3 ho) rfl (Nat.le_of_ble_eq_true rfl) (fun _ h9 => h9) rfl ?_
            refine g_iload_n X dX2_layPoints_81 rfl ?_
            refine g_iload_n X dX2_layPoints_82 rfl ?_
            refine g_iast X ho (413) (j := i) dX2_layPoints_83 rfl (rfl) rfl (by omega) (by decide) ?_
            refine g_eq (S2 := gk_si S 413 (upd P i (waB (wM S i) (nI L) (k + 1)))) (by rw [si_si, si_s, upd_upd, ← waB_t (w := (wM S i)) ⟨c44, Or.inl c54⟩]) ?_
            refine g_iinc (v := 1) X dX2_layPoints_84 rfl rfl (Nat.le_of_ble_eq_true rfl) ?_
            refine g_goto (tgt := 21) X dX2_layPoints_87 rfl ?_
            refine g_sub (le_1 rfl (le_1 rfl (le_1 rfl (le_1 e_1 le_n)))) (ih2 (k + 1) ?_ ?_)
            · try dsimp only
              omega
            · try dsimp only
              omega
          · obtain ⟨v, hv1, hv2, -⟩ := (waB_in (w := (wM S i)) (left := nI L) k).resolve_left c54
            refine g_aload_n X dX2_layPoints_57 rfl ?_
            refine g_iload_n X dX2_layPoints_58 rfl ?_
            refine g_iload_n X dX2_layPoints_59 rfl ?_
            refine g_callV (C := RX2) (T := TX2) (N := 35) X (k_X2_wantOf ho (S := gk_si S 413 _) rfl (by omega : i < 5) rfl (by omega : k < 5)) (lw_V q1833 q1835 qs111 q139 q1836) hd_X2_wantOf dX2_layPoints_60 (rd3 ho) rfl rfl ⟨Nat.le_of_ble_eq_true rfl, Nat.le_of_ble_eq_true rfl⟩ ⟨Nat.le_of_ble_eq_true rfl, Nat.le_of_ble_eq_true rfl⟩ (Nat.le_of_ble_eq_true rfl) ?_
            rintro _ S1 ⟨rfl, hS1⟩
            obtain rfl := hS1.symm
            refine g_aload_n X dX2_layPoints_63 rfl ?_
            refine g_iload_n X dX2_layPoints_64 rfl ?_
            refine g_aload_n X dX2_layPoints_65 rfl ?_
            refine g_get (C := RX2) (T := TX2) (N := 35) X 32 in_X2 dX2_layPoints_66 q1437 (rd3 ho) rfl (Nat.le_of_ble_eq_true rfl) (fun _ h9 => h9) rfl ?_
            refine g_iload_n X dX2_layPoints_69 rfl ?_
            refine g_iald (j := i) X dX2_layPoints_70 (rdi ho (413) (rfl)) rfl (by omega) (by decide) ?_
            refine g_top (y := nI v) (by rw [si_s, upd_s]; exact hv2) ?_
            refine g_callV (C := RX2) (T := TX2) (N := 35) X (k_X2_wantOf ho (S := gk_si S 413 _) rfl (by omega : i < 5) rfl (by omega : v < 5)) (lw_V q1833 q1835 qs111 q139 q1836) hd_X2_wantOf dX2_layPoints_71 (rd3 ho) rfl rfl ⟨Nat.le_of_ble_eq_true rfl, Nat.le_of_ble_eq_true rfl⟩ ⟨Nat.le_of_ble_eq_true rfl, Nat.le_of_ble_eq_true rfl⟩ (Nat.le_of_ble_eq_true rfl) ?_
            rintro _ S1 ⟨rfl, hS1⟩
            obtain rfl := hS1.symm
            refine g_icmp_le (tgt := 84) X dX2_layPoints_74 rfl (fun c74 => ?_) (fun c74 => ?_)
            · refine g_eq (S2 := gk_si S 413 (upd P i (waB (wM S i) (nI L) (k + 1)))) (by rw [← waB_f (w := (wM S i)) (fun z => z.2.elim c54 (fun y => absurd (by rw [hv2, ix_n (by omega)] at y; exact y) (Int32.not_lt.mpr c74)))]) ?_
              refine g_iinc (v := 1) X dX2_layPoints_84 rfl rfl (Nat.le_of_ble_eq_true rfl) ?_
              refine g_goto (tgt := 21) X dX2_layPoints_87 rfl ?_
              refine g_sub (le_1 rfl (le_1 rfl (le_1 rfl (le_1 e_1 le_n)))) (ih2 (k + 1) ?_ ?_)
              · try dsimp only
                omega
              · try dsimp only
                omega
            · refine g_aload_n X dX2_layPoints_77 rfl ?_
              refine g_get (C := RX2) (T := TX2) (N := 35) X 32 in_X2 dX2_layPoints_78 q1437 (rd3 ho) rfl (Nat.le_of_ble_eq_true rfl) (fun _ h9 => h9) rfl ?_
              refine g_iload_n X dX2_layPoints_81 rfl ?_
              refine g_iload_n X dX2_layPoints_82 rfl ?_
              refine g_iast X ho (413) (j := i) dX2_layPoints_83 rfl (rfl) rfl (by omega) (by decide) ?_
              refine g_eq (S2 := gk_si S 413 (upd P i (waB (wM S i) (nI L) (k + 1)))) (by rw [si_si, si_s, upd_upd, ← waB_t (w := (wM S i)) ⟨c44, Or.inr (by rw [hv2, ix_n (by omega)]; exact Int32.not_le.mp c74)⟩]) ?_
              refine g_iinc (v := 1) X dX2_layPoints_84 rfl rfl (Nat.le_of_ble_eq_true rfl) ?_
              refine g_goto (tgt := 21) X dX2_layPoints_87 rfl ?_
              refine g_sub (le_1 rfl (le_1 rfl (le_1 rfl (le_1 e_1 le_n)))) (ih2 (k + 1) ?_ ?_)
              · try dsimp only
                omega
              · try dsimp only
                omega
set_option maxHeartbeats 600000 in
theorem k_X2_ringOf {l : Launch} {E : gk_E} (ho : E.2.2.2.2 = true) {S : gk_S}  {nf L i : Nat} {g : Nat → Nat} (h0 : S.1 400 0 = nI nf) (h1 : nf ≤ 5) (hL : L < 32) (hg : gCl L g) (hi : L.testBit i = true) (hP : ∀ p, L.testBit p = true → S.1 413 p = nI (g p)) : gk_T l E yX2_ringOf cX2_ringOf 5 ((some .int)) 0 0 0 0 [.ref (E.2.2.1 3), .int (nI i)] S (fun r S' => r = some (.int (nI (rgM g nf i))) ∧ S' = S) := by
  refine gk_T.of [some (.ref (E.2.2.1 3)), some (.int (nI i)), none, none, none] (by decide) (Nat.le_of_ble_eq_true rfl) (le_1 rfl (le_1 rfl (le_p (le_p (le_p le_n))))) ?_
  intro p_ e_ R_ s_ m_ args_ below_ meth_ c_ hR X hr hin
  subst hR
  refine g_iconst (v := 0) X dX2_ringOf_0 rfl ?_
  refine g_istore_n X dX2_ringOf_1 (Nat.le_of_ble_eq_true rfl) ?_
  refine g_iload_n X dX2_ringOf_2 rfl ?_
  refine g_istore_n X dX2_ringOf_3 (Nat.le_of_ble_eq_true rfl) ?_
  refine g_iconst (v := 0) X dX2_ringOf_4 rfl ?_
  refine g_istore X dX2_ringOf_5 (Nat.le_of_ble_eq_true rfl) ?_
  refine g_loop (σ := Nat) (fun (k : Nat) => S) (fun (k : Nat) => ([some (.ref (E.2.2.1 3)), some (.int (nI i)), some (.int (nI (rmS g i k).1)), some (.int (nI (rmS g i k).2.1)), some (.int (nI k))] : List (Option Value))) (fun (k : Nat) => k ≤ nf ∧ (rmS g i k).2.2 = false ∧ L.testBit (rmS g i k).2.1 = true ∧ (rmS g i k).1 < 32) (fun (k : Nat) => nf - k) (0) ?_ (rfl) (le_1 rfl (le_1 rfl (le_1 rfl (le_1 rfl (le_1 rfl le_n))))) ?_
  · exact ⟨Nat.zero_le _, rfl, hi, by show 0 < 32; decide⟩
  intro k hI ih
  try dsimp only at hI ih ⊢
  refine g_iload X dX2_ringOf_7 rfl ?_
  refine g_aload_n X dX2_ringOf_9 rfl ?_
  refine g_get (C := RX2) (T := TX2) (N := 35) X 0 in_X2 dX2_ringOf_10 q1405 (rd3 ho) rfl (Nat.le_of_ble_eq_true rfl) (fun _ h9 => h9) rfl ?_
  refine g_iconst (v := 0) X dX2_ringOf_13 rfl ?_
  refine g_iald (j := 0) X dX2_ringOf_14 (rdi ho (400) (rfl)) rfl (by decide) (by decide) ?_
  rw [h0]
  refine g_icmp_ge (tgt := 44) X dX2_ringOf_15 rfl (fun c15 => ?_) (fun c15 => ?_)
  · refine g_iconst (v := 0) X dX2_ringOf_44 rfl ?_
    exact g_iret X hr dX2_ringOf_45 (Nat.le_of_ble_eq_true rfl) (Nat.le_of_ble_eq_true rfl) (⟨by rw [rgM_no (by rw [← out_of (by omega) hI.1 c15]; exact hI.2.1)]; rfl, rfl⟩)
  · have hk : k < nf := in_of (by omega) hI.1 c15
    have hp5 := tb_5 hL hI.2.2.1
    refine g_iload_n X dX2_ringOf_18 rfl ?_
    refine g_iconst (v := 1) X dX2_ringOf_19 rfl ?_
    refine g_iload_n X dX2_ringOf_20 rfl ?_
    refine g_ishl X dX2_ringOf_21 ?_
    refine g_ior X dX2_ringOf_22 ?_
    refine g_istore_n X dX2_ringOf_23 (Nat.le_of_ble_eq_true rfl) ?_
    refine g_aload_n X dX2_ringOf_24 rfl ?_
    refine g_get (C := RX2) (T := TX2) (N := 35) X 32 in_X2 dX2_ringOf_25 q1437 (rd3 ho) rfl (Nat.le_of_ble_eq_true rfl) (fun _ h9 => h9) rfl ?_
    refine g_iload_n X dX2_ringOf_28 rfl ?_
    refine g_iald (j := (rmS g i k).2.1) X dX2_ringOf_29 (rdi ho (413) (rfl)) rfl hp5 (by decide) ?_
    refine g_istore_n X dX2_ringOf_30 (Nat.le_of_ble_eq_true rfl) ?_
    refine g_iload_n X dX2_ringOf_31 rfl ?_
    refine g_iload_n X dX2_ringOf_32 rfl ?_
    refine g_icmp_ne (tgt := 38) X dX2_ringOf_33 rfl (fun c33 => ?_) (fun c33 => ?_)
    · refine g_iinc (v := 1) X dX2_ringOf_38 rfl rfl (Nat.le_of_ble_eq_true rfl) ?_
      refine g_goto (tgt := 7) X dX2_ringOf_41 rfl ?_
      refine g_sub (le_1 rfl (le_1 rfl (le_1 (ei (by rw [wh_or _ hI.2.2.2 _ hp5, rmS_n hI.2.1])) (le_1 (ei (by rw [hP _ hI.2.2.1, rmS_n hI.2.1])) (le_1 e_1 le_n))))) (ih (k + 1) ?_ ?_)
      · try dsimp only
        exact ⟨by omega, by rw [rmS_n hI.2.1]; exact (Bool.not_eq_true _).mp (fun z => c33 (by rw [hP _ hI.2.2.1, Nat.eq_of_beq_eq_true z])), by rw [rmS_n hI.2.1]; exact ((hg _).1 hI.2.2.1).2, by rw [rmS_n hI.2.1]; exact Nat.or_lt_two_pow (n := 5) hI.2.2.2 (Nat.pow_lt_pow_right (n := 5) (by decide) hp5)⟩
      · try dsimp only
        omega
    · have hgi : g (rmS g i k).2.1 = i := (nI_eq (Nat.lt_trans (gCl_8 hg _) (by decide)) (Nat.lt_trans (tb_5 hL hi) (by decide))).mp (by rw [← hP _ hI.2.2.1]; exact c33)
      refine g_iload_n X dX2_ringOf_36 rfl ?_
      exact g_iret X hr dX2_ringOf_37 (Nat.le_of_ble_eq_true rfl) (Nat.le_of_ble_eq_true rfl) (⟨by rw [rgM_at hk hI.2.1 hgi, wh_or _ hI.2.2.2 _ hp5], rfl⟩)
