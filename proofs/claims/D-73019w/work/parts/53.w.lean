abbrev wM (S : gk_S) : Nat → Nat → Int32 := fun d k => S.1 400 (37 + 5 * d + k)
/-- the model's farmers would have, at the prices p -/
def wdOk (S : gk_S) (nf : Nat) (p W : Nat → Int32) : Prop := ∀ k, k < nf → W k = whV (wM S k) p
theorem wdOk_0 {S : gk_S} {nf : Nat} {p V : Nat → Int32} : wdOk S nf p (laW (wM S) p nf V) := fun _ h => laW_at h
theorem tA_M {S : gk_S} {nf : Nat} {p V : Nat → Int32} : lsC (fun s => tmP (laW (wM S) p nf V) nf s) 31 = tA (wM S) nf p := tm_c (fun _ h => laW_at h)
set_option maxHeartbeats 600000 in
theorem k_X2_layPrices {l : Launch} {E : gk_E} (ho : E.2.2.2.2 = true) {S : gk_S}  {nf : Nat} (h0 : S.1 400 0 = nI nf) (h1 : nf ≤ 5) (hw : wOk (wM S) nf) : gk_T l E yX2_layPrices cX2_layPrices 3 (none) 3 67 0 0 [.ref (E.2.2.1 3)] S (fun r S' => r = none ∧ ∃ j W, prQ (wM S) nf (p00 (S.1 414)) j ∧ wdOk S nf (pr (wM S) nf (p00 (S.1 414)) j) W ∧ S' = gk_si (gk_si S 414 (pr (wM S) nf (p00 (S.1 414)) j)) 415 W) := by
  refine gk_T.of [some (.ref (E.2.2.1 3)), none, none] (by decide) (Nat.le_of_ble_eq_true rfl) (le_1 rfl (le_p (le_p le_n))) ?_
  intro p_ e_ R_ s_ m_ args_ below_ meth_ c_ hR X hr hin
  subst hR
  refine g_iconst (v := 0) X dX2_layPrices_0 rfl ?_
  refine g_istore_n X dX2_layPrices_1 (Nat.le_of_ble_eq_true rfl) ?_
  refine g_loop (σ := Nat) (fun (i : Nat) => gk_si S 414 (fillF (S.1 414) 0 i)) (fun (i : Nat) => ([some (.ref (E.2.2.1 3)), some (.int (nI i)), none] : List (Option Value))) (fun (i : Nat) => i ≤ 5) (fun (i : Nat) => 5 - i) (0) ?_ (by exact si_id.symm) (le_1 rfl (le_1 rfl (le_0 le_n))) ?_
  · omega
  intro i hI0 ih0
  try dsimp only at hI0 ih0 ⊢
  refine g_iload_n X dX2_layPrices_2 rfl ?_
  refine g_iconst (v := 5) X dX2_layPrices_3 rfl ?_
  refine g_icmp_ge (tgt := 20) X dX2_layPrices_4 rfl (fun c4 => ?_) (fun c4 => ?_)
  · have hi := out_of (by omega) hI0 c4
    subst hi
    refine g_aload_n X dX2_layPrices_20 rfl ?_
    refine g_callV (C := RX2) (T := TX2) (N := 35) X (k_X2_layWould ho (S := gk_si S 414 _) h0 h1) (lw_V q2050 q2052 qs129 q139 q2053) hd_X2_layWould dX2_layPrices_21 (rd3 ho) rfl rfl ⟨Nat.le_of_ble_eq_true rfl, Nat.le_of_ble_eq_true rfl⟩ ⟨Nat.le_of_ble_eq_true rfl, Nat.le_of_ble_eq_true rfl⟩ (Nat.le_of_ble_eq_true rfl) ?_
    rintro _ S1 ⟨rfl, hS1⟩
    obtain rfl := hS1.symm
    refine g_aload_n X dX2_layPrices_24 rfl ?_
    refine g_callV (C := RX2) (T := TX2) (N := 35) X (k_X2_tooMany ho (S := gk_si (gk_si S 414 _) 415 _) h0 h1) (lw_V q2054 q2056 qs130 q139 q2057) hd_X2_tooMany dX2_layPrices_25 (rd3 ho) rfl rfl ⟨Nat.le_of_ble_eq_true rfl, Nat.le_of_ble_eq_true rfl⟩ ⟨Nat.le_of_ble_eq_true rfl, Nat.le_of_ble_eq_true rfl⟩ (Nat.le_of_ble_eq_true rfl) ?_
    rintro _ S1 ⟨rfl, hS1⟩
    obtain rfl := hS1.symm
    refine g_top tA_M ?_
    refine g_istore_n X dX2_layPrices_28 (Nat.le_of_ble_eq_true rfl) ?_
    refine g_loop (σ := Nat × (Nat → Int32)) (fun (q : Nat × (Nat → Int32)) => match q with | (j, W) => gk_si (gk_si S 414 (pr (wM S) nf (p00 (S.1 414)) j)) 415 W) (fun (q : Nat × (Nat → Int32)) => match q with | (j, W) => ([some (.ref (E.2.2.1 3)), some (.int (tA (wM S) nf (pr (wM S) nf (p00 (S.1 414)) j))), none] : List (Option Value))) (fun (q : Nat × (Nat → Int32)) => match q with | (j, W) => prI (wM S) nf (S.1 414) j ∧ wdOk S nf (pr (wM S) nf (p00 (S.1 414)) j) W) (fun (q : Nat × (Nat → Int32)) => match q with | (j, W) => phi (wM S) nf (pr (wM S) nf (p00 (S.1 414)) j)) ((0, _)) ?_ (rfl) (le_1 rfl (le_1 rfl (le_0 le_n))) ?_
    · exact ⟨prI_0, wdOk_0⟩
    rintro ⟨j, W⟩ hI ih
    try dsimp only at hI ih ⊢
    refine g_iload_n X dX2_layPrices_29 rfl ?_
    refine g_iconst (v := (-1)) X dX2_layPrices_30 rfl ?_
    refine g_icmp_eq (tgt := 81) X dX2_layPrices_31 rfl (fun c31 => ?_) (fun c31 => ?_)
    · exact g_vret X hr dX2_layPrices_81 (Nat.le_of_ble_eq_true rfl) (Nat.le_of_ble_eq_true rfl) (⟨rfl, j, W, ⟨c31, hI.1.2⟩, hI.2, rfl⟩)
    · refine g_iconst (v := 0) X dX2_layPrices_34 rfl ?_
      refine g_istore_n X dX2_layPrices_35 (Nat.le_of_ble_eq_true rfl) ?_
      refine g_loop (σ := Nat) (fun (k : Nat) => gk_si (gk_si S 414 (stP (tA (wM S) nf (pr (wM S) nf (p00 (S.1 414)) j)) (pr (wM S) nf (p00 (S.1 414)) j) k)) 415 W) (fun (k : Nat) => ([some (.ref (E.2.2.1 3)), some (.int (tA (wM S) nf (pr (wM S) nf (p00 (S.1 414)) j))), some (.int (nI k))] : List (Option Value))) (fun (k : Nat) => k ≤ 5) (fun (k : Nat) => 5 - k) (0) ?_ (rfl) (le_1 rfl (le_1 rfl (le_1 rfl le_n))) ?_
      · omega
      intro k hI2 ih2
      try dsimp only at hI2 ih2 ⊢
      refine g_iload_n X dX2_layPrices_36 rfl ?_
      refine g_iconst (v := 5) X dX2_layPrices_37 rfl ?_
      refine g_icmp_ge (tgt := 69) X dX2_layPrices_38 rfl (fun c38 => ?_) (fun c38 => ?_)
      · have hk := out_of (by omega) hI2 c38
        subst hk
        refine g_eq (S2 := gk_si (gk_si S 414 (pr (wM S) nf (p00 (S.1 414)) (j + 1))) 415 W) (by rw [pr_s]) ?_
        refine g_aload_n X dX2_layPrices_69 rfl ?_
        refine g_callV (C := RX2) (T := TX2) (N := 35) X (k_X2_layWould ho (S := gk_si (gk_si S 414 _) 415 _) h0 h1) (lw_V q2050 q2052 qs129 q139 q2053) hd_X2_layWould dX2_layPrices_70 (rd3 ho) rfl rfl ⟨Nat.le_of_ble_eq_true rfl, Nat.le_of_ble_eq_true rfl⟩ ⟨Nat.le_of_ble_eq_true rfl, Nat.le_of_ble_eq_true rfl⟩ (Nat.le_of_ble_eq_true rfl) ?_
        rintro _ S1 ⟨rfl, hS1⟩
        obtain rfl := hS1.symm
        rw [si_si]
        refine g_aload_n X dX2_layPrices_73 rfl ?_
        refine g_callV (C := RX2) (T := TX2) (N := 35) X (k_X2_tooMany ho (S := gk_si (gk_si S 414 _) 415 _) h0 h1) (lw_V q2054 q2056 qs130 q139 q2057) hd_X2_tooMany dX2_layPrices_74 (rd3 ho) rfl rfl ⟨Nat.le_of_ble_eq_true rfl, Nat.le_of_ble_eq_true rfl⟩ ⟨Nat.le_of_ble_eq_true rfl, Nat.le_of_ble_eq_true rfl⟩ (Nat.le_of_ble_eq_true rfl) ?_
        rintro _ S1 ⟨rfl, hS1⟩
        obtain rfl := hS1.symm
        refine g_top tA_M ?_
        refine g_istore_n X dX2_layPrices_77 (Nat.le_of_ble_eq_true rfl) ?_
        refine g_goto (tgt := 29) X dX2_layPrices_78 rfl ?_
        refine g_sub (le_1 rfl (le_1 rfl (le_0 le_n))) (ih ((j + 1, _)) ?_ ?_)
        · try dsimp only
          exact ⟨(prI_s hw h1 hI.1 c31).1, wdOk_0⟩
        · try dsimp only
          exact (prI_s hw h1 hI.1 c31).2
      · have hk : k < 5 := in_of (by omega) hI2 c38
        refine g_aload_n X dX2_layPrices_41 rfl ?_
        refine g_get (C := RX2) (T := TX2) (N := 35) X 33 in_X2 dX2_layPrices_42 q1438 (rd3 ho) rfl (Nat.le_of_ble_eq_true rfl) (fun _ h9 => h9) rfl ?_
        refine g_iload_n X dX2_layPrices_45 rfl ?_
        refine g_dup2_11 X dX2_layPrices_46 rfl rfl ?_
        refine g_iald (j := k) X dX2_layPrices_47 (rdi ho (414) (rfl)) rfl hk (by decide) ?_
        refine g_iload_n X dX2_layPrices_48 rfl ?_
        refine g_iload_n X dX2_layPrices_49 rfl ?_
        refine g_callS X (k_X2_has ho) (lw_S q1711 q1712 q139 q1713) hd_X2_has dX2_layPrices_50 rfl ⟨Nat.le_of_ble_eq_true rfl, Nat.le_of_ble_eq_true rfl⟩ ⟨Nat.le_of_ble_eq_true rfl, Nat.le_of_ble_eq_true rfl⟩ (Nat.le_of_ble_eq_true rfl) ?_
        rintro _ S1 ⟨rfl, hS1⟩
        obtain rfl := hS1.symm
        refine g_ifp_eq (tgt := 60) X dX2_layPrices_53 rfl (fun c53 => ?_) (fun c53 => ?_)
        · refine g_iconst (v := 0) X dX2_layPrices_60 rfl ?_
          refine g_iadd X dX2_layPrices_61 ?_
          refine g_iast X ho (414) (j := k) dX2_layPrices_62 rfl (rfl) rfl hk (by decide) ?_
          refine g_eq (S2 := gk_si (gk_si S 414 (stP (tA (wM S) nf (pr (wM S) nf (p00 (S.1 414)) j)) (pr (wM S) nf (p00 (S.1 414)) j) (k + 1))) 415 W) (by rw [si_co (by decide), si_si, stP_s, bP_f c53]; rfl) ?_
          refine g_iinc (v := 1) X dX2_layPrices_63 rfl rfl (Nat.le_of_ble_eq_true rfl) ?_
          refine g_goto (tgt := 36) X dX2_layPrices_66 rfl ?_
          refine g_sub (le_1 rfl (le_1 rfl (le_1 e_1 le_n))) (ih2 (k + 1) ?_ ?_)
          · try dsimp only
            omega
          · try dsimp only
            omega
        · refine g_iconst (v := 1) X dX2_layPrices_56 rfl ?_
          refine g_goto (tgt := 61) X dX2_layPrices_57 rfl ?_
          refine g_iadd X dX2_layPrices_61 ?_
          refine g_iast X ho (414) (j := k) dX2_layPrices_62 rfl (rfl) rfl hk (by decide) ?_
          refine g_eq (S2 := gk_si (gk_si S 414 (stP (tA (wM S) nf (pr (wM S) nf (p00 (S.1 414)) j)) (pr (wM S) nf (p00 (S.1 414)) j) (k + 1))) 415 W) (by rw [si_co (by decide), si_si, stP_s, bP_t c53]; rfl) ?_
          refine g_iinc (v := 1) X dX2_layPrices_63 rfl rfl (Nat.le_of_ble_eq_true rfl) ?_
          refine g_goto (tgt := 36) X dX2_layPrices_66 rfl ?_
          refine g_sub (le_1 rfl (le_1 rfl (le_1 e_1 le_n))) (ih2 (k + 1) ?_ ?_)
          · try dsimp only
            omega
          · try dsimp only
            omega
  · have hi : i < 5 := in_of (by omega) hI0 c4
    refine g_aload_n X dX2_layPrices_7 rfl ?_
    refine g_get (C := RX2) (T := TX2) (N := 35) X 33 in_X2 dX2_layPrices_8 q1438 (rd3 ho) rfl (Nat.le_of_ble_eq_true rfl) (fun _ h9 => h9) rfl ?_
    refine g_iload_n X dX2_layPrices_11 rfl ?_
    refine g_iconst (v := 0) X dX2_layPrices_12 rfl ?_
    refine g_iast X ho (414) (j := i) dX2_layPrices_13 rfl (rfl) rfl hi (by decide) ?_
    refine g_eq (S2 := gk_si S 414 (fillF (S.1 414) 0 (i + 1))) (by rw [si_si, si_s, fillF_s]) ?_
    refine g_iinc (v := 1) X dX2_layPrices_14 rfl rfl (Nat.le_of_ble_eq_true rfl) ?_
    refine g_goto (tgt := 2) X dX2_layPrices_17 rfl ?_
    refine g_sub (le_1 rfl (le_1 e_1 (le_0 le_n))) (ih0 (i + 1) ?_ ?_)
    · try dsimp only
      omega
    · try dsimp only
      omega
set_option maxHeartbeats 600000 in
theorem k_X2_price {l : Launch} {E : gk_E} (ho : E.2.2.2.2 = true) {S : gk_S} {x : Int32} {nf : Nat} (h0 : S.1 400 0 = nI nf) (h1 : nf ≤ 5) (hw : wOk (wM S) nf) : gk_T l E yX2_price cX2_price 2 ((some .int)) 4 89 0 0 [.ref (E.2.2.1 3), .int x] S (fun r S' => if 0 ≤ x ∧ x ≤ 4 then ∃ j W, prQ (wM S) nf (p00 (S.1 414)) j ∧ r = some (.int ((pr (wM S) nf (p00 (S.1 414)) j) (ix x))) ∧ S' = gk_si (gk_si S 414 (pr (wM S) nf (p00 (S.1 414)) j)) 415 W else r = some (.int (-1)) ∧ S' = S) := by
  refine gk_T.of [some (.ref (E.2.2.1 3)), some (.int x)] (by decide) (Nat.le_of_ble_eq_true rfl) (fun _ _ h => h) ?_
  intro p_ e_ R_ s_ m_ args_ below_ meth_ c_ hR X hr hin
  subst hR
  refine g_iload_n X dX2_price_0 rfl ?_
  refine g_callS X (k_X2_isField ho) (lw_S q1523 q1524 q139 q1525) hd_X2_isField dX2_price_1 rfl ⟨Nat.le_of_ble_eq_true rfl, Nat.le_of_ble_eq_true rfl⟩ ⟨Nat.le_of_ble_eq_true rfl, Nat.le_of_ble_eq_true rfl⟩ (Nat.le_of_ble_eq_true rfl) ?_
  rintro _ S1 ⟨rfl, hS1⟩
  obtain rfl := hS1.symm
  refine g_ifp_ne (tgt := 9) X dX2_price_4 rfl (fun c4 => ?_) (fun c4 => ?_)
  · have hx : ix x < 5 := Nat.lt_succ_of_le (ix_le 4 (by decide) c4.1 c4.2)
    refine g_aload_n X dX2_price_9 rfl ?_
    refine g_callV (C := RX2) (T := TX2) (N := 35) X (k_X2_layPrices ho h0 h1 hw) (lw_V q2046 q2048 qs128 q139 q2049) hd_X2_layPrices dX2_price_10 (rd3 ho) rfl rfl ⟨Nat.le_of_ble_eq_true rfl, Nat.le_of_ble_eq_true rfl⟩ ⟨Nat.le_of_ble_eq_true rfl, Nat.le_of_ble_eq_true rfl⟩ (Nat.le_of_ble_eq_true rfl) ?_
    rintro _ S1 ⟨rfl, j1, W1, hj1, hW1, hS1⟩
    obtain rfl := hS1.symm
    refine g_aload_n X dX2_price_13 rfl ?_
    refine g_get (C := RX2) (T := TX2) (N := 35) X 33 in_X2 dX2_price_14 q1438 (rd3 ho) rfl (Nat.le_of_ble_eq_true rfl) (fun _ h9 => h9) rfl ?_
    refine g_iload_n X dX2_price_17 rfl ?_
    refine g_iald (j := ix x) X dX2_price_18 (rdi ho (414) (rfl)) (ix_i c4.1) hx (by decide) ?_
    exact g_iret X hr dX2_price_19 (Nat.le_of_ble_eq_true rfl) (Nat.le_of_ble_eq_true rfl) ((by rw [if_pos c4]; exact ⟨j1, W1, hj1, rfl, rfl⟩))
  · refine g_iconst (v := (-1)) X dX2_price_7 rfl ?_
    exact g_iret X hr dX2_price_8 (Nat.le_of_ble_eq_true rfl) (Nat.le_of_ble_eq_true rfl) ((by rw [if_neg c4]; exact ⟨rfl, rfl⟩))
