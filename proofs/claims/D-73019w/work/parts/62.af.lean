set_option maxHeartbeats 600000 in
theorem k_X0_rings {l : Launch} {E : gk_E} (ho : E.2.2.2.2 = true) {S : gk_S}  {nf : Nat} (h0 : S.1 10 0 = nI nf) (h1 : nf ≤ 5) : gk_T l E yX0_rings cX0_rings 1 ((some .int)) 4 95 0 0 [.ref (E.2.2.1 0)] S (fun r S' => ∃ j, tdQ (fun d => S.1 (20 + d)) nf (S.1 306) j ∧ r = some (.int (nI (tdS (fun d => S.1 (20 + d)) nf (S.1 306) j).2.1)) ∧ S' = gk_si S 306 (tdS (fun d => S.1 (20 + d)) nf (S.1 306) j).2.2) := by
  refine gk_T.of [some (.ref (E.2.2.1 0))] (by decide) (Nat.le_of_ble_eq_true rfl) (fun _ _ h => h) ?_
  intro p_ e_ R_ s_ m_ args_ below_ meth_ c_ hR X hr hin
  subst hR
  refine g_aload_n X dX0_rings_0 rfl ?_
  refine g_callV (C := RX0) (T := TX0) (N := 13) X (k_X0_trades ho h0 h1) (lw_V q1301 q1303 qs51 q135 q1304) hd_X0_trades dX0_rings_1 (rd0 ho) rfl rfl ⟨Nat.le_of_ble_eq_true rfl, Nat.le_of_ble_eq_true rfl⟩ ⟨Nat.le_of_ble_eq_true rfl, Nat.le_of_ble_eq_true rfl⟩ (Nat.le_of_ble_eq_true rfl) ?_
  rintro _ S1 ⟨j1, hj1, rfl, hS1⟩
  obtain rfl := hS1.symm
  exact g_iret X hr dX0_rings_4 (Nat.le_of_ble_eq_true rfl) (Nat.le_of_ble_eq_true rfl) (⟨j1, hj1, rfl, rfl⟩)
set_option maxHeartbeats 600000 in
theorem k_X0_trade {l : Launch} {E : gk_E} (ho : E.2.2.2.2 = true) {S : gk_S} {x : Int32} {nf : Nat} (h0 : S.1 10 0 = nI nf) (h1 : nf ≤ 5) : gk_T l E yX0_trade cX0_trade 3 ((some .int)) 4 95 0 0 [.ref (E.2.2.1 0), .int x] S (fun r S' => if 0 ≤ x ∧ x ≤ nI nf - 1 then ∃ j, tdQ (fun d => S.1 (20 + d)) nf (S.1 306) j ∧ r = some (.int ((tdS (fun d => S.1 (20 + d)) nf (S.1 306) j).2.2 (ix x))) ∧ S' = gk_si S 306 (tdS (fun d => S.1 (20 + d)) nf (S.1 306) j).2.2 else r = some (.int (-1)) ∧ S' = S) := by
  refine gk_T.of [some (.ref (E.2.2.1 0)), some (.int x), none] (by decide) (Nat.le_of_ble_eq_true rfl) (le_1 rfl (le_1 rfl (le_p le_n))) ?_
  intro p_ e_ R_ s_ m_ args_ below_ meth_ c_ hR X hr hin
  subst hR
  refine g_aload_n X dX0_trade_0 rfl ?_
  refine g_iload_n X dX0_trade_1 rfl ?_
  refine g_callV (C := RX0) (T := TX0) (N := 13) X (k_X0_isFarmer ho) (lw_V q1161 q1163 qs42 q135 q1164) hd_X0_isFarmer dX0_trade_2 (rd0 ho) rfl rfl ⟨Nat.le_of_ble_eq_true rfl, Nat.le_of_ble_eq_true rfl⟩ ⟨Nat.le_of_ble_eq_true rfl, Nat.le_of_ble_eq_true rfl⟩ (Nat.le_of_ble_eq_true rfl) ?_
  rintro _ S1 ⟨rfl, hS1⟩
  obtain rfl := hS1.symm
  refine g_ifp_ne (tgt := 10) X dX0_trade_5 rfl (fun c5 => ?_) (fun c5 => ?_)
  · rw [h0] at c5
    have hx : ix x < nf := cl_lt (by omega) c5
    refine g_aload_n X dX0_trade_10 rfl ?_
    refine g_callV (C := RX0) (T := TX0) (N := 13) X (k_X0_trades ho h0 h1) (lw_V q1301 q1303 qs51 q135 q1304) hd_X0_trades dX0_trade_11 (rd0 ho) rfl rfl ⟨Nat.le_of_ble_eq_true rfl, Nat.le_of_ble_eq_true rfl⟩ ⟨Nat.le_of_ble_eq_true rfl, Nat.le_of_ble_eq_true rfl⟩ (Nat.le_of_ble_eq_true rfl) ?_
    rintro _ S1 ⟨j1, hj1, rfl, hS1⟩
    obtain rfl := hS1.symm
    refine g_istore_n X dX0_trade_14 (Nat.le_of_ble_eq_true rfl) ?_
    refine g_aload_n X dX0_trade_15 rfl ?_
    refine g_get (C := RX0) (T := TX0) (N := 13) X 11 in_X0 dX0_trade_16 q252 (rd0 ho) rfl (Nat.le_of_ble_eq_true rfl) (fun _ h9 => h9) rfl ?_
    refine g_iload_n X dX0_trade_19 rfl ?_
    refine g_iald (j := ix x) X dX0_trade_20 (rdi ho (306) (rfl)) (ix_i c5.1) (by omega) (by decide) ?_
    exact g_iret X hr dX0_trade_21 (Nat.le_of_ble_eq_true rfl) (Nat.le_of_ble_eq_true rfl) ((by rw [if_pos c5]; exact ⟨j1, hj1, by rw [si_s], rfl⟩))
  · refine g_iconst (v := (-1)) X dX0_trade_8 rfl ?_
    exact g_iret X hr dX0_trade_9 (Nat.le_of_ble_eq_true rfl) (Nat.le_of_ble_eq_true rfl) ((by rw [h0] at c5; rw [if_neg c5]; exact ⟨rfl, rfl⟩))
set_option maxHeartbeats 600000 in
theorem k_X2_layTraded {l : Launch} {E : gk_E} (ho : E.2.2.2.2 = true) {S : gk_S}  {nf : Nat} (h0 : S.1 400 0 = nI nf) (h1 : nf ≤ 5) : gk_T l E yX2_layTraded cX2_layTraded 5 ((some .int)) 2 45 0 0 [.ref (E.2.2.1 3)] S (fun r S' => ∃ j P, tdQ (wM S) nf (S.1 412) j ∧ r = some (.int (nI (tdS (wM S) nf (S.1 412) j).2.1)) ∧ S' = gk_si (gk_si S 413 P) 412 (tdS (wM S) nf (S.1 412) j).2.2) := by
  refine gk_T.of [some (.ref (E.2.2.1 3)), none, none, none, none] (by decide) (Nat.le_of_ble_eq_true rfl) (le_1 rfl (le_p (le_p (le_p (le_p le_n))))) ?_
  intro p_ e_ R_ s_ m_ args_ below_ meth_ c_ hR X hr hin
  subst hR
  refine g_iconst (v := 1) X dX2_layTraded_0 rfl ?_
  refine g_aload_n X dX2_layTraded_1 rfl ?_
  refine g_get (C := RX2) (T := TX2) (N := 35) X 0 in_X2 dX2_layTraded_2 q1405 (rd3 ho) rfl (Nat.le_of_ble_eq_true rfl) (fun _ h9 => h9) rfl ?_
  refine g_iconst (v := 0) X dX2_layTraded_5 rfl ?_
  refine g_iald (j := 0) X dX2_layTraded_6 (rdi ho (400) (rfl)) rfl (by decide) (by decide) ?_
  refine g_ishl X dX2_layTraded_7 ?_
  refine g_iconst (v := 1) X dX2_layTraded_8 rfl ?_
  refine g_isub X dX2_layTraded_9 ?_
  refine g_istore_n X dX2_layTraded_10 (Nat.le_of_ble_eq_true rfl) ?_
  refine g_iconst (v := 0) X dX2_layTraded_11 rfl ?_
  refine g_istore_n X dX2_layTraded_12 (Nat.le_of_ble_eq_true rfl) ?_
  refine g_loop (σ := Nat × Nat × Nat × (Nat → Int32) × (Nat → Int32)) (fun (q : Nat × Nat × Nat × (Nat → Int32) × (Nat → Int32)) => match q with | (j, L, t, W, P) => gk_si (gk_si S 413 P) 412 W) (fun (q : Nat × Nat × Nat × (Nat → Int32) × (Nat → Int32)) => match q with | (j, L, t, W, P) => ([some (.ref (E.2.2.1 3)), some (.int (nI L)), some (.int (nI t)), none, none] : List (Option Value))) (fun (q : Nat × Nat × Nat × (Nat → Int32) × (Nat → Int32)) => match q with | (j, L, t, W, P) => tdI (wM S) nf (S.1 412) j L t W) (fun (q : Nat × Nat × Nat × (Nat → Int32) × (Nat → Int32)) => match q with | (j, L, t, W, P) => L) ((0, 2 ^ nf - 1, 0, S.1 412, S.1 413)) ?_ (by show S = gk_si (gk_si S 413 (S.1 413)) 412 (S.1 412); rw [si_id, si_id]) (le_1 rfl (le_1 (ei (by rw [h0]; exact (alC_n (by omega)).1)) (le_1 rfl (le_0 (le_0 le_n))))) ?_
  · exact tdI_0
  rintro ⟨j, L, t, W, P⟩ hI ih
  try dsimp only at hI ih ⊢
  refine g_iload_n X dX2_layTraded_13 rfl ?_
  refine g_if_eq (tgt := 138) X dX2_layTraded_14 rfl (fun c14 => ?_) (fun c14 => ?_)
  · refine g_iload_n X dX2_layTraded_138 rfl ?_
    exact g_iret X hr dX2_layTraded_139 (Nat.le_of_ble_eq_true rfl) (Nat.le_of_ble_eq_true rfl) (⟨j, P, tdI_q hI ((nI_eq (b := 0) (Nat.lt_trans (L_32 hI.2.1 h1) (by decide)) (by decide)).mp c14), by rw [hI.1], by rw [hI.1]⟩)
  · have hLz : ¬ L = 0 := fun z => c14 (by rw [z]; rfl)
    have hL5 := L_32 hI.2.1 h1
    have hg := gW_cl (w := (wM S)) hL5
    obtain ⟨hcm, q1, q2⟩ := tr_all h1 hI.2.1 hg
    have hs5 := trC_lt hg h1
    have hLn : ∀ p, L.testBit p = true → p < nf := fun p hp => by
      rcases Nat.lt_or_ge p nf with q | q
      · exact q
      · rw [Nat.testBit_lt_two_pow (Nat.lt_of_lt_of_le hI.2.1 (Nat.pow_le_pow_right (by decide) q))] at hp
        cases hp
    refine g_aload_n X dX2_layTraded_17 rfl ?_
    refine g_iload_n X dX2_layTraded_18 rfl ?_
    refine g_callV (C := RX2) (T := TX2) (N := 35) X (k_X2_layPoints ho (S := gk_si (gk_si S 413 _) 412 _) h0 h1 hI.2.1) (lw_V q2030 q2032 qs126 q139 q2033) hd_X2_layPoints dX2_layTraded_19 (rd3 ho) rfl rfl ⟨Nat.le_of_ble_eq_true rfl, Nat.le_of_ble_eq_true rfl⟩ ⟨Nat.le_of_ble_eq_true rfl, Nat.le_of_ble_eq_true rfl⟩ (Nat.le_of_ble_eq_true rfl) ?_
    rintro _ S1 ⟨rfl, P1, hS1, hP1⟩
    obtain rfl := hS1.symm
    refine g_eq (S2 := gk_si (gk_si S 413 P1) 412 W) (by rw [si_co (i := 412) (by decide), si_si]) ?_
    refine g_iconst (v := 0) X dX2_layTraded_22 rfl ?_
    refine g_istore_n X dX2_layTraded_23 (Nat.le_of_ble_eq_true rfl) ?_
    refine g_iconst (v := 0) X dX2_layTraded_24 rfl ?_
    refine g_istore X dX2_layTraded_25 (Nat.le_of_ble_eq_true rfl) ?_
    refine g_loop (σ := Nat) (fun (i : Nat) => gk_si (gk_si S 413 P1) 412 W) (fun (i : Nat) => ([some (.ref (E.2.2.1 3)), some (.int (nI L)), some (.int (nI (t + (trM (gW (wM S) L) L nf i).2))), some (.int (nI (trM (gW (wM S) L) L nf i).1)), some (.int (nI i))] : List (Option Value))) (fun (i : Nat) => i ≤ nf) (fun (i : Nat) => nf - i) (0) ?_ (rfl) (le_1 rfl (le_1 rfl (le_1 rfl (le_1 rfl (le_1 rfl le_n))))) ?_
    · exact Nat.zero_le _
    intro i hI2 ih2
    try dsimp only at hI2 ih2 ⊢
    refine g_iload X dX2_layTraded_27 rfl ?_
    refine g_aload_n X dX2_layTraded_29 rfl ?_
    refine g_get (C := RX2) (T := TX2) (N := 35) X 0 in_X2 dX2_layTraded_30 q1405 (rd3 ho) rfl (Nat.le_of_ble_eq_true rfl) (fun _ h9 => h9) rfl ?_
    refine g_iconst (v := 0) X dX2_layTraded_33 rfl ?_
    refine g_iald (j := 0) X dX2_layTraded_34 (rdi ho (400) (rfl)) rfl (by decide) (by decide) ?_
    rw [show (gk_si (gk_si S 413 P1) 412 W).1 400 0 = nI nf from h0]
    refine g_icmp_ge (tgt := 86) X dX2_layTraded_35 rfl (fun c35 => ?_) (fun c35 => ?_)
    · have hi := (out_of (by omega) hI2 c35).symm
      subst hi
      refine g_iconst (v := 0) X dX2_layTraded_86 rfl ?_
      refine g_istore X dX2_layTraded_87 (Nat.le_of_ble_eq_true rfl) ?_
      refine g_loop (σ := Nat) (fun (k : Nat) => gk_si (gk_si S 413 P1) 412 (gtW (gW (wM S) L) (trC (gW (wM S) L) L nf).1 W k)) (fun (k : Nat) => ([some (.ref (E.2.2.1 3)), some (.int (nI L)), some (.int (nI (t + (trC (gW (wM S) L) L nf).2))), some (.int (nI (trC (gW (wM S) L) L nf).1)), some (.int (nI k))] : List (Option Value))) (fun (k : Nat) => k ≤ nf) (fun (k : Nat) => nf - k) (0) ?_ (by rw [gtW_0]) (le_1 rfl (le_1 rfl (le_1 (ei (by rw [hcm])) (le_1 (ei (by rw [hcm])) (le_1 rfl le_n))))) ?_
      · exact Nat.zero_le _
      intro k hI3 ih3
      try dsimp only at hI3 ih3 ⊢
      refine g_iload X dX2_layTraded_89 rfl ?_
      refine g_aload_n X dX2_layTraded_91 rfl ?_
      refine g_get (C := RX2) (T := TX2) (N := 35) X 0 in_X2 dX2_layTraded_92 q1405 (rd3 ho) rfl (Nat.le_of_ble_eq_true rfl) (fun _ h9 => h9) rfl ?_
      refine g_iconst (v := 0) X dX2_layTraded_95 rfl ?_
      refine g_iald (j := 0) X dX2_layTraded_96 (rdi ho (400) (rfl)) rfl (by decide) (by decide) ?_
      rw [show (gk_si (gk_si S 413 P1) 412 _).1 400 0 = _ from h0]
      refine g_icmp_ge (tgt := 129) X dX2_layTraded_97 rfl (fun c97 => ?_) (fun c97 => ?_)
      · have hk := (out_of (by omega) hI3 c97).symm
        subst hk
        refine g_iload_n X dX2_layTraded_129 rfl ?_
        refine g_iload_n X dX2_layTraded_130 rfl ?_
        refine g_iconst (v := (-1)) X dX2_layTraded_131 rfl ?_
        refine g_ixor X dX2_layTraded_132 ?_
        refine g_iand X dX2_layTraded_133 ?_
        refine g_istore_n X dX2_layTraded_134 (Nat.le_of_ble_eq_true rfl) ?_
        refine g_goto (tgt := 13) X dX2_layTraded_135 rfl ?_
        refine g_sub (le_1 rfl (le_1 (ei (an_x hL5 hs5)) (le_1 rfl (le_0 (le_0 le_n))))) (ih ((j + 1, _, _, _, _)) ?_ ?_)
        · try dsimp only
          exact (tdI_s h1 hI hLz).1
        · try dsimp only
          exact (tdI_s h1 hI hLz).2
      · have hk : k < _ := in_of (by omega) hI3 c97
        have hsk := hs_tb _ hs5 k (by omega)
        refine g_iload_n X dX2_layTraded_100 rfl ?_
        refine g_iload X dX2_layTraded_101 rfl ?_
        refine g_callS X (k_X2_has ho) (lw_S q1711 q1712 q139 q1713) hd_X2_has dX2_layTraded_103 rfl ⟨Nat.le_of_ble_eq_true rfl, Nat.le_of_ble_eq_true rfl⟩ ⟨Nat.le_of_ble_eq_true rfl, Nat.le_of_ble_eq_true rfl⟩ (Nat.le_of_ble_eq_true rfl) ?_
        rintro _ S1 ⟨rfl, hS1⟩
        obtain rfl := hS1.symm
        refine g_ifp_eq (tgt := 123) X dX2_layTraded_106 rfl (fun c106 => ?_) (fun c106 => ?_)
        · refine g_eq (S2 := gk_si (gk_si S 413 P1) 412 (gtW (gW (wM S) L) (trC (gW (wM S) L) L nf).1 W (k + 1))) (by rw [← gtW_f (fun z => c106 (hsk.mpr z))]) ?_
          refine g_iinc (v := 1) X dX2_layTraded_123 rfl rfl (Nat.le_of_ble_eq_true rfl) ?_
          refine g_goto (tgt := 89) X dX2_layTraded_126 rfl ?_
          refine g_sub (le_1 rfl (le_1 rfl (le_1 rfl (le_1 rfl (le_1 e_1 le_n))))) (ih3 (k + 1) ?_ ?_)
          · try dsimp only
            omega
          · try dsimp only
            omega
        · have hbk := hsk.mp c106
          have hLk : L.testBit k = true := by rw [← q1] at hbk; rw [Nat.testBit_and] at hbk; exact (Bool.and_eq_true_iff.mp hbk).2
          refine g_aload_n X dX2_layTraded_109 rfl ?_
          refine g_get (C := RX2) (T := TX2) (N := 35) X 31 in_X2 dX2_layTraded_110 q1436 (rd3 ho) rfl (Nat.le_of_ble_eq_true rfl) (fun _ h9 => h9) rfl ?_
          refine g_iload X dX2_layTraded_113 rfl ?_
          refine g_aload_n X dX2_layTraded_115 rfl ?_
          refine g_get (C := RX2) (T := TX2) (N := 35) X 32 in_X2 dX2_layTraded_116 q1437 (rd3 ho) rfl (Nat.le_of_ble_eq_true rfl) (fun _ h9 => h9) rfl ?_
          refine g_iload X dX2_layTraded_119 rfl ?_
          refine g_iald (j := k) X dX2_layTraded_121 (rdi ho (413) (rfl)) rfl (by omega) (by decide) ?_
          refine g_top (y := nI ((gW (wM S) L) k)) (hP1 k (by omega) hLk) ?_
          refine g_iast X ho (412) (j := k) dX2_layTraded_122 rfl (rfl) rfl (by omega) (by decide) ?_
          refine g_eq (S2 := gk_si (gk_si S 413 P1) 412 (gtW (gW (wM S) L) (trC (gW (wM S) L) L nf).1 W (k + 1))) (by rw [si_si, si_s, gtW_t hbk]) ?_
          refine g_iinc (v := 1) X dX2_layTraded_123 rfl rfl (Nat.le_of_ble_eq_true rfl) ?_
          refine g_goto (tgt := 89) X dX2_layTraded_126 rfl ?_
          refine g_sub (le_1 rfl (le_1 rfl (le_1 rfl (le_1 rfl (le_1 e_1 le_n))))) (ih3 (k + 1) ?_ ?_)
          · try dsimp only
            omega
          · try dsimp only
            omega
    · have hi : i < nf := in_of (by omega) hI2 c35
      have hst := hs_tb L hL5 i (by omega)
      have hsi := trM_lt hg (nf := nf) (i := i) (by omega)
      have hss := hs_tb _ hsi i (by omega)
      refine g_iload_n X dX2_layTraded_38 rfl ?_
      refine g_iload X dX2_layTraded_39 rfl ?_
      refine g_callS X (k_X2_has ho) (lw_S q1711 q1712 q139 q1713) hd_X2_has dX2_layTraded_41 rfl ⟨Nat.le_of_ble_eq_true rfl, Nat.le_of_ble_eq_true rfl⟩ ⟨Nat.le_of_ble_eq_true rfl, Nat.le_of_ble_eq_true rfl⟩ (Nat.le_of_ble_eq_true rfl) ?_
      rintro _ S1 ⟨rfl, hS1⟩
      obtain rfl := hS1.symm
      refine g_ifp_eq (tgt := 80) X dX2_layTraded_44 rfl (fun c44 => ?_) (fun c44 => ?_)
      · refine g_iinc (v := 1) X dX2_layTraded_80 rfl rfl (Nat.le_of_ble_eq_true rfl) ?_
        refine g_goto (tgt := 27) X dX2_layTraded_83 rfl ?_
        refine g_sub (le_1 rfl (le_1 rfl (le_1 (ei (by rw [trM_s, if_neg (fun z => c44 (hst.mpr z.1))])) (le_1 (ei (by rw [trM_s, if_neg (fun z => c44 (hst.mpr z.1))])) (le_1 e_1 le_n))))) (ih2 (i + 1) ?_ ?_)
        · try dsimp only
          omega
        · try dsimp only
          omega
      · refine g_iload_n X dX2_layTraded_47 rfl ?_
        refine g_iload X dX2_layTraded_48 rfl ?_
        refine g_callS X (k_X2_has ho) (lw_S q1711 q1712 q139 q1713) hd_X2_has dX2_layTraded_50 rfl ⟨Nat.le_of_ble_eq_true rfl, Nat.le_of_ble_eq_true rfl⟩ ⟨Nat.le_of_ble_eq_true rfl, Nat.le_of_ble_eq_true rfl⟩ (Nat.le_of_ble_eq_true rfl) ?_
        rintro _ S1 ⟨rfl, hS1⟩
        obtain rfl := hS1.symm
        refine g_ifp_ne (tgt := 80) X dX2_layTraded_53 rfl (fun c53 => ?_) (fun c53 => ?_)
        · refine g_iinc (v := 1) X dX2_layTraded_80 rfl rfl (Nat.le_of_ble_eq_true rfl) ?_
          refine g_goto (tgt := 27) X dX2_layTraded_83 rfl ?_
          refine g_sub (le_1 rfl (le_1 rfl (le_1 (ei (by rw [trM_s, if_neg (fun z => absurd (hss.mp c53) (by rw [z.2]; decide))])) (le_1 (ei (by rw [trM_s, if_neg (fun z => absurd (hss.mp c53) (by rw [z.2]; decide))])) (le_1 e_1 le_n))))) (ih2 (i + 1) ?_ ?_)
          · try dsimp only
            omega
          · try dsimp only
            omega
        · have hc : L.testBit i = true ∧ (trM (gW (wM S) L) L nf i).1.testBit i = false := ⟨hst.mp c44, (Bool.not_eq_true _).mp (fun z => c53 (hss.mpr z))⟩
          refine g_aload_n X dX2_layTraded_56 rfl ?_
          refine g_iload X dX2_layTraded_57 rfl ?_
          refine g_callV (C := RX2) (T := TX2) (N := 35) X (k_X2_ringOf ho (S := gk_si (gk_si S 413 _) 412 _) (nf := nf) h0 h1 hL5 hg (hst.mp c44) (fun p hp => hP1 p (hLn p hp) hp)) (lw_V q2034 q2036 qs127 q139 q2037) hd_X2_ringOf dX2_layTraded_59 (rd3 ho) rfl rfl ⟨Nat.le_of_ble_eq_true rfl, Nat.le_of_ble_eq_true rfl⟩ ⟨Nat.le_of_ble_eq_true rfl, Nat.le_of_ble_eq_true rfl⟩ (Nat.le_of_ble_eq_true rfl) ?_
          rintro _ S1 ⟨rfl, hS1⟩
          obtain rfl := hS1.symm
          refine g_if_ne (tgt := 68) X dX2_layTraded_62 rfl (fun c62 => ?_) (fun c62 => ?_)
          · have hz : ¬ rgM (gW (wM S) L) nf i = 0 := fun z => c62 (by rw [z]; rfl)
            refine g_iload_n X dX2_layTraded_68 rfl ?_
            refine g_aload_n X dX2_layTraded_69 rfl ?_
            refine g_iload X dX2_layTraded_70 rfl ?_
            refine g_callV (C := RX2) (T := TX2) (N := 35) X (k_X2_ringOf ho (S := gk_si (gk_si S 413 _) 412 _) (nf := nf) h0 h1 hL5 hg (hst.mp c44) (fun p hp => hP1 p (hLn p hp) hp)) (lw_V q2034 q2036 qs127 q139 q2037) hd_X2_ringOf dX2_layTraded_72 (rd3 ho) rfl rfl ⟨Nat.le_of_ble_eq_true rfl, Nat.le_of_ble_eq_true rfl⟩ ⟨Nat.le_of_ble_eq_true rfl, Nat.le_of_ble_eq_true rfl⟩ (Nat.le_of_ble_eq_true rfl) ?_
            rintro _ S1 ⟨rfl, hS1⟩
            obtain rfl := hS1.symm
            refine g_ior X dX2_layTraded_75 ?_
            refine g_istore_n X dX2_layTraded_76 (Nat.le_of_ble_eq_true rfl) ?_
            refine g_iinc (v := 1) X dX2_layTraded_77 rfl rfl (Nat.le_of_ble_eq_true rfl) ?_
            refine g_iinc (v := 1) X dX2_layTraded_80 rfl rfl (Nat.le_of_ble_eq_true rfl) ?_
            refine g_goto (tgt := 27) X dX2_layTraded_83 rfl ?_
            refine g_sub (le_1 rfl (le_1 rfl (le_1 (ei (by rw [trM_s, if_pos hc, if_neg hz]; exact nI_1 _)) (le_1 (ei (by rw [trM_s, if_pos hc, if_neg hz, nx_or])) (le_1 e_1 le_n))))) (ih2 (i + 1) ?_ ?_)
            · try dsimp only
              omega
            · try dsimp only
              omega
          · have hz : rgM (gW (wM S) L) nf i = 0 := (nI_eq (b := 0) (Nat.lt_trans (rgM_lt hg (by omega)) (by decide)) (by decide)).mp c62
            refine g_goto (tgt := 80) X dX2_layTraded_65 rfl ?_
            refine g_iinc (v := 1) X dX2_layTraded_80 rfl rfl (Nat.le_of_ble_eq_true rfl) ?_
            refine g_goto (tgt := 27) X dX2_layTraded_83 rfl ?_
            refine g_sub (le_1 rfl (le_1 rfl (le_1 (ei (by rw [trM_s, if_pos hc, if_pos hz])) (le_1 (ei (by rw [trM_s, if_pos hc, if_pos hz])) (le_1 e_1 le_n))))) (ih2 (i + 1) ?_ ?_)
            · try dsimp only
              omega
            · try dsimp only
              omega
